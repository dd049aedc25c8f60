section
/-! ints as sets of bits: naturals below 1024 -/
theorem pa_and (a b : Nat) : nI a &&& nI b = nI (a &&& b) := by
  apply Int32.toBitVec_inj.1
  show BitVec.ofNat 32 a &&& BitVec.ofNat 32 b = BitVec.ofNat 32 (a &&& b)
  apply BitVec.eq_of_getLsbD_eq
  intro i hi
  simp [hi]
theorem pa_xor (a b : Nat) : nI a ^^^ nI b = nI (a ^^^ b) := by
  apply Int32.toBitVec_inj.1
  show BitVec.ofNat 32 a ^^^ BitVec.ofNat 32 b = BitVec.ofNat 32 (a ^^^ b)
  apply BitVec.eq_of_getLsbD_eq
  intro i hi
  simp [hi]
theorem pa_or (a b : Nat) : nI a ||| nI b = nI (a ||| b) := by
  apply Int32.toBitVec_inj.1
  show BitVec.ofNat 32 a ||| BitVec.ofNat 32 b = BitVec.ofNat 32 (a ||| b)
  apply BitVec.eq_of_getLsbD_eq
  intro i hi
  simp [hi]
theorem pa_sl : ∀ n, n < 32 → ((nI n &&& 31).toBitVec.smod 32).toNat = n := by decide +kernel
theorem pa_shl : ∀ l, l < 16 → (1 : Int32) <<< (nI l &&& 31) = nI (2 ^ l) := by decide +kernel
theorem pa_full : ∀ l, l < 16 → ((1 : Int32) <<< (nI l &&& 31)) - 1 = nI (2 ^ l - 1) := by decide +kernel
theorem pa_odd (z : Nat) : z % 2 = (decide (z % 2 = 1)).toNat := by
  rcases Nat.mod_two_eq_zero_or_one z with h | h <;> simp [h]
theorem pa_bitv {s l : Nat} (hs : s < 2 ^ 31) (hl : l < 31) : (nI s >>> (nI l &&& 31)) &&& 1 = nI (s.testBit l).toNat := by
  rw [pk_shrN hs (nI l &&& 31) l (pa_sl l (by omega))]
  show nI (s / 2 ^ l) &&& nI 1 = _
  rw [pa_and, Nat.and_one_is_mod, Nat.testBit_eq_decide_div_mod_eq, ← pa_odd]
theorem pa_bit1 {s l : Nat} (hs : s < 2 ^ 31) (hl : l < 31) : (nI s >>> (nI l &&& 31)) &&& 1 = 1 ↔ s.testBit l = true := by
  rw [pa_bitv hs hl]
  generalize s.testBit l = b
  cases b <;> decide
theorem pa_bit0 {s l : Nat} (hs : s < 2 ^ 31) (hl : l < 31) : (nI s >>> (nI l &&& 31)) &&& 1 = 0 ↔ s.testBit l = false := by
  rw [pa_bitv hs hl]
  generalize s.testBit l = b
  cases b <;> decide
theorem pa_hi {a c i : Nat} (h : a < 2 ^ c) (hi : c ≤ i) : a.testBit i = false :=
  Nat.testBit_lt_two_pow (Nat.lt_of_lt_of_le h (Nat.pow_le_pow_right (by decide) hi))
theorem pa_p10 {c : Nat} (hc : c ≤ 10) : 2 ^ c ≤ 1024 := show 2 ^ c ≤ 2 ^ 10 from Nat.pow_le_pow_right (by decide) hc
theorem pa_lt10 {a c : Nat} (h : a < 2 ^ c) (hc : c ≤ 10) : a < 1024 := Nat.lt_of_lt_of_le h (pa_p10 hc)
theorem pa_pwlt {u c : Nat} (h : u < c) : 2 ^ u < 2 ^ c := Nat.pow_lt_pow_right (by decide) h
theorem pa_bitlt {a c i : Nat} (h : a < 2 ^ c) (hi : a.testBit i = true) : i < c := by
  rcases Nat.lt_or_ge i c with z | z
  · exact z
  · rw [pa_hi h z] at hi; exact absurd hi (by decide)
theorem pa_1023 (i : Nat) : (1023 : Nat).testBit i = decide (i < 10) := Nat.testBit_two_pow_sub_one 10 i
theorem pa_m32 (i : Nat) : (4294967295 : Nat).testBit i = decide (i < 32) := Nat.testBit_two_pow_sub_one 32 i
/-- the bits of a that are not in b -/
def pa_df (a b : Nat) : Nat := a &&& (b ^^^ 1023)
theorem pa_df_tb {a : Nat} (ha : a < 1024) (b i : Nat) : (pa_df a b).testBit i = (a.testBit i && !b.testBit i) := by
  unfold pa_df
  rw [Nat.testBit_and, Nat.testBit_xor, pa_1023]
  by_cases h : i < 10
  · rw [decide_eq_true h]; cases a.testBit i <;> cases b.testBit i <;> rfl
  · rw [pa_hi (show a < 2 ^ 10 from ha) (by omega)]; rfl
theorem pa_df_lt {a c : Nat} (h : a < 2 ^ c) (b : Nat) : pa_df a b < 2 ^ c := by
  unfold pa_df
  rw [Nat.and_comm]
  exact Nat.and_lt_two_pow _ h
theorem pa_m1 : (-1 : Int32) = nI 4294967295 := by decide
theorem pa_not {a : Nat} (ha : a < 1024) (b : Nat) : nI a &&& (nI b ^^^ (-1)) = nI (pa_df a b) := by
  rw [pa_m1, pa_xor, pa_and]
  congr 1
  apply Nat.eq_of_testBit_eq
  intro i
  rw [pa_df_tb ha, Nat.testBit_and, Nat.testBit_xor, pa_m32]
  by_cases h : i < 10
  · rw [decide_eq_true (show i < 32 by omega)]; cases a.testBit i <;> cases b.testBit i <;> rfl
  · rw [pa_hi (show a < 2 ^ 10 from ha) (by omega)]; rfl
theorem pa_nn (s : Nat) : (nI s ^^^ (-1)) ^^^ (-1) = nI s := by
  rw [pa_m1, pa_xor, pa_xor, Nat.xor_assoc, Nat.xor_self, Nat.xor_zero]
/-- left, an int, stands on ten bits for the set lf -/
def pa_lr (left : Int32) (lf : Nat) : Prop := ∀ m, m < 1024 → nI m &&& left = nI (m &&& lf) ∧ nI m &&& (left ^^^ (-1)) = nI (pa_df m lf)
theorem pa_lr_n (lf : Nat) : pa_lr (nI lf) lf := fun m hm => ⟨pa_and m lf, pa_not hm lf⟩
theorem pa_lr_c (s : Nat) : pa_lr (nI s ^^^ (-1)) (s ^^^ 1023) := fun m hm => ⟨pa_not hm s, by
  rw [pa_nn, pa_and]
  congr 1
  unfold pa_df
  rw [Nat.xor_assoc, Nat.xor_self, Nat.xor_zero]⟩
/-! subset, disjoint -/
def pa_sub (a b : Nat) : Prop := ∀ x, a.testBit x = true → b.testBit x = true
def pa_dj (a b : Nat) : Prop := ∀ x, a.testBit x = true → b.testBit x = false
theorem pa_sub_rf (a : Nat) : pa_sub a a := fun _ h => h
theorem pa_sub_tr {a b c : Nat} (h : pa_sub a b) (g : pa_sub b c) : pa_sub a c := fun x z => g x (h x z)
theorem pa_sub_0 (a : Nat) : pa_sub 0 a := fun x z => by rw [Nat.zero_testBit] at z; exact absurd z (by decide)
theorem pa_dj_0 (a : Nat) : pa_dj 0 a := fun x z => by rw [Nat.zero_testBit] at z; exact absurd z (by decide)
theorem pa_bex {a b : Nat} (h : ∀ x, a.testBit x = true ↔ b.testBit x = true) : a = b := by
  apply Nat.eq_of_testBit_eq
  intro i
  have z := h i
  revert z
  cases a.testBit i <;> cases b.testBit i <;> simp
theorem pa_sub_as {a b : Nat} (h : pa_sub a b) (g : pa_sub b a) : a = b := pa_bex (fun x => ⟨h x, g x⟩)
theorem pa_bfalse {b : Bool} (h : ¬ b = true) : b = false := by cases b <;> first | rfl | exact absurd rfl h
theorem pa_dj0 {a b : Nat} : a &&& b = 0 ↔ pa_dj a b := by
  constructor
  · intro h x hx
    have z : (a &&& b).testBit x = false := by rw [h, Nat.zero_testBit]
    rw [Nat.testBit_and, hx] at z
    exact z
  · intro h
    apply Nat.eq_of_testBit_eq
    intro i
    rw [Nat.testBit_and, Nat.zero_testBit]
    cases z : a.testBit i
    · rfl
    · rw [h i z]; rfl
theorem pa_dj_c {a b : Nat} (h : pa_dj a b) : pa_dj b a := fun x hx => pa_bfalse (fun z => by rw [h x z] at hx; exact absurd hx (by decide))
theorem pa_df0 {a b : Nat} (ha : a < 1024) : pa_df a b = 0 ↔ pa_sub a b := by
  constructor
  · intro h x hx
    have z : (pa_df a b).testBit x = false := by rw [h, Nat.zero_testBit]
    rw [pa_df_tb ha, hx] at z
    revert z
    cases b.testBit x <;> simp
  · intro h
    apply Nat.eq_of_testBit_eq
    intro i
    rw [pa_df_tb ha, Nat.zero_testBit]
    cases z : a.testBit i
    · rfl
    · rw [h i z]; rfl
theorem pa_sub_or {a b c : Nat} (h : pa_sub a c) (g : pa_sub b c) : pa_sub (a ||| b) c := fun x z => by
  rw [Nat.testBit_or, Bool.or_eq_true] at z
  rcases z with z | z
  · exact h x z
  · exact g x z
theorem pa_sub_l (a b : Nat) : pa_sub a (a ||| b) := fun x z => by rw [Nat.testBit_or, z]; rfl
theorem pa_sub_r (a b : Nat) : pa_sub b (a ||| b) := fun x z => by rw [Nat.testBit_or, z, Bool.or_true]
theorem pa_tb2 {u x : Nat} : (2 ^ u).testBit x = true ↔ u = x := by rw [Nat.testBit_two_pow, decide_eq_true_iff]
theorem pa_sub_p {u a : Nat} (h : a.testBit u = true) : pa_sub (2 ^ u) a := fun x z => by rw [← pa_tb2.mp z]; exact h
theorem pa_dj_p {u a : Nat} (h : a.testBit u = false) : pa_dj (2 ^ u) a := fun x z => by rw [← pa_tb2.mp z]; exact h
theorem pa_dj_or {a b c : Nat} (h : pa_dj a c) (g : pa_dj b c) : pa_dj (a ||| b) c := fun x z => by
  rw [Nat.testBit_or, Bool.or_eq_true] at z
  rcases z with z | z
  · exact h x z
  · exact g x z
theorem pa_pow2 : ∀ m, m < 1024 → m ≠ 0 → m &&& (m - 1) = 0 → m = 2 ^ Nat.log2 m := by decide +kernel
/-! how many -/
def pa_pc (s : Nat) : Nat → Nat
  | 0 => 0
  | n + 1 => pa_pc s n + (s.testBit n).toNat
theorem pa_pc_le (s n : Nat) : pa_pc s n ≤ n := by
  induction n with
  | zero => exact Nat.le_refl 0
  | succ n ih =>
    have h : (s.testBit n).toNat ≤ 1 := by cases s.testBit n <;> decide
    show pa_pc s n + (s.testBit n).toNat ≤ n + 1
    omega
theorem pa_bto {a b : Bool} (h : a = true → b = true) : a.toNat ≤ b.toNat := by
  cases a <;> cases b <;> first | decide | exact absurd (h rfl) (by decide)
theorem pa_pc_mono {a b : Nat} (h : pa_sub a b) (n : Nat) : pa_pc a n ≤ pa_pc b n := by
  induction n with
  | zero => exact Nat.le_refl 0
  | succ n ih =>
    have h1 := pa_bto (h n)
    show pa_pc a n + (a.testBit n).toNat ≤ pa_pc b n + (b.testBit n).toNat
    omega
theorem pa_pc_lt {a b x : Nat} (h : pa_sub a b) (ha : a.testBit x = false) (hb : b.testBit x = true) (n : Nat) (hx : x < n) : pa_pc a n < pa_pc b n := by
  induction n with
  | zero => omega
  | succ n ih =>
    have h1 := pa_bto (h n)
    have h2 := pa_pc_mono h n
    show pa_pc a n + (a.testBit n).toNat < pa_pc b n + (b.testBit n).toNat
    by_cases e : x = n
    · rw [e] at ha hb
      rw [ha, hb]
      show pa_pc a n + 0 < pa_pc b n + 1
      omega
    · have h3 := ih (by omega)
      omega
theorem pa_pc_cg {a b : Nat} (n : Nat) (h : ∀ i, i < n → a.testBit i = b.testBit i) : pa_pc a n = pa_pc b n := by
  induction n with
  | zero => rfl
  | succ n ih =>
    show pa_pc a n + (a.testBit n).toNat = pa_pc b n + (b.testBit n).toNat
    rw [ih (fun i hi => h i (by omega)), h n (by omega)]
theorem pa_pc_flip {a u : Nat} (ha : a.testBit u = false) (n : Nat) (hu : u < n) : pa_pc (a ^^^ 2 ^ u) n = pa_pc a n + 1 := by
  induction n with
  | zero => omega
  | succ n ih =>
    show pa_pc (a ^^^ 2 ^ u) n + ((a ^^^ 2 ^ u).testBit n).toNat = pa_pc a n + (a.testBit n).toNat + 1
    by_cases e : u = n
    · rw [pa_pc_cg (a := a ^^^ 2 ^ u) (b := a) n (fun i hi => by rw [Nat.testBit_xor, Nat.testBit_two_pow_of_ne (show u ≠ i by omega), Bool.xor_false])]
      rw [Nat.testBit_xor, ← e, ha, Nat.testBit_two_pow_self]
      rfl
    · rw [ih (by omega), Nat.testBit_xor, Nat.testBit_two_pow_of_ne e, Bool.xor_false]
      omega
theorem pa_pc_0 {a : Nat} (n : Nat) : pa_pc a n = 0 ↔ ∀ i, i < n → a.testBit i = false := by
  induction n with
  | zero => exact ⟨fun _ i hi => absurd hi (by omega), fun _ => rfl⟩
  | succ n ih =>
    show pa_pc a n + (a.testBit n).toNat = 0 ↔ _
    constructor
    · intro h i hi
      have h2 : (a.testBit n).toNat = 0 := by omega
      by_cases e : i = n
      · rw [e]
        revert h2
        cases a.testBit n <;> simp
      · exact (ih.mp (by omega)) i (by omega)
    · intro h
      rw [ih.mpr (fun i hi => h i (by omega)), h n (by omega)]
      rfl
theorem pa_pc_z {a : Nat} (ha : a < 1024) : pa_pc a 10 = 0 ↔ a = 0 := by
  rw [pa_pc_0]
  constructor
  · intro h
    apply Nat.eq_of_testBit_eq
    intro i
    rw [Nat.zero_testBit]
    by_cases hi : i < 10
    · exact h i hi
    · exact pa_hi (show a < 2 ^ 10 from ha) (by omega)
  · intro h i _
    rw [h, Nat.zero_testBit]
/-- two sets of ten bits in one int -/
theorem pa_pair {a b a' b' : Nat} (ha : a < 1024) (ha' : a' < 1024) (h : a ||| b * 1024 = a' ||| b' * 1024) : a = a' ∧ b = b' := by
  have e1 := Nat.two_pow_add_eq_or_of_lt (i := 10) ha b
  have e2 := Nat.two_pow_add_eq_or_of_lt (i := 10) ha' b'
  rw [Nat.or_comm a, Nat.or_comm a', Nat.mul_comm b, Nat.mul_comm b'] at h
  have h2 : 2 ^ 10 * b + a = 2 ^ 10 * b' + a' := by rw [e1, e2]; exact h
  omega
theorem pa_pairI {a b : Nat} (hb : b < 1024) : nI a ||| (nI b <<< ((10 : Int32) &&& 31)) = nI (a ||| b * 1024) := by
  rw [pk_shlN ((10 : Int32) &&& 31) 10 (by decide) (show b * 2 ^ 10 < 2 ^ 32 by omega), pa_or]
theorem pa_pairL {a b : Nat} (ha : a < 1024) (hb : b < 1024) : a ||| b * 1024 < 2 ^ 31 := by
  have e := Nat.or_lt_two_pow (x := a) (y := b * 1024) (n := 20) (by omega) (by omega)
  omega
end
section
/-! the plain law: sound sets, their cost -/
theorem pa_ndj {a b : Nat} (h : ¬ pa_dj a b) : ∃ x, a.testBit x = true ∧ b.testBit x = true := by
  apply Classical.byContradiction
  intro g
  apply h
  intro x hx
  apply pa_bfalse
  intro z
  exact g ⟨x, hx, z⟩
theorem pa_nsub {a b : Nat} (h : ¬ pa_sub a b) : ∃ x, a.testBit x = true ∧ b.testBit x = false := by
  apply Classical.byContradiction
  intro g
  apply h
  intro x hx
  apply Classical.byContradiction
  intro z
  exact g ⟨x, hx, pa_bfalse z⟩
theorem pa_tf {b : Bool} (h : b = true) (g : b = false) : False := by rw [h] at g; exact absurd g (by decide)
def pa_ok (c : Nat) (RV ND MT : Nat → Nat) (RQ : Nat → Bool) (S : Nat) : Prop :=
  ∀ u, u < c → S.testBit u = true → (pa_dj (RV u) S ∧ ∀ j, j < ND u → RQ (3 * u + j) = true → ¬ pa_dj (MT (3 * u + j)) S)
def pa_cn (i o S : Nat) : Prop := pa_sub i S ∧ pa_dj o S
def pa_cl (c : Nat) (RV ND MT : Nat → Nat) (RQ : Nat → Bool) (i o : Nat) : Prop :=
  ∀ u, u < c → i.testBit u = true → (pa_sub (RV u) o ∧ ∀ j, j < ND u → RQ (3 * u + j) = true → ¬ pa_sub (MT (3 * u + j)) o)
def pa_md (c : Nat) (RV LG ND MT : Nat → Nat) : Prop :=
  c ≤ 10 ∧ ∀ u, u < c → (RV u < 2 ^ c ∧ LG u ≤ 9 ∧ ND u ≤ 3 ∧ ∀ j, j < ND u → MT (3 * u + j) < 2 ^ c)
theorem pa_ok_0 (c : Nat) (RV ND MT : Nat → Nat) (RQ : Nat → Bool) : pa_ok c RV ND MT RQ 0 := fun u _ h => by
  rw [Nat.zero_testBit] at h; exact absurd h (by decide)
theorem pa_leaf {c : Nat} {RV LG ND MT : Nat → Nat} {RQ : Nat → Bool} {i o : Nat} (hm : pa_md c RV LG ND MT) (hd : pa_dj i o) (hc : pa_cl c RV ND MT RQ i o)
    (ha : ∀ x, x < c → (i ||| o).testBit x = true) : pa_ok c RV ND MT RQ i := by
  intro u hu hb
  obtain ⟨h1, h2⟩ := hc u hu hb
  refine ⟨fun x hx => pa_dj_c hd x (h1 x hx), fun j hj hr hdj => ?_⟩
  obtain ⟨x, hx, ho⟩ := pa_nsub (h2 j hj hr)
  have hxc := pa_bitlt ((hm.2 u hu).2.2.2 j hj) hx
  have := ha x hxc
  rw [Nat.testBit_or, ho, Bool.or_false] at this
  exact pa_tf this (hdj x hx)
/-! forcing: from (i, o) to (i', o') no sound set is lost -/
def pa_fr (c : Nat) (RV ND MT : Nat → Nat) (RQ : Nat → Bool) (i o i' o' : Nat) : Prop :=
  i' < 2 ^ c ∧ o' < 2 ^ c ∧ pa_sub i i' ∧ pa_sub o o' ∧ ∀ S, pa_ok c RV ND MT RQ S → pa_cn i o S → pa_cn i' o' S
theorem pa_fr_rf {c : Nat} {RV ND MT : Nat → Nat} {RQ : Nat → Bool} {i o : Nat} (hi : i < 2 ^ c) (ho : o < 2 ^ c) : pa_fr c RV ND MT RQ i o i o :=
  ⟨hi, ho, pa_sub_rf i, pa_sub_rf o, fun _ _ h => h⟩
theorem pa_fr_tr {c : Nat} {RV ND MT : Nat → Nat} {RQ : Nat → Bool} {i o i' o' i2 o2 : Nat} (h : pa_fr c RV ND MT RQ i o i' o') (g : pa_fr c RV ND MT RQ i' o' i2 o2) : pa_fr c RV ND MT RQ i o i2 o2 :=
  ⟨g.1, g.2.1, pa_sub_tr h.2.2.1 g.2.2.1, pa_sub_tr h.2.2.2.1 g.2.2.2.1, fun S a b => g.2.2.2.2 S a (h.2.2.2.2 S a b)⟩
theorem pa_fr_rv {c : Nat} {RV ND MT : Nat → Nat} {RQ : Nat → Bool} {i o u : Nat} (hi : i < 2 ^ c) (ho : o < 2 ^ c) (hu : u < c) (hb : i.testBit u = true) (hr : RV u < 2 ^ c) :
    pa_fr c RV ND MT RQ i o i (o ||| RV u) :=
  ⟨hi, Nat.or_lt_two_pow ho hr, pa_sub_rf i, pa_sub_l _ _, fun S hS hc => ⟨hc.1, pa_dj_or hc.2 (hS u hu (hc.1 u hb)).1⟩⟩
theorem pa_fr_nd {c : Nat} {RV ND MT : Nat → Nat} {RQ : Nat → Bool} {i o u j : Nat} (hcl : c ≤ 10) (hi : i < 2 ^ c) (ho : o < 2 ^ c) (hu : u < c) (hb : i.testBit u = true) (hj : j < ND u) (hq : RQ (3 * u + j) = true)
    (hm : MT (3 * u + j) < 2 ^ c) (hz : pa_df (MT (3 * u + j)) o ≠ 0) (hp : pa_df (MT (3 * u + j)) o &&& (pa_df (MT (3 * u + j)) o - 1) = 0) :
    pa_fr c RV ND MT RQ i o (i ||| pa_df (MT (3 * u + j)) o) o := by
  refine ⟨Nat.or_lt_two_pow hi (pa_df_lt hm o), ho, pa_sub_l _ _, pa_sub_rf o, fun S hS hc => ⟨pa_sub_or hc.1 ?_, hc.2⟩⟩
  obtain ⟨x, hx, hxS⟩ := pa_ndj ((hS u hu (hc.1 u hb)).2 j hj hq)
  have e := pa_pow2 _ (pa_lt10 (pa_df_lt hm o) hcl) hz hp
  have hxo : o.testBit x = false := pa_bfalse (fun z => pa_tf hxS (hc.2 x z))
  have hxd : (pa_df (MT (3 * u + j)) o).testBit x = true := by rw [pa_df_tb (pa_lt10 hm hcl), hx, hxo]; rfl
  rw [e] at hxd
  rw [e, pa_tb2.mp hxd]
  exact pa_sub_p hxS
theorem pa_fr_no {c : Nat} {RV ND MT : Nat → Nat} {RQ : Nat → Bool} {i o u j : Nat} (hu : u < c) (hb : i.testBit u = true) (hj : j < ND u) (hq : RQ (3 * u + j) = true)
    (hz : pa_sub (MT (3 * u + j)) o) : ∀ S, pa_ok c RV ND MT RQ S → ¬ pa_cn i o S := by
  intro S hS hc
  obtain ⟨x, hx, hxS⟩ := pa_ndj ((hS u hu (hc.1 u hb)).2 j hj hq)
  exact pa_tf hxS (hc.2 x (hz x hx))
/-- a round of forcing that changes something decides one more unit -/
theorem pa_grow {i o i' o' c : Nat} (hc : c ≤ 10) (hi' : i' < 2 ^ c) (ho' : o' < 2 ^ c) (h1 : pa_sub i i') (h2 : pa_sub o o') (hd : pa_dj i' o') (hne : ¬ (i = i' ∧ o = o')) :
    pa_pc (i ||| o) 10 < pa_pc (i' ||| o') 10 := by
  have hs : pa_sub (i ||| o) (i' ||| o') := pa_sub_or (pa_sub_tr h1 (pa_sub_l _ _)) (pa_sub_tr h2 (pa_sub_r _ _))
  by_cases h : pa_sub (i' ||| o') (i ||| o)
  · exfalso
    apply hne
    constructor
    · apply pa_sub_as h1
      intro x hx
      have z := h x (pa_sub_l i' o' x hx)
      rw [Nat.testBit_or, Bool.or_eq_true] at z
      rcases z with z | z
      · exact z
      · exact absurd (hd x hx) (fun w => pa_tf (h2 x z) w)
    · apply pa_sub_as h2
      intro x hx
      have z := h x (pa_sub_r i' o' x hx)
      rw [Nat.testBit_or, Bool.or_eq_true] at z
      rcases z with z | z
      · exact absurd (hd x (h1 x z)) (fun w => pa_tf hx w)
      · exact z
  · obtain ⟨x, hx, hn⟩ := pa_nsub h
    have hl := pa_bitlt (Nat.or_lt_two_pow hi' ho') hx
    exact pa_pc_lt hs hn hx 10 (by omega)
/-! the cost -/
def pa_cj (MT : Nat → Nat) (OP : Nat → Bool) (L u : Nat) : Nat → Nat
  | 0 => 0
  | j + 1 => pa_cj MT OP L u j + (if OP (3 * u + j) = true ∧ pa_df (MT (3 * u + j)) L = 0 then 2 else 0)
def pa_cu (LG ND MT : Nat → Nat) (OP : Nat → Bool) (T L : Nat) : Nat → Nat
  | 0 => 0
  | u + 1 => pa_cu LG ND MT OP T L u + (if T.testBit u = true then LG u + pa_cj MT OP L u (ND u) else 0)
def pa_cost (c cur : Nat) (LG ND MT : Nat → Nat) (OP : Nat → Bool) (T L : Nat) : Nat :=
  (5 * pa_pc (pa_df T cur) 10 + 3 * pa_pc (cur &&& L) 10) + pa_cu LG ND MT OP T L c
theorem pa_cj_le (MT : Nat → Nat) (OP : Nat → Bool) (L u n : Nat) : pa_cj MT OP L u n ≤ 2 * n := by
  induction n with
  | zero => exact Nat.le_refl 0
  | succ n ih =>
    show pa_cj MT OP L u n + (if OP (3 * u + n) = true ∧ pa_df (MT (3 * u + n)) L = 0 then 2 else 0) ≤ 2 * (n + 1)
    split <;> omega
theorem pa_cu_le {c : Nat} {RV LG ND MT : Nat → Nat} (OP : Nat → Bool) (T L : Nat) (hm : pa_md c RV LG ND MT) (n : Nat) (hn : n ≤ c) : pa_cu LG ND MT OP T L n ≤ 15 * n := by
  induction n with
  | zero => exact Nat.le_refl 0
  | succ n ih =>
    have h1 := ih (by omega)
    have h2 := hm.2 n (by omega)
    have h3 := pa_cj_le MT OP L n (ND n)
    show pa_cu LG ND MT OP T L n + (if T.testBit n = true then LG n + pa_cj MT OP L n (ND n) else 0) ≤ 15 * (n + 1)
    split <;> omega
theorem pa_cost_le {c : Nat} {RV LG ND MT : Nat → Nat} (cur : Nat) (OP : Nat → Bool) (T L : Nat) (hm : pa_md c RV LG ND MT) : pa_cost c cur LG ND MT OP T L ≤ 230 := by
  have h1 := pa_pc_le (pa_df T cur) 10
  have h2 := pa_pc_le (cur &&& L) 10
  have h3 := pa_cu_le OP T L hm c (Nat.le_refl c)
  have h4 := hm.1
  unfold pa_cost
  omega
theorem pa_comp {S x : Nat} (hx : x < 10) (h : S.testBit x = false) : (S ^^^ 1023).testBit x = true := by
  rw [Nat.testBit_xor, h, pa_1023, decide_eq_true hx]; rfl
theorem pa_compn {S x : Nat} (h : (S ^^^ 1023).testBit x = true) (hx : x < 10) : S.testBit x = false := by
  rw [Nat.testBit_xor, pa_1023, decide_eq_true hx] at h
  revert h
  cases S.testBit x <;> simp
theorem pa_cj_mono {MT : Nat → Nat} {OP : Nat → Bool} {L S u : Nat} (hd : pa_dj L S) (n : Nat) (hm : ∀ j, j < n → MT (3 * u + j) < 1024) : pa_cj MT OP L u n ≤ pa_cj MT OP (S ^^^ 1023) u n := by
  induction n with
  | zero => exact Nat.le_refl 0
  | succ n ih =>
    have h1 := ih (fun j hj => hm j (by omega))
    have h2 := hm n (by omega)
    show pa_cj MT OP L u n + (if OP (3 * u + n) = true ∧ pa_df (MT (3 * u + n)) L = 0 then 2 else 0) ≤ pa_cj MT OP (S ^^^ 1023) u n + (if OP (3 * u + n) = true ∧ pa_df (MT (3 * u + n)) (S ^^^ 1023) = 0 then 2 else 0)
    by_cases h : OP (3 * u + n) = true ∧ pa_df (MT (3 * u + n)) L = 0
    · have h' : OP (3 * u + n) = true ∧ pa_df (MT (3 * u + n)) (S ^^^ 1023) = 0 := by
        refine ⟨h.1, (pa_df0 h2).mpr (fun x hx => ?_)⟩
        exact pa_comp (pa_bitlt (show MT (3 * u + n) < 2 ^ 10 from h2) hx) (hd x ((pa_df0 h2).mp h.2 x hx))
      rw [if_pos h, if_pos h']
      omega
    · rw [if_neg h]
      omega
theorem pa_cu_mono {c : Nat} {RV LG ND MT : Nat → Nat} {OP : Nat → Bool} {T L S : Nat} (hm : pa_md c RV LG ND MT) (hs : pa_sub T S) (hd : pa_dj L S) (n : Nat) (hn : n ≤ c) : pa_cu LG ND MT OP T L n ≤ pa_cu LG ND MT OP S (S ^^^ 1023) n := by
  induction n with
  | zero => exact Nat.le_refl 0
  | succ n ih =>
    have h1 := ih (by omega)
    have h2 := hm.2 n (by omega)
    have h3 := pa_cj_mono (OP := OP) (u := n) hd (ND n) (fun j hj => pa_lt10 (h2.2.2.2 j hj) hm.1)
    show pa_cu LG ND MT OP T L n + (if T.testBit n = true then LG n + pa_cj MT OP L n (ND n) else 0) ≤ pa_cu LG ND MT OP S (S ^^^ 1023) n + (if S.testBit n = true then LG n + pa_cj MT OP (S ^^^ 1023) n (ND n) else 0)
    by_cases h : T.testBit n = true
    · rw [if_pos h, if_pos (hs n h)]
      omega
    · rw [if_neg h]
      omega
theorem pa_cost_mono {c cur : Nat} {RV LG ND MT : Nat → Nat} {OP : Nat → Bool} {T L S : Nat} (hm : pa_md c RV LG ND MT) (hcur : cur < 1024) (hT : T < 1024) (hS : S < 1024) (hs : pa_sub T S) (hd : pa_dj L S) :
    pa_cost c cur LG ND MT OP T L ≤ pa_cost c cur LG ND MT OP S (S ^^^ 1023) := by
  have h1 : pa_pc (pa_df T cur) 10 ≤ pa_pc (pa_df S cur) 10 := pa_pc_mono (fun x hx => by
    rw [pa_df_tb hT, Bool.and_eq_true] at hx
    rw [pa_df_tb hS, Bool.and_eq_true]
    exact ⟨hs x hx.1, hx.2⟩) 10
  have h2 : pa_pc (cur &&& L) 10 ≤ pa_pc (cur &&& (S ^^^ 1023)) 10 := pa_pc_mono (fun x hx => by
    rw [Nat.testBit_and, Bool.and_eq_true] at hx
    rw [Nat.testBit_and, Bool.and_eq_true]
    exact ⟨hx.1, pa_comp (pa_bitlt (show cur < 2 ^ 10 from hcur) hx.1) (hd x hx.2)⟩) 10
  have h3 := pa_cu_mono (OP := OP) hm hs hd c (Nat.le_refl c)
  unfold pa_cost
  omega
/-! the least plan -/
def pa_va (c : Nat) (RV ND MT : Nat → Nat) (RQ : Nat → Bool) (w b S : Nat) : Prop := S < 2 ^ c ∧ pa_ok c RV ND MT RQ S ∧ pa_sub w S ∧ pa_dj b S
def pa_best (va : Nat → Prop) (ct : Nat → Nat) (B : Nat) : Prop := va B ∧ ∀ S, va S → (ct B < ct S ∨ (ct B = ct S ∧ B ≤ S))
theorem pa_best_u {va : Nat → Prop} {ct : Nat → Nat} {B B' : Nat} (h : pa_best va ct B) (g : pa_best va ct B') : B = B' := by
  have h1 := h.2 B' g.1
  have h2 := g.2 B h.1
  omega
end
section
/-! the search, as a plain stack: one lemma a step -/
def pa_first (c d u : Nat) : Prop := u < c ∧ d.testBit u = false ∧ ∀ x, x < u → d.testBit x = true
theorem pa_first_u {c d u v : Nat} (h : pa_first c d u) (g : pa_first c d v) : u = v := by
  rcases Nat.lt_trichotomy u v with z | z | z
  · exact absurd (g.2.2 u z) (fun w => pa_tf w h.2.1)
  · exact z
  · exact absurd (h.2.2 v z) (fun w => pa_tf w g.2.1)
def pa_R (j t : Nat) : Nat := if t = 0 then 4 * 2 ^ (10 - j) - 3 else if t = 1 then 2 * 2 ^ (10 - j) - 1 else 1
def pa_mu (TU : Nat → Nat) : Nat → Nat
  | 0 => 0
  | D + 1 => pa_mu TU D + pa_R D (TU D)
def pa_up (f : Nat → Nat) (k x : Nat) : Nat → Nat := fun j => if j = k then x else f j
theorem pa_up_s (f : Nat → Nat) (k x : Nat) : pa_up f k x k = x := if_pos rfl
theorem pa_up_n (f : Nat → Nat) {k j : Nat} (x : Nat) (h : j ≠ k) : pa_up f k x j = f j := if_neg h
theorem pa_mu_cg {f g : Nat → Nat} (D : Nat) (h : ∀ j, j < D → f j = g j) : pa_mu f D = pa_mu g D := by
  induction D with
  | zero => rfl
  | succ D ih =>
    show pa_mu f D + pa_R D (f D) = pa_mu g D + pa_R D (g D)
    rw [ih (fun j hj => h j (by omega)), h D (by omega)]
theorem pa_R_pos (j t : Nat) : 1 ≤ pa_R j t := by
  have h : 1 ≤ 2 ^ (10 - j) := Nat.one_le_two_pow
  unfold pa_R
  split
  · omega
  · split <;> omega
theorem pa_R_br {d t : Nat} (hd : d < 10) (ht : t < 2) : pa_R d (t + 1) + pa_R (d + 1) 0 + 1 ≤ pa_R d t := by
  have e : 2 ^ (10 - d) = 2 * 2 ^ (10 - (d + 1)) := by
    rw [show 10 - d = (10 - (d + 1)) + 1 by omega, Nat.pow_succ, Nat.mul_comm]
  have h : 1 ≤ 2 ^ (10 - (d + 1)) := Nat.one_le_two_pow
  have z : t = 0 ∨ t = 1 := by omega
  unfold pa_R
  rcases z with z | z
  · subst z
    simp only [if_true, if_neg (show ¬ (0 + 1 = 0) by omega), if_pos (show 0 + 1 = 1 by omega)]
    omega
  · subst z
    simp only [if_true, if_neg (show ¬ (1 + 1 = 0) by omega), if_neg (show ¬ (1 + 1 = 1) by omega), if_neg (show ¬ (1 = 0) by omega)]
    omega
def pa_lv (c : Nat) (RV ND MT : Nat → Nat) (RQ : Nat → Bool) (w b j i o t : Nat) : Prop :=
  i < 2 ^ c ∧ o < 2 ^ c ∧ t ≤ 2 ∧ pa_dj i o ∧ pa_cl c RV ND MT RQ i o ∧ pa_sub w i ∧ pa_sub b o ∧ ∀ x, x < j → x < c → (i ||| o).testBit x = true
def pa_done (ct : Nat → Nat) (best : Option Nat) (S : Nat) : Prop := ∃ B, best = some B ∧ (ct B < ct S ∨ (ct B = ct S ∧ B ≤ S))
def pa_pend (c i o t S : Nat) : Prop := pa_cn i o S ∧ (t = 0 ∨ (t = 1 ∧ ∀ u, pa_first c (i ||| o) u → S.testBit u = true))
def pa_inv (c : Nat) (RV ND MT : Nat → Nat) (RQ : Nat → Bool) (w b : Nat) (ct : Nat → Nat) (D step : Nat) (HI HO TU : Nat → Nat) (best : Option Nat) : Prop :=
  D ≤ 11 ∧ step + pa_mu TU D ≤ 4093 ∧ (∀ j, j < D → pa_lv c RV ND MT RQ w b j (HI j) (HO j) (TU j)) ∧ (∀ B, best = some B → pa_va c RV ND MT RQ w b B)
    ∧ ∀ S, pa_va c RV ND MT RQ w b S → (pa_done ct best S ∨ ∃ j, j < D ∧ pa_pend c (HI j) (HO j) (TU j) S)
section
variable {c : Nat} {RV LG ND MT : Nat → Nat} {RQ : Nat → Bool} {w b : Nat} {ct : Nat → Nat}
theorem pa_s_start {i o : Nat} {HI HO TU : Nat → Nat} (hf : pa_fr c RV ND MT RQ w b i o) (hd : pa_dj i o) (hc : pa_cl c RV ND MT RQ i o) (h1 : HI 0 = i) (h2 : HO 0 = o) (h3 : TU 0 = 0) :
    pa_inv c RV ND MT RQ w b ct 1 0 HI HO TU none := by
  refine ⟨by omega, ?_, fun j hj => ?_, fun B hB => absurd hB (by simp), fun S hS => Or.inr ⟨0, by omega, ?_, Or.inl h3⟩⟩
  · show 0 + (0 + pa_R 0 (TU 0)) ≤ 4093
    rw [h3]
    decide
  · have e : j = 0 := by omega
    subst e
    rw [h1, h2, h3]
    exact ⟨hf.1, hf.2.1, by omega, hd, hc, hf.2.2.1, hf.2.2.2.1, fun x hx => absurd hx (by omega)⟩
  · rw [h1, h2]
    exact hf.2.2.2.2 S hS.2.1 ⟨hS.2.2.1, hS.2.2.2⟩
theorem pa_s_end {step : Nat} {HI HO TU : Nat → Nat} {best : Option Nat} (h : pa_inv c RV ND MT RQ w b ct 0 step HI HO TU best) :
    (best = none ∧ ∀ S, ¬ pa_va c RV ND MT RQ w b S) ∨ ∃ B, best = some B ∧ pa_best (pa_va c RV ND MT RQ w b) ct B := by
  obtain ⟨_, _, _, h4, h5⟩ := h
  cases best with
  | none =>
    refine Or.inl ⟨rfl, fun S hS => ?_⟩
    rcases h5 S hS with ⟨B, hB, _⟩ | ⟨j, hj, _⟩
    · exact absurd hB (by simp)
    · omega
  | some B =>
    refine Or.inr ⟨B, rfl, h4 B rfl, fun S hS => ?_⟩
    rcases h5 S hS with ⟨B', hB, h⟩ | ⟨j, hj, _⟩
    · have e : B = B' := by simpa using hB
      rw [e]; exact h
    · omega
/-- the top is dropped: whoever was waiting there is answered -/
theorem pa_s_drop {d step : Nat} {HI HO TU : Nat → Nat} {best best' : Option Nat} (h : pa_inv c RV ND MT RQ w b ct (d + 1) step HI HO TU best)
    (hv : ∀ B, best' = some B → pa_va c RV ND MT RQ w b B) (hk : ∀ S, pa_done ct best S → pa_done ct best' S)
    (hp : ∀ S, pa_va c RV ND MT RQ w b S → pa_pend c (HI d) (HO d) (TU d) S → pa_done ct best' S) : pa_inv c RV ND MT RQ w b ct d (step + 1) HI HO TU best' := by
  obtain ⟨h1, h2, h3, h4, h5⟩ := h
  have h2' : step + (pa_mu TU d + pa_R d (TU d)) ≤ 4093 := h2
  have h6 := pa_R_pos d (TU d)
  refine ⟨by omega, by omega, fun j hj => h3 j (by omega), hv, fun S hS => ?_⟩
  rcases h5 S hS with g | ⟨j, hj, g⟩
  · exact Or.inl (hk S g)
  · by_cases e : j = d
    · rw [e] at g
      exact Or.inl (hp S hS g)
    · exact Or.inr ⟨j, by omega, g⟩
theorem pa_s_two {d step : Nat} {HI HO TU : Nat → Nat} {best : Option Nat} (h : pa_inv c RV ND MT RQ w b ct (d + 1) step HI HO TU best) (ht : TU d = 2) :
    pa_inv c RV ND MT RQ w b ct d (step + 1) HI HO TU best := by
  refine pa_s_drop h h.2.2.2.1 (fun S g => g) (fun S hS g => ?_)
  rw [ht] at g
  rcases g.2 with z | ⟨z, _⟩
  · exact absurd z (by omega)
  · exact absurd z (by omega)
theorem pa_leaf_eq {i o S : Nat} (hi : i < 2 ^ c) (hS : S < 2 ^ c) (ha : ∀ x, x < c → (i ||| o).testBit x = true) (h : pa_cn i o S) : S = i := by
  refine pa_sub_as (fun x hx => ?_) h.1
  have z := ha x (pa_bitlt hS hx)
  rw [Nat.testBit_or, Bool.or_eq_true] at z
  rcases z with z | z
  · exact z
  · exact absurd (h.2 x z) (fun g => pa_tf hx g)
theorem pa_s_leafv {d step : Nat} {HI HO TU : Nat → Nat} {best : Option Nat} (hm : pa_md c RV LG ND MT) (h : pa_inv c RV ND MT RQ w b ct (d + 1) step HI HO TU best)
    (ha : ∀ x, x < c → (HI d ||| HO d).testBit x = true) : pa_va c RV ND MT RQ w b (HI d) := by
  obtain ⟨g1, g2, g3, g4, g5, g6, g7, g8⟩ := h.2.2.1 d (by omega)
  exact ⟨g1, pa_leaf hm g4 g5 ha, g6, fun x hx => pa_dj_c g4 x (g7 x hx)⟩
theorem pa_s_new {d step : Nat} {HI HO TU : Nat → Nat} {best : Option Nat} (hm : pa_md c RV LG ND MT) (h : pa_inv c RV ND MT RQ w b ct (d + 1) step HI HO TU best)
    (ha : ∀ x, x < c → (HI d ||| HO d).testBit x = true) (hb : ∀ B, best = some B → (ct (HI d) < ct B ∨ (ct (HI d) = ct B ∧ HI d ≤ B))) :
    pa_inv c RV ND MT RQ w b ct d (step + 1) HI HO TU (some (HI d)) := by
  have hv := pa_s_leafv hm h ha
  refine pa_s_drop h (fun B hB => ?_) (fun S g => ?_) (fun S hS g => ?_)
  · have e : HI d = B := by simpa using hB
    rw [← e]; exact hv
  · obtain ⟨B, hB, g⟩ := g
    have z := hb B hB
    exact ⟨HI d, rfl, by omega⟩
  · have e := pa_leaf_eq hv.1 hS.1 ha g.1
    exact ⟨HI d, rfl, Or.inr ⟨by rw [e], by rw [e]; exact Nat.le_refl _⟩⟩
theorem pa_s_old {d step B0 : Nat} {HI HO TU : Nat → Nat} {best : Option Nat} (hm : pa_md c RV LG ND MT) (h : pa_inv c RV ND MT RQ w b ct (d + 1) step HI HO TU best)
    (ha : ∀ x, x < c → (HI d ||| HO d).testBit x = true) (hb : best = some B0) (hl : ct B0 < ct (HI d) ∨ (ct B0 = ct (HI d) ∧ B0 ≤ HI d)) :
    pa_inv c RV ND MT RQ w b ct d (step + 1) HI HO TU best := by
  have hv := pa_s_leafv hm h ha
  refine pa_s_drop h h.2.2.2.1 (fun S g => g) (fun S hS g => ?_)
  have e := pa_leaf_eq hv.1 hS.1 ha g.1
  exact ⟨B0, hb, by rw [e]; exact hl⟩
/-- who waited at the top waits there still, or goes into the branch -/
theorem pa_s_split {u i o t S : Nat} (hu : pa_first c (i ||| o) u) (ht : t < 2) (h : pa_pend c i o t S) :
    pa_pend c i o (t + 1) S ∨ pa_cn (if t = 0 then i else i ||| 2 ^ u) (if t = 0 then o ||| 2 ^ u else o) S := by
  obtain ⟨h1, h2⟩ := h
  rcases h2 with z | ⟨z, g⟩
  · subst z
    rw [if_pos rfl, if_pos rfl]
    by_cases hb : S.testBit u = true
    · exact Or.inl ⟨h1, Or.inr ⟨rfl, fun v hv => by rw [pa_first_u hv hu]; exact hb⟩⟩
    · exact Or.inr ⟨h1.1, pa_dj_or h1.2 (pa_dj_p (pa_bfalse hb))⟩
  · subst z
    rw [if_neg (by omega), if_neg (by omega)]
    exact Or.inr ⟨pa_sub_or h1.1 (pa_sub_p (g u hu)), h1.2⟩
theorem pa_s_du {d step u : Nat} {HI HO TU : Nat → Nat} {best : Option Nat} (h : pa_inv c RV ND MT RQ w b ct (d + 1) step HI HO TU best) (hu : pa_first c (HI d ||| HO d) u) : d ≤ u := by
  obtain ⟨g1, g2, g3, g4, g5, g6, g7, g8⟩ := h.2.2.1 d (by omega)
  rcases Nat.lt_or_ge u d with z | z
  · exact absurd (g8 u z hu.1) (fun w => pa_tf w hu.2.1)
  · exact z
theorem pa_s_mu {d t : Nat} {TU : Nat → Nat} (hd : d < 10) (ht : t < 2) (he : TU d = t) : pa_mu (pa_up TU d (t + 1)) (d + 1) + pa_R (d + 1) 0 + 1 ≤ pa_mu TU (d + 1) := by
  show pa_mu (pa_up TU d (t + 1)) d + pa_R d (pa_up TU d (t + 1) d) + pa_R (d + 1) 0 + 1 ≤ pa_mu TU d + pa_R d (TU d)
  rw [pa_up_s, he, pa_mu_cg (g := TU) d (fun j hj => pa_up_n TU (t + 1) (show j ≠ d by omega))]
  have h := pa_R_br hd ht
  omega
theorem pa_s_no {d step u t : Nat} {HI HO TU : Nat → Nat} {best : Option Nat} (hc : c ≤ 10) (h : pa_inv c RV ND MT RQ w b ct (d + 1) step HI HO TU best) (hu : pa_first c (HI d ||| HO d) u) (ht : t < 2) (he : TU d = t)
    (hp : ∀ S, pa_va c RV ND MT RQ w b S → pa_cn (if t = 0 then HI d else HI d ||| 2 ^ u) (if t = 0 then HO d ||| 2 ^ u else HO d) S → pa_done ct best S) :
    pa_inv c RV ND MT RQ w b ct (d + 1) (step + 1) HI HO (pa_up TU d (t + 1)) best := by
  have hdu := pa_s_du h hu
  have huc := hu.1
  obtain ⟨h1, h2, h3, h4, h5⟩ := h
  have h6 := pa_s_mu (TU := TU) (show d < 10 by omega) ht he
  refine ⟨h1, by omega, fun j hj => ?_, h4, fun S hS => ?_⟩
  · have g := h3 j hj
    by_cases e : j = d
    · subst e
      rw [pa_up_s]
      exact ⟨g.1, g.2.1, by omega, g.2.2.2⟩
    · rw [pa_up_n TU (t + 1) e]; exact g
  · rcases h5 S hS with g | ⟨j, hj, g⟩
    · exact Or.inl g
    · by_cases e : j = d
      · subst e
        rw [he] at g
        rcases pa_s_split hu ht g with z | z
        · exact Or.inr ⟨j, hj, by rw [pa_up_s]; exact z⟩
        · exact Or.inl (hp S hS z)
      · exact Or.inr ⟨j, hj, by rw [pa_up_n TU (t + 1) e]; exact g⟩
theorem pa_s_push {d step u t i o : Nat} {HI HO TU : Nat → Nat} {best : Option Nat} (hc : c ≤ 10) (h : pa_inv c RV ND MT RQ w b ct (d + 1) step HI HO TU best) (hu : pa_first c (HI d ||| HO d) u) (ht : t < 2) (he : TU d = t)
    (hf : pa_fr c RV ND MT RQ (if t = 0 then HI d else HI d ||| 2 ^ u) (if t = 0 then HO d ||| 2 ^ u else HO d) i o) (hd : pa_dj i o) (hcl : pa_cl c RV ND MT RQ i o) :
    pa_inv c RV ND MT RQ w b ct (d + 2) (step + 1) (pa_up HI (d + 1) i) (pa_up HO (d + 1) o) (pa_up (pa_up TU d (t + 1)) (d + 1) 0) best := by
  have hdu := pa_s_du h hu
  have huc := hu.1
  obtain ⟨h1, h2, h3, h4, h5⟩ := h
  have h6 := pa_s_mu (TU := TU) (show d < 10 by omega) ht he
  obtain ⟨f1, f2, f3, f4, f5⟩ := hf
  have hI : pa_sub (HI d) i := by
    refine pa_sub_tr ?_ f3
    split
    · exact pa_sub_rf _
    · exact pa_sub_l _ _
  have hO : pa_sub (HO d) o := by
    refine pa_sub_tr ?_ f4
    split
    · exact pa_sub_l _ _
    · exact pa_sub_rf _
  have hU : (i ||| o).testBit u = true := by
    by_cases z : t = 0
    · rw [if_pos z] at f4
      exact pa_sub_r i o u (f4 u (pa_sub_r _ _ u (by rw [Nat.testBit_two_pow_self])))
    · rw [if_neg z] at f3
      exact pa_sub_l i o u (f3 u (pa_sub_r _ _ u (by rw [Nat.testBit_two_pow_self])))
  refine ⟨by omega, ?_, fun j hj => ?_, h4, fun S hS => ?_⟩
  · show step + 1 + (pa_mu (pa_up (pa_up TU d (t + 1)) (d + 1) 0) (d + 1) + pa_R (d + 1) (pa_up (pa_up TU d (t + 1)) (d + 1) 0 (d + 1))) ≤ 4093
    rw [pa_up_s, pa_mu_cg (g := pa_up TU d (t + 1)) (d + 1) (fun j hj => pa_up_n (pa_up TU d (t + 1)) 0 (show j ≠ d + 1 by omega))]
    omega
  · by_cases e : j = d + 1
    · subst e
      rw [pa_up_s, pa_up_s, pa_up_s]
      have g := h3 d (by omega)
      refine ⟨f1, f2, by omega, hd, hcl, pa_sub_tr g.2.2.2.2.2.1 hI, pa_sub_tr g.2.2.2.2.2.2.1 hO, fun x hx hxc => ?_⟩
      by_cases z : x = u
      · rw [z]; exact hU
      · have hh := hu.2.2 x (by omega)
        rw [Nat.testBit_or, Bool.or_eq_true] at hh
        rcases hh with hh | hh
        · exact pa_sub_l i o x (hI x hh)
        · exact pa_sub_r i o x (hO x hh)
    · rw [pa_up_n HI i e, pa_up_n HO o e, pa_up_n (pa_up TU d (t + 1)) 0 e]
      have g := h3 j (by omega)
      by_cases e2 : j = d
      · subst e2
        rw [pa_up_s]
        exact ⟨g.1, g.2.1, by omega, g.2.2.2⟩
      · rw [pa_up_n TU (t + 1) e2]; exact g
  · rcases h5 S hS with g | ⟨j, hj, g⟩
    · exact Or.inl g
    · right
      by_cases e : j = d
      · subst e
        rw [he] at g
        rcases pa_s_split hu ht g with z | z
        · refine ⟨j, by omega, ?_⟩
          rw [pa_up_n HI i (by omega), pa_up_n HO o (by omega), pa_up_n (pa_up TU j (t + 1)) 0 (by omega), pa_up_s]
          exact z
        · refine ⟨j + 1, by omega, ?_⟩
          rw [pa_up_s, pa_up_s, pa_up_s]
          exact ⟨f5 S hS.2.1 z, Or.inl rfl⟩
      · refine ⟨j, by omega, ?_⟩
        rw [pa_up_n HI i (by omega), pa_up_n HO o (by omega), pa_up_n (pa_up TU d (t + 1)) 0 (by omega), pa_up_n TU (t + 1) e]
        exact g
end
end
section
/-! the walks that change nothing -/
theorem pa_btrue {b : Bool} (h : ¬ b = false) : b = true := by cases b <;> first | rfl | exact absurd rfl h
theorem pa_3 (u : Nat) : (3 : Int32) * nI u = nI (3 * u) := pk_mul 3 u
theorem pa_3a {a : Nat → Int32} {u d : Nat} (hu : u < 10) (h : a u = nI d) : (3 : Int32) * nI u + a (nI u).toNatClampNeg = nI (3 * u + d) := by
  rw [nI_clamp (by omega), h, pa_3, nI_add]
theorem pa_z0 {a b : Nat} (ha : a < 1024) : nI a &&& nI b = 0 ↔ pa_dj a b := by
  have h : a &&& b ≤ a := Nat.and_le_left
  rw [pa_and, ← nI_0, nI_eq (by omega) (by omega), pa_dj0]
theorem pa_ad0 (x : Nat) : nI x + 0 = nI x := nI_add x 0
theorem pa_ad2 (x : Nat) : nI x + 2 = nI (x + 2) := nI_add x 2
def pa_ap (bi : Int32) (a8 : Nat → Int32) (k : Nat) : Bool :=
  decide (((a8 k) >>> ((3 : Int32) &&& 31)) &&& 3 = 0) || decide (((bi >>> (((((a8 k) >>> ((3 : Int32) &&& 31)) &&& 3) - 1) &&& 31)) &&& 1) = 1)
def pa_rq (bi : Int32) (a8 : Nat → Int32) (k : Nat) : Bool := decide (a8 k < 32) && pa_ap bi a8 k
def pa_op (bi : Int32) (a8 : Nat → Int32) (k : Nat) : Bool := (!decide (a8 k < 32)) && pa_ap bi a8 k
/-- the prepared arrays hold the model -/
def pa_pd (c : Nat) (a5 a11 a12 a13 : Nat → Int32) (RV LG ND MT : Nat → Nat) : Prop :=
  ∀ u, u < c → (a12 u = nI (RV u) ∧ a13 u = nI (LG u) ∧ a5 u = nI (ND u) ∧ ∀ j, j < ND u → a11 (3 * u + j) = nI (MT (3 * u + j)))
theorem pa_w_ones {post : Int32 → Prop} {x : Int32} {s : Nat} (e : x = nI s) (hs : s < 2 ^ 31) (hp : post (nI (pa_pc s 10))) : wpX_ones post () x := by
  subst e
  exact pk_loop (fun n i y => wX_ones_4 post (nI s) n y (nI i)) (fun i y => y = nI (pa_pc s i)) 10 0 0 (by omega) rfl
    (fun n y h => pk_le 10 10 (fun _ => by rw [h]; exact hp) (fun z => absurd z (by omega)))
    (fun n i y hi h hw => pk_le 10 i (fun z => absurd z (by omega)) (fun _ => nm_r (e' := nI (pa_pc s (i + 1))) (by rw [h, pa_bitv hs (by omega), nI_add]; rfl) (nm_r (nI_1 i) (hw _ rfl))))
theorem pa_w_fo {post : Int32 → Prop} {bi cu no st fi fo bc bs : Int32} {a1 a2 a3 a4 a5 a6 a7 a8 a9 a10 a11 a12 a13 a14 a15 a16 a17 a18 a19 : Nat → Int32} {c d : Nat} {x : Int32} (ex : x = nI d) (hc : c ≤ 10) (hd : d < 1024) (hn : (∀ x, x < c → d.testBit x = true) → post (-1)) (hs : ∀ u, pa_first c d u → post (nI u)) :
    wpX_firstOpen post (nI c, bi, cu, no, st, fi, fo, bc, bs, a1, a2, a3, a4, a5, a6, a7, a8, a9, a10, a11, a12, a13, a14, a15, a16, a17, a18, a19) x := by
  subst ex
  exact pk_loop (σ := Unit) (fun n i _ => wX_firstOpen_2 post (nI d) (nI c) bi cu no st fi fo bc bs a1 a2 a3 a4 a5 a6 a7 a8 a9 a10 a11 a12 a13 a14 a15 a16 a17 a18 a19 n (nI i)) (fun i _ => ∀ x, x < i → d.testBit x = true) c 0 () (by omega) (fun x hx => absurd hx (by omega))
    (fun n _ h => pk_le c c (fun _ => hn h) (fun z => absurd z (by omega)))
    (fun n i _ hi h hw => pk_le c i (fun z => absurd z (by omega)) (fun _ => ek_if (pa_bit0 (by omega) (by omega)) (fun z => hs i ⟨hi, z, h⟩) (fun z => nm_r (nI_1 i) (hw () (lt_s h (pa_btrue z))))))
theorem pa_w_opt {post : Int32 → Prop} {ct bi cu no st fi fo bc bs : Int32} {a1 a2 a3 a4 a5 a6 a7 a8 a9 a10 a11 a12 a13 a14 a15 a16 a17 a18 a19 : Nat → Int32} {k : Nat} (hk : k < 30) (h0 : a8 k < 32 → post 0) (h1 : ¬ a8 k < 32 → post 1) : wpX_isOptional post (ct, bi, cu, no, st, fi, fo, bc, bs, a1, a2, a3, a4, a5, a6, a7, a8, a9, a10, a11, a12, a13, a14, a15, a16, a17, a18, a19) (nI k) := by
  unfold wpX_isOptional
  dsimp only
  rw [nI_clamp (show k < 2 ^ 31 by omega)]
  exact ⟨pk_in k 30 hk, h0, h1⟩
theorem pa_w_app {post : Int32 → Prop} {ct bi cu no st fi fo bc bs : Int32} {a1 a2 a3 a4 a5 a6 a7 a8 a9 a10 a11 a12 a13 a14 a15 a16 a17 a18 a19 : Nat → Int32} {k : Nat} (hk : k < 30) (h0 : pa_ap bi a8 k = false → post 0) (h1 : pa_ap bi a8 k = true → post 1) : wpX_applies post (ct, bi, cu, no, st, fi, fo, bc, bs, a1, a2, a3, a4, a5, a6, a7, a8, a9, a10, a11, a12, a13, a14, a15, a16, a17, a18, a19) (nI k) := by
  unfold wpX_applies
  dsimp only
  rw [nI_clamp (show k < 2 ^ 31 by omega)]
  refine ⟨pk_in k 30 hk, nm_e ?_⟩
  refine br_c (fun g => h1 ?_) (fun g => br_c (fun g2 => h1 ?_) (fun g2 => h0 ?_))
  · unfold pa_ap; rw [decide_eq_true g]; rfl
  · unfold pa_ap; rw [decide_eq_true g2, Bool.or_true]
  · unfold pa_ap; rw [decide_eq_false g, decide_eq_false g2]; rfl
theorem pa_rq_t {bi : Int32} {a8 : Nat → Int32} {k : Nat} (h : a8 k < 32) (g : pa_ap bi a8 k = true) : pa_rq bi a8 k = true := by
  unfold pa_rq; rw [decide_eq_true h, g]; rfl
theorem pa_rq_f1 {bi : Int32} {a8 : Nat → Int32} {k : Nat} (h : ¬ a8 k < 32) : ¬ pa_rq bi a8 k = true := by
  unfold pa_rq; rw [decide_eq_false h]; simp
theorem pa_rq_f2 {bi : Int32} {a8 : Nat → Int32} {k : Nat} (g : pa_ap bi a8 k = false) : ¬ pa_rq bi a8 k = true := by
  unfold pa_rq; rw [g]; simp
theorem pa_op_t {bi : Int32} {a8 : Nat → Int32} {k : Nat} (h : ¬ a8 k < 32) (g : pa_ap bi a8 k = true) : pa_op bi a8 k = true := by
  unfold pa_op; rw [decide_eq_false h, g]; rfl
theorem pa_op_f1 {bi : Int32} {a8 : Nat → Int32} {k : Nat} (h : a8 k < 32) : ¬ pa_op bi a8 k = true := by
  unfold pa_op; rw [decide_eq_true h]; simp
theorem pa_op_f2 {bi : Int32} {a8 : Nat → Int32} {k : Nat} (g : pa_ap bi a8 k = false) : ¬ pa_op bi a8 k = true := by
  unfold pa_op; rw [g]; simp
theorem pa_w_set {post : Int32 → Prop} {bi cu no st fi fo bc bs : Int32} {a1 a2 a3 a4 a5 a6 a7 a8 a9 a10 a11 a12 a13 a14 a15 a16 a17 a18 a19 : Nat → Int32} {c s : Nat} (hc : c ≤ 10) (hs : s < 2 ^ c) (h : post 1) : wpX_isSet post (nI c, bi, cu, no, st, fi, fo, bc, bs, a1, a2, a3, a4, a5, a6, a7, a8, a9, a10, a11, a12, a13, a14, a15, a16, a17, a18, a19) (nI s) := by
  have h1 := pa_p10 hc
  exact br_f (nI_pos (by omega)) (pk_le (2 ^ c) s (fun z => absurd z (by omega)) (fun _ => h) (pa_shl c (by omega)) rfl (by omega) (by omega))
/-! isSound -/
theorem pa_w_is36 {post J : Int32 → Prop} {ct bi cu no st fi fo bc bs : Int32} {a1 a2 a3 a4 a5 a6 a7 a8 a9 a10 a11 a12 a13 a14 a15 a16 a17 a18 a19 : Nat → Int32} {u S : Nat} {ND MT : Nat → Nat} (hu : u < 10) (hS : S < 1024) (hnd : a5 u = nI (ND u)) (h3 : ND u ≤ 3)
    (hmt : ∀ j, j < ND u → a11 (3 * u + j) = nI (MT (3 * u + j)) ∧ MT (3 * u + j) < 1024)
    (H0 : (∃ j, j < ND u ∧ pa_rq bi a8 (3 * u + j) = true ∧ pa_dj (MT (3 * u + j)) S) → post 0)
    (H1 : (∀ j, j < ND u → pa_rq bi a8 (3 * u + j) = true → ¬ pa_dj (MT (3 * u + j)) S) → J (nI (u + 1))) :
    ∃ n, wX_isSound_36 post J (nI S) (nI u) ct bi cu no st fi fo bc bs a1 a2 a3 a4 a5 a6 a7 a8 a9 a10 a11 a12 a13 a14 a15 a16 a17 a18 a19 n (nI (3 * u)) := by
  refine pk_loop (σ := Unit) (fun n i _ => wX_isSound_36 post J (nI S) (nI u) ct bi cu no st fi fo bc bs a1 a2 a3 a4 a5 a6 a7 a8 a9 a10 a11 a12 a13 a14 a15 a16 a17 a18 a19 n (nI (3 * u + i))) (fun i _ => ∀ j, j < i → pa_rq bi a8 (3 * u + j) = true → ¬ pa_dj (MT (3 * u + j)) S) (ND u) 0 () (by omega) (fun j hj => absurd hj (by omega)) (fun n _ h => ?_) (fun n i _ hi h hw => ?_)
  · exact And.intro (pk_in u 10 hu) (pk_le (3 * u + ND u) (3 * u + ND u) (fun _ => nm_r (nI_1 u) (H1 h)) (fun z => absurd z (by omega)) (pa_3a hu hnd))
  · have hk : 3 * u + i < 30 := by omega
    have e : nI (3 * u + i) + 1 = nI (3 * u + (i + 1)) := nI_1 _
    refine And.intro (pk_in u 10 hu) (pk_le (3 * u + ND u) (3 * u + i) (fun z => absurd z (by omega)) (fun _ => ?_) (pa_3a hu hnd))
    refine pa_w_opt hk (fun g => br_t rfl (pa_w_app hk (fun ga => br_t rfl (nm_r e (hw () (lt_s h ?_)))) (fun ga => br_f (by decide) (And.intro (pk_in _ 30 hk) (ek_if (d := pa_dj (MT (3 * u + i)) S) ?_ (fun z => H0 ⟨i, hi, pa_rq_t g ga, z⟩) (fun z => nm_r e (hw () (lt_s h (fun _ => z))))))))) (fun g => br_f (by decide) (nm_r e (hw () (lt_s h ?_))))
    · exact fun q => absurd q (pa_rq_f2 ga)
    · rw [nI_clamp (by omega), (hmt i hi).1]
      exact pa_z0 (hmt i hi).2
    · exact fun q => absurd q (pa_rq_f1 g)
theorem pa_w_is {post : Int32 → Prop} {bi cu no st fi fo bc bs : Int32} {a1 a2 a3 a4 a5 a6 a7 a8 a9 a10 a11 a12 a13 a14 a15 a16 a17 a18 a19 : Nat → Int32} {c S : Nat} {RV LG ND MT : Nat → Nat} (hm : pa_md c RV LG ND MT) (hp : pa_pd c a5 a11 a12 a13 RV LG ND MT) (hS : S < 1024)
    (H1 : pa_ok c RV ND MT (pa_rq bi a8) S → post 1) (H0 : ¬ pa_ok c RV ND MT (pa_rq bi a8) S → post 0) : wpX_isSound post (nI c, bi, cu, no, st, fi, fo, bc, bs, a1, a2, a3, a4, a5, a6, a7, a8, a9, a10, a11, a12, a13, a14, a15, a16, a17, a18, a19) (nI S) := by
  have hc := hm.1
  refine pk_loop (σ := Unit) (fun n i _ => wX_isSound_2 post (nI S) (nI c) bi cu no st fi fo bc bs a1 a2 a3 a4 a5 a6 a7 a8 a9 a10 a11 a12 a13 a14 a15 a16 a17 a18 a19 n (nI i)) (fun i _ => ∀ u, u < i → S.testBit u = true → (pa_dj (RV u) S ∧ ∀ j, j < ND u → pa_rq bi a8 (3 * u + j) = true → ¬ pa_dj (MT (3 * u + j)) S)) c 0 () (by omega) (fun j hj => absurd hj (by omega)) (fun n _ h => pk_le c c (fun _ => H1 h) (fun z => absurd z (by omega))) (fun n i _ hi h hw => ?_)
  refine pk_le c i (fun z => absurd z (by omega)) (fun _ => ek_if (pa_bit1 (by omega) (by omega)) (fun z => ?_) (fun z => nm_r (nI_1 i) (hw () (lt_s h (fun z' => absurd z' z)))))
  obtain ⟨p1, p2, p3, p4⟩ := hp i hi
  obtain ⟨m1, m2, m3, m4⟩ := hm.2 i hi
  refine And.intro (pk_in i 10 (by omega)) (ek_if (d := pa_dj (RV i) S) (by rw [nI_clamp (by omega), p1]; exact pa_z0 (pa_lt10 m1 hc)) (fun z2 => nm_r (pa_3 i) (pa_w_is36 (by omega) hS p3 m3 (fun j hj => ⟨p4 j hj, pa_lt10 (m4 j hj) hc⟩) (fun hx => H0 (fun ok => ?_)) (fun hx => hw () (lt_s h (fun _ => ⟨z2, hx⟩))))) (fun z2 => H0 (fun ok => z2 (ok i hi z).1)))
  obtain ⟨j, hj, hr, hd⟩ := hx
  exact (ok i hi z).2 j hj hr hd
/-! costOf -/
theorem pa_cj_0 {MT : Nat → Nat} {OP : Nat → Bool} {L u j : Nat} (h : ¬ (OP (3 * u + j) = true ∧ pa_df (MT (3 * u + j)) L = 0)) : pa_cj MT OP L u (j + 1) = pa_cj MT OP L u j := by
  show pa_cj MT OP L u j + (if OP (3 * u + j) = true ∧ pa_df (MT (3 * u + j)) L = 0 then 2 else 0) = _
  rw [if_neg h]; rfl
theorem pa_cj_2 {MT : Nat → Nat} {OP : Nat → Bool} {L u j : Nat} (h : OP (3 * u + j) = true ∧ pa_df (MT (3 * u + j)) L = 0) : pa_cj MT OP L u (j + 1) = pa_cj MT OP L u j + 2 := by
  show pa_cj MT OP L u j + (if OP (3 * u + j) = true ∧ pa_df (MT (3 * u + j)) L = 0 then 2 else 0) = _
  rw [if_pos h]
theorem pa_w_c64 {post : Int32 → Prop} {J : Int32 → Int32 → Prop} {ct bi cu no st fi fo bc bs : Int32} {a1 a2 a3 a4 a5 a6 a7 a8 a9 a10 a11 a12 a13 a14 a15 a16 a17 a18 a19 : Nat → Int32} {x1 left : Int32} {u lf B : Nat} {ND MT : Nat → Nat} (hu : u < 10) (hl : pa_lr left lf) (hnd : a5 u = nI (ND u)) (h3 : ND u ≤ 3)
    (hmt : ∀ j, j < ND u → a11 (3 * u + j) = nI (MT (3 * u + j)) ∧ MT (3 * u + j) < 1024)
    (H : J (nI (B + pa_cj MT (pa_op bi a8) lf u (ND u))) (nI (u + 1))) :
    ∃ n, wX_costOf_64 post J x1 left (nI u) ct bi cu no st fi fo bc bs a1 a2 a3 a4 a5 a6 a7 a8 a9 a10 a11 a12 a13 a14 a15 a16 a17 a18 a19 n (nI B) (nI (3 * u)) := by
  refine pk_loop (fun n i s => wX_costOf_64 post J x1 left (nI u) ct bi cu no st fi fo bc bs a1 a2 a3 a4 a5 a6 a7 a8 a9 a10 a11 a12 a13 a14 a15 a16 a17 a18 a19 n s (nI (3 * u + i))) (fun i s => s = nI (B + pa_cj MT (pa_op bi a8) lf u i)) (ND u) 0 (nI B) (by omega) rfl (fun n s h => ?_) (fun n i s hi h hw => ?_)
  · exact And.intro (pk_in u 10 hu) (pk_le (3 * u + ND u) (3 * u + ND u) (fun _ => nm_r (nI_1 u) (by rw [h]; exact H)) (fun z => absurd z (by omega)) (pa_3a hu hnd))
  · have hk : 3 * u + i < 30 := by omega
    have e : nI (3 * u + i) + 1 = nI (3 * u + (i + 1)) := nI_1 _
    have no : ∀ (g : ¬ (pa_op bi a8 (3 * u + i) = true ∧ pa_df (MT (3 * u + i)) lf = 0)), s + 0 = nI (B + pa_cj MT (pa_op bi a8) lf u (i + 1)) := fun g => by rw [h, pa_cj_0 g, pa_ad0]
    refine And.intro (pk_in u 10 hu) (pk_le (3 * u + ND u) (3 * u + i) (fun z => absurd z (by omega)) (fun _ => ?_) (pa_3a hu hnd))
    refine pa_w_opt hk (fun g => br_t rfl (nm_r (no (fun q => pa_op_f1 g q.1)) (nm_r e (hw _ rfl)))) (fun g => br_f (by decide) (pa_w_app hk (fun ga => br_t rfl (nm_r (no (fun q => pa_op_f2 ga q.1)) (nm_r e (hw _ rfl)))) (fun ga => br_f (by decide) (And.intro (pk_in _ 30 hk) (ek_if (d := pa_df (MT (3 * u + i)) lf = 0) ?_ (fun z => nm_r (e' := nI (B + pa_cj MT (pa_op bi a8) lf u (i + 1))) ?_ (nm_r e (hw _ rfl))) (fun z => nm_r (no (fun q => z q.2)) (nm_r e (hw _ rfl))))))))
    · rw [nI_clamp (by omega), (hmt i hi).1, (hl _ (hmt i hi).2).2, ← nI_0, nI_eq _ (by omega)]
      have := pa_df_lt (c := 10) (hmt i hi).2 lf
      omega
    · rw [h, pa_cj_2 ⟨pa_op_t g ga, z⟩, pa_ad2]; rfl
theorem pa_w_cost {post : Int32 → Prop} {bi no st fi fo bc bs : Int32} {a1 a2 a3 a4 a5 a6 a7 a8 a9 a10 a11 a12 a13 a14 a15 a16 a17 a18 a19 : Nat → Int32} {left : Int32} {c cur T lf : Nat} {RV LG ND MT : Nat → Nat} (hm : pa_md c RV LG ND MT) (hp : pa_pd c a5 a11 a12 a13 RV LG ND MT) (hT : T < 1024) (hcur : cur < 1024) (hl : pa_lr left lf)
    (H : post (nI (pa_cost c cur LG ND MT (pa_op bi a8) T lf))) : wpX_costOf post (nI c, bi, nI cur, no, st, fi, fo, bc, bs, a1, a2, a3, a4, a5, a6, a7, a8, a9, a10, a11, a12, a13, a14, a15, a16, a17, a18, a19) (nI T) left := by
  have hc := hm.1
  have b1 := pa_df_lt (c := 10) hT cur
  have b2 : cur &&& lf ≤ cur := Nat.and_le_left
  unfold wpX_costOf
  dsimp only
  refine pa_w_ones (pa_not hT cur) (by omega) (pa_w_ones (hl cur hcur).1 (by omega) (nm_r (e' := nI (5 * pa_pc (pa_df T cur) 10 + 3 * pa_pc (cur &&& lf) 10)) (by rw [← nI_add, ← pk_mul, ← pk_mul]; rfl) ?_))
  refine pk_loop (fun n i s => wX_costOf_29 post (nI T) left (nI c) bi (nI cur) no st fi fo bc bs a1 a2 a3 a4 a5 a6 a7 a8 a9 a10 a11 a12 a13 a14 a15 a16 a17 a18 a19 n s (nI i)) (fun i s => s = nI ((5 * pa_pc (pa_df T cur) 10 + 3 * pa_pc (cur &&& lf) 10) + pa_cu LG ND MT (pa_op bi a8) T lf i)) c 0 _ (by omega) rfl (fun n s h => pk_le c c (fun _ => by rw [h]; exact H) (fun z => absurd z (by omega))) (fun n i s hi h hw => ?_)
  obtain ⟨p1, p2, p3, p4⟩ := hp i hi
  obtain ⟨m1, m2, m3, m4⟩ := hm.2 i hi
  refine pk_le c i (fun z => absurd z (by omega)) (fun _ => ek_if (pa_bit1 (by omega) (by omega)) (fun z => ?_) (fun z => nm_r (nI_1 i) (hw _ ?_)))
  · refine And.intro (pk_in i 10 (by omega)) (nm_r (e' := nI (((5 * pa_pc (pa_df T cur) 10 + 3 * pa_pc (cur &&& lf) 10) + pa_cu LG ND MT (pa_op bi a8) T lf i) + LG i)) ?_ (nm_r (pa_3 i) (pa_w_c64 (by omega) hl p3 m3 (fun j hj => ⟨p4 j hj, pa_lt10 (m4 j hj) hc⟩) (hw _ ?_))))
    · rw [nI_clamp (by omega), h, p2, nI_add]
    · show _ = nI (_ + (pa_cu LG ND MT (pa_op bi a8) T lf i + (if T.testBit i = true then LG i + pa_cj MT (pa_op bi a8) lf i (ND i) else 0)))
      rw [if_pos z]
      congr 1
      omega
  · rw [h]
    show _ = nI (_ + (pa_cu LG ND MT (pa_op bi a8) T lf i + (if T.testBit i = true then LG i + pa_cj MT (pa_op bi a8) lf i (ND i) else 0)))
    rw [if_neg z]; rfl
end
section
/-! prepare: the model out of the base -/
def pa_fit (a6 a7 a8 a9 a10 : Nat → Int32) (q k : Nat) : Bool := (!decide (a7 k < a9 q)) && ((!decide (a10 q < a7 k)) && decide (a6 k = (a8 q &&& 7)))
def pa_mt1 (a6 a7 a8 a9 a10 : Nat → Int32) (q v s : Nat) : Nat → Nat
  | 0 => s
  | j + 1 => if pa_fit a6 a7 a8 a9 a10 q (3 * v + j) = true then pa_mt1 a6 a7 a8 a9 a10 q v s j ||| 2 ^ v else pa_mt1 a6 a7 a8 a9 a10 q v s j
def pa_mt (a4 a6 a7 a8 a9 a10 : Nat → Int32) (q : Nat) : Nat → Nat
  | 0 => 0
  | v + 1 => pa_mt1 a6 a7 a8 a9 a10 q v (pa_mt a4 a6 a7 a8 a9 a10 q v) (a4 v).toNatClampNeg
def pa_lg (a1 a2 : Nat → Int32) (u : Nat) : Nat → Nat
  | 0 => 0
  | v + 1 => if a1 u = a1 v then max (pa_lg a1 a2 u v) ((a2 v).toNatClampNeg - (a2 u).toNatClampNeg) else pa_lg a1 a2 u v
def pa_rv (a1 a3 : Nat → Int32) (u : Nat) : Nat → Nat
  | 0 => 0
  | v + 1 => if a1 u = a1 v then (if u ≠ v ∧ ¬ (a3 u = 0 ∧ a3 v = 0) then pa_rv a1 a3 u v ||| 2 ^ v else pa_rv a1 a3 u v) else pa_rv a1 a3 u v
def pa_RV (c : Nat) (a1 a3 : Nat → Int32) (u : Nat) : Nat := pa_rv a1 a3 u c
def pa_LG (c : Nat) (a1 a2 : Nat → Int32) (u : Nat) : Nat := pa_lg a1 a2 u c
def pa_ND (a5 : Nat → Int32) (u : Nat) : Nat := (a5 u).toNatClampNeg
def pa_MT (c : Nat) (a4 a6 a7 a8 a9 a10 : Nat → Int32) (q : Nat) : Nat := pa_mt a4 a6 a7 a8 a9 a10 q c
def pa_wb (c : Nat) (a2 a4 a5 : Nat → Int32) : Prop := c ≤ 10 ∧ ∀ u, u < c → ((∃ v, v ≤ 9 ∧ a2 u = nI v) ∧ (∃ v, v ≤ 3 ∧ a4 u = nI v) ∧ (∃ v, v ≤ 3 ∧ a5 u = nI v))
theorem pa_val {x : Int32} {m : Nat} (hm : m < 2 ^ 31) (h : ∃ v, v ≤ m ∧ x = nI v) : x = nI x.toNatClampNeg ∧ x.toNatClampNeg ≤ m := by
  obtain ⟨v, hv, rfl⟩ := h
  rw [nI_clamp (by omega)]
  exact ⟨rfl, hv⟩
theorem pa_mt1_lt {a6 a7 a8 a9 a10 : Nat → Int32} {q v s : Nat} (hs : s < 2 ^ (v + 1)) (j : Nat) : pa_mt1 a6 a7 a8 a9 a10 q v s j < 2 ^ (v + 1) := by
  induction j with
  | zero => exact hs
  | succ j ih =>
    show (if pa_fit a6 a7 a8 a9 a10 q (3 * v + j) = true then pa_mt1 a6 a7 a8 a9 a10 q v s j ||| 2 ^ v else pa_mt1 a6 a7 a8 a9 a10 q v s j) < 2 ^ (v + 1)
    split
    · exact Nat.or_lt_two_pow ih (pa_pwlt (by omega))
    · exact ih
theorem pa_mt_lt {a4 a6 a7 a8 a9 a10 : Nat → Int32} {q : Nat} (v : Nat) : pa_mt a4 a6 a7 a8 a9 a10 q v < 2 ^ v := by
  induction v with
  | zero => exact (by decide : 0 < 2 ^ 0)
  | succ v ih => exact pa_mt1_lt (Nat.lt_trans ih (pa_pwlt (by omega))) _
theorem pa_rv_lt {a1 a3 : Nat → Int32} {u : Nat} (v : Nat) : pa_rv a1 a3 u v < 2 ^ v := by
  induction v with
  | zero => exact (by decide : 0 < 2 ^ 0)
  | succ v ih =>
    have h : pa_rv a1 a3 u v < 2 ^ (v + 1) := Nat.lt_trans ih (pa_pwlt (by omega))
    show (if a1 u = a1 v then (if u ≠ v ∧ ¬ (a3 u = 0 ∧ a3 v = 0) then pa_rv a1 a3 u v ||| 2 ^ v else pa_rv a1 a3 u v) else pa_rv a1 a3 u v) < 2 ^ (v + 1)
    split
    · split
      · exact Nat.or_lt_two_pow h (pa_pwlt (by omega))
      · exact h
    · exact h
theorem pa_lg_le {c : Nat} {a1 a2 a4 a5 : Nat → Int32} (hb : pa_wb c a2 a4 a5) (u v : Nat) (hv : v ≤ c) : pa_lg a1 a2 u v ≤ 9 := by
  induction v with
  | zero => exact Nat.zero_le _
  | succ v ih =>
    have h := ih (by omega)
    have h2 := (pa_val (by decide) (hb.2 v (by omega)).1).2
    show (if a1 u = a1 v then max (pa_lg a1 a2 u v) ((a2 v).toNatClampNeg - (a2 u).toNatClampNeg) else pa_lg a1 a2 u v) ≤ 9
    split <;> omega
theorem pa_md_of {c : Nat} {a1 a2 a3 a4 a5 a6 a7 a8 a9 a10 : Nat → Int32} (hb : pa_wb c a2 a4 a5) : pa_md c (pa_RV c a1 a3) (pa_LG c a1 a2) (pa_ND a5) (pa_MT c a4 a6 a7 a8 a9 a10) :=
  ⟨hb.1, fun u hu => ⟨pa_rv_lt c, pa_lg_le hb u c (Nat.le_refl c), (pa_val (by decide) (hb.2 u hu).2.2).2, fun j _ => pa_mt_lt c⟩⟩
/-! findMeeters -/
theorem pa_w_fm17 {post : Int32 → Prop} {J : Int32 → Int32 → Prop} {ct bi cu no st fi fo bc bs : Int32} {a1 a2 a3 a4 a5 a6 a7 a8 a9 a10 a11 a12 a13 a14 a15 a16 a17 a18 a19 : Nat → Int32} {q v s0 d : Nat} (hq : q < 30) (hv : v < 10) (hd : a4 v = nI d) (h3 : d ≤ 3)
    (H : J (nI (pa_mt1 a6 a7 a8 a9 a10 q v s0 d)) (nI (v + 1))) : ∃ n, wX_findMeeters_17 post J (nI q) (nI v) ct bi cu no st fi fo bc bs a1 a2 a3 a4 a5 a6 a7 a8 a9 a10 a11 a12 a13 a14 a15 a16 a17 a18 a19 n (nI s0) (nI (3 * v)) := by
  refine pk_loop (fun n i s => wX_findMeeters_17 post J (nI q) (nI v) ct bi cu no st fi fo bc bs a1 a2 a3 a4 a5 a6 a7 a8 a9 a10 a11 a12 a13 a14 a15 a16 a17 a18 a19 n s (nI (3 * v + i))) (fun i s => s = nI (pa_mt1 a6 a7 a8 a9 a10 q v s0 i)) d 0 (nI s0) (by omega) rfl (fun n s h => ?_) (fun n i s hi h hw => ?_)
  · exact And.intro (pk_in v 10 hv) (pk_le (3 * v + d) (3 * v + d) (fun _ => nm_r (nI_1 v) (by rw [h]; exact H)) (fun z => absurd z (by omega)) (pa_3a hv hd))
  · have hk : 3 * v + i < 30 := by omega
    have e : nI (3 * v + i) + 1 = nI (3 * v + (i + 1)) := nI_1 _
    have no : ∀ (g : ¬ pa_fit a6 a7 a8 a9 a10 q (3 * v + i) = true), s = nI (pa_mt1 a6 a7 a8 a9 a10 q v s0 (i + 1)) := fun g => by
      rw [h]
      show _ = nI (if pa_fit a6 a7 a8 a9 a10 q (3 * v + i) = true then pa_mt1 a6 a7 a8 a9 a10 q v s0 i ||| 2 ^ v else pa_mt1 a6 a7 a8 a9 a10 q v s0 i)
      rw [if_neg g]
    refine And.intro (pk_in v 10 hv) (pk_le (3 * v + d) (3 * v + i) (fun z => absurd z (by omega)) (fun _ => ?_) (pa_3a hv hd))
    rw [nI_clamp (show q < 2 ^ 31 by omega), nI_clamp (show 3 * v + i < 2 ^ 31 by omega)]
    refine ⟨pk_in _ 30 hk, pk_in _ 30 hq, br_c (fun g => br_t rfl (nm_r e (hw _ (no ?_)))) (fun g => ⟨pk_in _ 30 hk, pk_in _ 30 hq, br_c (fun g2 => br_t rfl (nm_r e (hw _ (no ?_)))) (fun g2 => br_f (by decide) ?_)⟩)⟩
    · unfold pa_fit; rw [decide_eq_true g]; simp
    · unfold pa_fit; rw [decide_eq_true g2]; simp
    · rw [nI_clamp (show q < 2 ^ 31 by omega), nI_clamp (show 3 * v + i < 2 ^ 31 by omega)]
      refine ⟨pk_in _ 30 hk, pk_in _ 30 hq, br_c (fun g3 => nm_r (e' := nI (pa_mt1 a6 a7 a8 a9 a10 q v s0 (i + 1))) ?_ (nm_r e (hw _ rfl))) (fun g3 => nm_r e (hw _ (no ?_)))⟩
      · rw [h, pa_shl v (by omega), pa_or]
        show _ = nI (if pa_fit a6 a7 a8 a9 a10 q (3 * v + i) = true then pa_mt1 a6 a7 a8 a9 a10 q v s0 i ||| 2 ^ v else pa_mt1 a6 a7 a8 a9 a10 q v s0 i)
        rw [if_pos (show pa_fit a6 a7 a8 a9 a10 q (3 * v + i) = true by unfold pa_fit; rw [decide_eq_false g, decide_eq_false g2, decide_eq_true g3]; rfl)]
      · unfold pa_fit; rw [decide_eq_false g3]; simp
theorem pa_w_fm {post : Int32 → Prop} {bi cu no st fi fo bc bs : Int32} {a1 a2 a3 a4 a5 a6 a7 a8 a9 a10 a11 a12 a13 a14 a15 a16 a17 a18 a19 : Nat → Int32} {c q : Nat} (hb : pa_wb c a2 a4 a5) (hq : q < 30) (H : post (nI (pa_MT c a4 a6 a7 a8 a9 a10 q))) : wpX_findMeeters post (nI c, bi, cu, no, st, fi, fo, bc, bs, a1, a2, a3, a4, a5, a6, a7, a8, a9, a10, a11, a12, a13, a14, a15, a16, a17, a18, a19) (nI q) := by
  have hc := hb.1
  refine pk_loop (fun n i s => wX_findMeeters_4 post (nI q) (nI c) bi cu no st fi fo bc bs a1 a2 a3 a4 a5 a6 a7 a8 a9 a10 a11 a12 a13 a14 a15 a16 a17 a18 a19 n s (nI i)) (fun i s => s = nI (pa_mt a4 a6 a7 a8 a9 a10 q i)) c 0 0 (by omega) rfl (fun n s h => pk_le c c (fun _ => by rw [h]; exact H) (fun z => absurd z (by omega))) (fun n i s hi h hw => ?_)
  obtain ⟨e1, e2⟩ := pa_val (by decide) (hb.2 i hi).2.1
  refine pk_le c i (fun z => absurd z (by omega)) (fun _ => nm_r (pa_3 i) ?_)
  rw [h]
  exact pa_w_fm17 hq (by omega) e1 e2 (hw _ rfl)
/-! prepare -/
theorem pa_w_p138 {post : St1 → Prop} {J : Int32 → (Nat → Int32) → (Nat → Int32) → (Nat → Int32) → (Nat → Int32) → (Nat → Int32) → (Nat → Int32) → (Nat → Int32) → (Nat → Int32) → (Nat → Int32) → (Nat → Int32) → (Nat → Int32) → (Nat → Int32) → (Nat → Int32) → (Nat → Int32) → (Nat → Int32) → (Nat → Int32) → (Nat → Int32) → (Nat → Int32) → (Nat → Int32) → Prop} {bi cu no st fi fo bc bs : Int32} {a1 a2 a3 a4 a5 a6 a7 a8 a9 a10 a11 a12 a13 a14 a15 a16 a17 a18 a19 : Nat → Int32} {c u : Nat} (hb : pa_wb c a2 a4 a5) (hu : u < c)
    (H : ∀ b11, (∀ j, j < pa_ND a5 u → b11 (3 * u + j) = nI (pa_MT c a4 a6 a7 a8 a9 a10 (3 * u + j))) → (∀ k, k < 3 * u → b11 k = a11 k) → J (nI (u + 1)) a1 a2 a3 a4 a5 a6 a7 a8 a9 a10 b11 a12 a13 a14 a15 a16 a17 a18 a19) :
    ∃ n, wX_prepare_138 post J (nI u) (nI c) bi cu no st fi fo bc bs n (nI (3 * u)) a1 a2 a3 a4 a5 a6 a7 a8 a9 a10 a11 a12 a13 a14 a15 a16 a17 a18 a19 := by
  have hc := hb.1
  obtain ⟨e1, e2⟩ := pa_val (by decide) (hb.2 u hu).2.2
  have e3 : a5 u = nI (pa_ND a5 u) := e1
  have e4 : pa_ND a5 u ≤ 3 := e2
  refine pk_loop (fun n i s => wX_prepare_138 post J (nI u) (nI c) bi cu no st fi fo bc bs n (nI (3 * u + i)) a1 a2 a3 a4 a5 a6 a7 a8 a9 a10 s a12 a13 a14 a15 a16 a17 a18 a19) (fun i s => (∀ j, j < i → s (3 * u + j) = nI (pa_MT c a4 a6 a7 a8 a9 a10 (3 * u + j))) ∧ ∀ k, k < 3 * u → s k = a11 k) (pa_ND a5 u) 0 a11 (by omega) ⟨fun j hj => absurd hj (by omega), fun _ _ => rfl⟩ (fun n s h => ?_) (fun n i s hi h hw => ?_)
  · exact And.intro (pk_in u 10 (by omega)) (pk_le (3 * u + pa_ND a5 u) (3 * u + pa_ND a5 u) (fun _ => nm_r (nI_1 u) (H s h.1 h.2)) (fun z => absurd z (by omega)) (pa_3a (by omega) e3))
  · have hk : 3 * u + i < 30 := by omega
    have e : nI (3 * u + i) + 1 = nI (3 * u + (i + 1)) := nI_1 _
    refine And.intro (pk_in u 10 (by omega)) (pk_le (3 * u + pa_ND a5 u) (3 * u + i) (fun z => absurd z (by omega)) (fun _ => ?_) (pa_3a (by omega) e3))
    refine pa_w_fm hb hk (And.intro (pk_in _ 30 hk) (nm_e (nm_r e (hw _ ⟨fun j hj => ?_, fun k hk2 => ?_⟩))))
    · rw [nI_clamp (show 3 * u + i < 2 ^ 31 by omega)]
      by_cases z : j = i
      · rw [z, pk_us]
      · rw [pk_un (by omega)]; exact h.1 j (by omega)
    · rw [nI_clamp (show 3 * u + i < 2 ^ 31 by omega), pk_un (by omega)]; exact h.2 k hk2
theorem pa_w_p112 {post : St1 → Prop} {J J26 : Int32 → (Nat → Int32) → (Nat → Int32) → (Nat → Int32) → (Nat → Int32) → (Nat → Int32) → (Nat → Int32) → (Nat → Int32) → (Nat → Int32) → (Nat → Int32) → (Nat → Int32) → (Nat → Int32) → (Nat → Int32) → (Nat → Int32) → (Nat → Int32) → (Nat → Int32) → (Nat → Int32) → (Nat → Int32) → (Nat → Int32) → (Nat → Int32) → Prop} {ct bi cu no st fi fo bc bs : Int32} {a1 a2 a3 a4 a5 a6 a7 a8 a9 a10 a11 a12 a13 a14 a15 a16 a17 a18 a19 : Nat → Int32} {u v r : Nat} (hu : u < 10) (hv : v < 10) (h12 : a12 u = nI r)
    (H : ∀ b12, b12 u = nI (r ||| 2 ^ v) → (∀ j, j ≠ u → b12 j = a12 j) → J26 (nI (v + 1)) a1 a2 a3 a4 a5 a6 a7 a8 a9 a10 a11 b12 a13 a14 a15 a16 a17 a18 a19) : wX_prepare_112 post J J26 (nI u) (nI v) ct bi cu no st fi fo bc bs a1 a2 a3 a4 a5 a6 a7 a8 a9 a10 a11 a12 a13 a14 a15 a16 a17 a18 a19 := by
  refine And.intro (pk_in u 10 hu) (And.intro (pk_in u 10 hu) (nm_e (nm_r (nI_1 v) (H _ ?_ (fun j hj => ?_)))))
  · rw [nI_clamp (show u < 2 ^ 31 by omega), pk_us, h12, pa_shl v (by omega), pa_or]
  · rw [nI_clamp (show u < 2 ^ 31 by omega)]; exact pk_un hj
theorem pa_w_p88 {post : St1 → Prop} {J J26 : Int32 → (Nat → Int32) → (Nat → Int32) → (Nat → Int32) → (Nat → Int32) → (Nat → Int32) → (Nat → Int32) → (Nat → Int32) → (Nat → Int32) → (Nat → Int32) → (Nat → Int32) → (Nat → Int32) → (Nat → Int32) → (Nat → Int32) → (Nat → Int32) → (Nat → Int32) → (Nat → Int32) → (Nat → Int32) → (Nat → Int32) → (Nat → Int32) → Prop} {ct bi cu no st fi fo bc bs : Int32} {a1 a2 a3 a4 a5 a6 a7 a8 a9 a10 a11 a12 a13 a14 a15 a16 a17 a18 a19 : Nat → Int32} {z0 : Int32} {u v r : Nat} (hu : u < 10) (hv : v < 10) (h12 : a12 u = nI r)
    (H : ∀ b12, b12 u = nI (if u ≠ v ∧ ¬ (a3 u = 0 ∧ a3 v = 0) then r ||| 2 ^ v else r) → (∀ j, j ≠ u → b12 j = a12 j) → J26 (nI (v + 1)) a1 a2 a3 a4 a5 a6 a7 a8 a9 a10 a11 b12 (upd a13 u z0) a14 a15 a16 a17 a18 a19) :
    wX_prepare_88 post J J26 (nI u) (nI v) z0 (nI u) ct bi cu no st fi fo bc bs a1 a2 a3 a4 a5 a6 a7 a8 a9 a10 a11 a12 a13 a14 a15 a16 a17 a18 a19 := by
  unfold wX_prepare_88
  rw [nI_clamp (show u < 2 ^ 31 by omega), nI_clamp (show v < 2 ^ 31 by omega)]
  refine ⟨pk_in u 10 hu, nm_e ?_⟩
  refine pk_eq u v (fun z => nm_r (nI_1 v) (H a12 ?_ (fun _ _ => rfl))) (fun z => ⟨pk_in u 10 hu, br_c (fun g => ⟨pk_in v 10 hv, br_c (fun g2 => nm_r (nI_1 v) (H a12 ?_ (fun _ _ => rfl))) (fun g2 => pa_w_p112 hu hv h12 (fun b12 h1 h2 => H b12 ?_ h2))⟩) (fun g => pa_w_p112 hu hv h12 (fun b12 h1 h2 => H b12 ?_ h2))⟩)
  · rw [if_neg (fun q => q.1 z)]; exact h12
  · rw [if_neg (fun q => q.2 ⟨g, g2⟩)]; exact h12
  · rw [if_pos ⟨z, fun q => g2 q.2⟩]; exact h1
  · rw [if_pos ⟨z, fun q => g q.1⟩]; exact h1
theorem pa_lagle {a b l : Nat} (ha : a ≤ 9) (hb : b ≤ 9) (hl : l ≤ 9) : nI a - nI b ≤ nI l ↔ a - b ≤ l := by
  rw [Int32.le_iff_toInt_le, pk_sub_toInt (by omega) (by omega), nI_toInt (by omega)]
  omega
theorem pa_w_p26 {post : St1 → Prop} {J : Int32 → (Nat → Int32) → (Nat → Int32) → (Nat → Int32) → (Nat → Int32) → (Nat → Int32) → (Nat → Int32) → (Nat → Int32) → (Nat → Int32) → (Nat → Int32) → (Nat → Int32) → (Nat → Int32) → (Nat → Int32) → (Nat → Int32) → (Nat → Int32) → (Nat → Int32) → (Nat → Int32) → (Nat → Int32) → (Nat → Int32) → (Nat → Int32) → Prop} {bi cu no st fi fo bc bs : Int32} {a1 a2 a3 a4 a5 a6 a7 a8 a9 a10 a11 a12 a13 a14 a15 a16 a17 a18 a19 : Nat → Int32} {c u : Nat} (hb : pa_wb c a2 a4 a5) (hu : u < c) (h12 : a12 u = 0) (h13 : a13 u = 0)
    (H : ∀ b12 b13, b12 u = nI (pa_RV c a1 a3 u) → b13 u = nI (pa_LG c a1 a2 u) → (∀ j, j ≠ u → b12 j = a12 j ∧ b13 j = a13 j) → ∃ n, wX_prepare_138 post J (nI u) (nI c) bi cu no st fi fo bc bs n (nI (3 * u)) a1 a2 a3 a4 a5 a6 a7 a8 a9 a10 a11 b12 b13 a14 a15 a16 a17 a18 a19) :
    ∃ n, wX_prepare_26 post J (nI u) (nI c) bi cu no st fi fo bc bs n 0 a1 a2 a3 a4 a5 a6 a7 a8 a9 a10 a11 a12 a13 a14 a15 a16 a17 a18 a19 := by
  have hc := hb.1
  refine pk_loop (σ := (Nat → Int32) × (Nat → Int32)) (fun n v s => wX_prepare_26 post J (nI u) (nI c) bi cu no st fi fo bc bs n (nI v) a1 a2 a3 a4 a5 a6 a7 a8 a9 a10 a11 (s.1) (s.2) a14 a15 a16 a17 a18 a19) (fun v s => s.1 u = nI (pa_rv a1 a3 u v) ∧ s.2 u = nI (pa_lg a1 a2 u v) ∧ ∀ j, j ≠ u → s.1 j = a12 j ∧ s.2 j = a13 j) c 0 (a12, a13) (by omega) ⟨h12, h13, fun _ _ => ⟨rfl, rfl⟩⟩ (fun n s h => ?_) (fun n v s hv h hw => ?_)
  · exact pk_le c c (fun _ => nm_r (pa_3 u) (H s.1 s.2 h.1 h.2.1 h.2.2)) (fun z => absurd z (by omega))
  · obtain ⟨h1, h2, h3⟩ := h
    obtain ⟨eu, eu9⟩ := pa_val (by decide) (hb.2 u hu).1
    obtain ⟨ev, ev9⟩ := pa_val (by decide) (hb.2 v hv).1
    have hl9 := pa_lg_le (a1 := a1) hb u v (by omega)
    refine pk_le c v (fun z => absurd z (by omega)) (fun _ => ?_)
    rw [nI_clamp (show u < 2 ^ 31 by omega), nI_clamp (show v < 2 ^ 31 by omega)]
    refine ⟨pk_in u 10 (by omega), pk_in v 10 (by omega), br_c (fun g => ⟨pk_in v 10 (by omega), pk_in u 10 (by omega), nm_e ⟨pk_in u 10 (by omega), ?_⟩⟩) (fun g => nm_r (nI_1 v) (hw s ⟨?_, ?_, h3⟩))⟩
    · refine ek_if (d := (a2 v).toNatClampNeg - (a2 u).toNatClampNeg ≤ pa_lg a1 a2 u v) ?_ (fun z => ⟨pk_in u 10 (by omega), pa_w_p88 (by omega) (by omega) h1 (fun b12 k1 k2 => hw (b12, upd s.2 u (s.2 u)) ⟨?_, ?_, fun j hj => ⟨?_, ?_⟩⟩)⟩) (fun z => pa_w_p88 (by omega) (by omega) h1 (fun b12 k1 k2 => hw (b12, upd s.2 u (a2 v - a2 u)) ⟨?_, ?_, fun j hj => ⟨?_, ?_⟩⟩))
      · have q := pa_lagle ev9 eu9 hl9
        rw [← ev, ← eu, ← h2] at q
        exact q
      · show b12 u = nI (if a1 u = a1 v then (if u ≠ v ∧ ¬ (a3 u = 0 ∧ a3 v = 0) then pa_rv a1 a3 u v ||| 2 ^ v else pa_rv a1 a3 u v) else pa_rv a1 a3 u v)
        rw [if_pos g]; exact k1
      · show upd s.2 u (s.2 u) u = nI (if a1 u = a1 v then max (pa_lg a1 a2 u v) ((a2 v).toNatClampNeg - (a2 u).toNatClampNeg) else pa_lg a1 a2 u v)
        rw [if_pos g, pk_us, h2]
        congr 1
        omega
      · exact (k2 j hj).trans (h3 j hj).1
      · show upd s.2 u (s.2 u) j = a13 j
        rw [pk_un hj]; exact (h3 j hj).2
      · show b12 u = nI (if a1 u = a1 v then (if u ≠ v ∧ ¬ (a3 u = 0 ∧ a3 v = 0) then pa_rv a1 a3 u v ||| 2 ^ v else pa_rv a1 a3 u v) else pa_rv a1 a3 u v)
        rw [if_pos g]; exact k1
      · show upd s.2 u (a2 v - a2 u) u = nI (if a1 u = a1 v then max (pa_lg a1 a2 u v) ((a2 v).toNatClampNeg - (a2 u).toNatClampNeg) else pa_lg a1 a2 u v)
        rw [if_pos g, pk_us]
        have q : nI (a2 v).toNatClampNeg - nI (a2 u).toNatClampNeg = nI ((a2 v).toNatClampNeg - (a2 u).toNatClampNeg) := pk_sub (by omega)
        rw [← ev, ← eu] at q
        rw [q]
        congr 1
        omega
      · exact (k2 j hj).trans (h3 j hj).1
      · show upd s.2 u (a2 v - a2 u) j = a13 j
        rw [pk_un hj]; exact (h3 j hj).2
    · show s.1 u = nI (if a1 u = a1 v then (if u ≠ v ∧ ¬ (a3 u = 0 ∧ a3 v = 0) then pa_rv a1 a3 u v ||| 2 ^ v else pa_rv a1 a3 u v) else pa_rv a1 a3 u v)
      rw [if_neg g]; exact h1
    · show s.2 u = nI (if a1 u = a1 v then max (pa_lg a1 a2 u v) ((a2 v).toNatClampNeg - (a2 u).toNatClampNeg) else pa_lg a1 a2 u v)
      rw [if_neg g]; exact h2
theorem pa_w_prep {post : St1 → Prop} {bi cu no st fi fo bc bs : Int32} {a1 a2 a3 a4 a5 a6 a7 a8 a9 a10 a11 a12 a13 a14 a15 a16 a17 a18 a19 : Nat → Int32} {c : Nat} (hb : pa_wb c a2 a4 a5)
    (H : ∀ b11 b12 b13, pa_pd c a5 b11 b12 b13 (pa_RV c a1 a3) (pa_LG c a1 a2) (pa_ND a5) (pa_MT c a4 a6 a7 a8 a9 a10) → post (nI c, bi, cu, no, st, fi, fo, bc, bs, a1, a2, a3, a4, a5, a6, a7, a8, a9, a10, b11, b12, b13, a14, a15, a16, a17, a18, a19)) :
    wpX_prepare post (nI c, bi, cu, no, st, fi, fo, bc, bs, a1, a2, a3, a4, a5, a6, a7, a8, a9, a10, a11, a12, a13, a14, a15, a16, a17, a18, a19) := by
  have hc := hb.1
  refine pk_loop (σ := (Nat → Int32) × (Nat → Int32) × (Nat → Int32)) (fun n u s => wX_prepare_2 post (nI c) bi cu no st fi fo bc bs n (nI u) a1 a2 a3 a4 a5 a6 a7 a8 a9 a10 (s.1) (s.2.1) (s.2.2) a14 a15 a16 a17 a18 a19) (fun u s => ∀ v, v < u → (s.2.1 v = nI (pa_RV c a1 a3 v) ∧ s.2.2 v = nI (pa_LG c a1 a2 v) ∧ ∀ j, j < pa_ND a5 v → s.1 (3 * v + j) = nI (pa_MT c a4 a6 a7 a8 a9 a10 (3 * v + j)))) c 0 (a11, a12, a13) (by omega) (fun v hv => absurd hv (by omega)) (fun n s h => ?_) (fun n u s hu h hw => ?_)
  · exact pk_le c c (fun _ => H s.1 s.2.1 s.2.2 (fun v hv => ⟨(h v hv).1, (h v hv).2.1, (pa_val (by decide) (hb.2 v hv).2.2).1, (h v hv).2.2⟩)) (fun z => absurd z (by omega))
  · refine pk_le c u (fun z => absurd z (by omega)) (fun _ => ?_)
    rw [nI_clamp (show u < 2 ^ 31 by omega)]
    refine ⟨pk_in u 10 (by omega), nm_e ⟨pk_in u 10 (by omega), nm_e (pa_w_p26 hb hu pk_us pk_us (fun b12 b13 k1 k2 k3 => pa_w_p138 hb hu (fun b11 m1 m2 => hw (b11, b12, b13) (fun v hv => ?_))))⟩⟩
    by_cases z : v = u
    · subst z; exact ⟨k1, k2, m1⟩
    · obtain ⟨q1, q2, q3⟩ := h v (by omega)
      obtain ⟨r1, r2⟩ := k3 v z
      have hd := (pa_val (by decide) (hb.2 v (by omega)).2.2).2
      refine ⟨?_, ?_, fun j hj => ?_⟩
      · show b12 v = _
        rw [r1, pk_un z]; exact q1
      · show b13 v = _
        rw [r2, pk_un z]; exact q2
      · show b11 (3 * v + j) = _
        have hd' : pa_ND a5 v ≤ 3 := hd
        rw [m2 (3 * v + j) (by omega)]; exact q3 j hj
end
section
/-! forceNeeds and force -/
theorem pa_z1 {a : Nat} (ha : a < 1024) (h0 : a ≠ 0) : nI a &&& (nI a - 1) = 0 ↔ a &&& (a - 1) = 0 := by
  have e : nI a - 1 = nI (a - 1) := pk_sub (a := a) (b := 1) (by omega)
  have h : a &&& (a - 1) ≤ a := Nat.and_le_left
  rw [e, pa_and, ← nI_0, nI_eq (by omega) (by omega)]
theorem pa_w_fn {post : Int32 → St1 → Prop} {bi cu no st bc bs : Int32} {a1 a2 a3 a4 a5 a6 a7 a8 a9 a10 a11 a12 a13 a14 a15 a16 a17 a18 a19 : Nat → Int32} {c i o u : Nat} {RV LG ND MT : Nat → Nat} (hm : pa_md c RV LG ND MT) (hp : pa_pd c a5 a11 a12 a13 RV LG ND MT) (hu : u < c) (hi : i < 2 ^ c) (ho : o < 2 ^ c) (hb : i.testBit u = true)
    (H0 : ∀ i', (∀ S, pa_ok c RV ND MT (pa_rq bi a8) S → ¬ pa_cn i o S) → post 0 (nI c, bi, cu, no, st, nI i', nI o, bc, bs, a1, a2, a3, a4, a5, a6, a7, a8, a9, a10, a11, a12, a13, a14, a15, a16, a17, a18, a19))
    (H1 : ∀ i', pa_fr c RV ND MT (pa_rq bi a8) i o i' o → (∀ j, j < ND u → pa_rq bi a8 (3 * u + j) = true → ¬ pa_sub (MT (3 * u + j)) o) → post 1 (nI c, bi, cu, no, st, nI i', nI o, bc, bs, a1, a2, a3, a4, a5, a6, a7, a8, a9, a10, a11, a12, a13, a14, a15, a16, a17, a18, a19)) :
    wpX_forceNeeds post (nI c, bi, cu, no, st, nI i, nI o, bc, bs, a1, a2, a3, a4, a5, a6, a7, a8, a9, a10, a11, a12, a13, a14, a15, a16, a17, a18, a19) (nI u) := by
  have hc := hm.1
  obtain ⟨p1, p2, p3, p4⟩ := hp u hu
  obtain ⟨m1, m2, m3, m4⟩ := hm.2 u hu
  refine nm_r (pa_3 u) ?_
  refine pk_loop (fun n k s => wX_forceNeeds_4 post (nI u) (nI c) bi cu no st (nI o) bc bs a1 a2 a3 a4 a5 a6 a7 a8 a9 a10 a11 a12 a13 a14 a15 a16 a17 a18 a19 n (nI (3 * u + k)) s) (fun k s => ∃ i', s = nI i' ∧ pa_fr c RV ND MT (pa_rq bi a8) i o i' o ∧ ∀ j, j < k → pa_rq bi a8 (3 * u + j) = true → ¬ pa_sub (MT (3 * u + j)) o) (ND u) 0 (nI i) (by omega) ⟨i, rfl, pa_fr_rf hi ho, fun j hj => absurd hj (by omega)⟩ (fun n s h => ?_) (fun n k s hk h hw => ?_)
  · obtain ⟨i', rfl, h1, h2⟩ := h
    exact And.intro (pk_in u 10 (by omega)) (pk_le (3 * u + ND u) (3 * u + ND u) (fun _ => H1 i' h1 h2) (fun z => absurd z (by omega)) (pa_3a (by omega) p3))
  · obtain ⟨i', rfl, h1, h2⟩ := h
    have hk30 : 3 * u + k < 30 := by omega
    have e : nI (3 * u + k) + 1 = nI (3 * u + (k + 1)) := nI_1 _
    have mt := m4 k hk
    have mt10 := pa_lt10 mt hc
    have hX := pa_lt10 (pa_df_lt mt o) hc
    have hbu : i'.testBit u = true := h1.2.2.1 u hb
    have e3 : a11 (nI (3 * u + k)).toNatClampNeg &&& (nI o ^^^ (-1)) = nI (pa_df (MT (3 * u + k)) o) := by
      rw [nI_clamp (by omega), p4 k hk]; exact pa_not mt10 o
    have nx : ¬ pa_df (MT (3 * u + k)) o = 0 → ¬ pa_sub (MT (3 * u + k)) o := fun z q => z ((pa_df0 mt10).mpr q)
    refine And.intro (pk_in u 10 (by omega)) (pk_le (3 * u + ND u) (3 * u + k) (fun z => absurd z (by omega)) (fun _ => ?_) (pa_3a (by omega) p3))
    refine pa_w_opt hk30 (fun g => br_t rfl (pa_w_app hk30 (fun ga => br_t rfl (nm_r e (hw _ ⟨i', rfl, h1, lt_s h2 (fun q => absurd q (pa_rq_f2 ga))⟩))) (fun ga => br_f (by decide) (And.intro (pk_in _ 30 hk30) (nm_r e3 ?_))))) (fun g => br_f (by decide) (nm_r e (hw _ ⟨i', rfl, h1, lt_s h2 (fun q => absurd q (pa_rq_f1 g))⟩)))
    have rq := pa_rq_t g ga
    refine pk_eq (pa_df (MT (3 * u + k)) o) 0 (fun z => H0 i' (fun S hS hcn => ?_)) (fun z => ?_)
    · exact pa_fr_no (RV := RV) (ND := ND) hu hbu hk rq ((pa_df0 mt10).mp z) S hS (h1.2.2.2.2 S hS hcn)
    · refine ek_if (pa_z0 hX) (fun z2 => ek_if (pa_z1 hX z) (fun z3 => nm_r (pa_or i' _) (nm_r e (hw _ ⟨_, rfl, pa_fr_tr h1 (pa_fr_nd hc h1.1 ho hu hbu hk rq mt z z3), lt_s h2 (fun _ => nx z)⟩))) (fun z3 => nm_r e (hw _ ⟨i', rfl, h1, lt_s h2 (fun _ => nx z)⟩))) (fun z2 => nm_r e (hw _ ⟨i', rfl, h1, lt_s h2 (fun _ => nx z)⟩))
theorem pa_w_f23 {post : Int32 → St1 → Prop} {J : Int32 → Int32 → Int32 → Int32 → Int32 → Int32 → Int32 → Int32 → Int32 → Int32 → (Nat → Int32) → (Nat → Int32) → (Nat → Int32) → (Nat → Int32) → (Nat → Int32) → (Nat → Int32) → (Nat → Int32) → (Nat → Int32) → (Nat → Int32) → (Nat → Int32) → (Nat → Int32) → (Nat → Int32) → (Nat → Int32) → (Nat → Int32) → (Nat → Int32) → (Nat → Int32) → (Nat → Int32) → (Nat → Int32) → (Nat → Int32) → Prop} {bi cu no st bc bs : Int32} {a1 a2 a3 a4 a5 a6 a7 a8 a9 a10 a11 a12 a13 a14 a15 a16 a17 a18 a19 : Nat → Int32} {c i o r : Nat} {RV LG ND MT : Nat → Nat} (hm : pa_md c RV LG ND MT) (hp : pa_pd c a5 a11 a12 a13 RV LG ND MT) (hi : i < 2 ^ c) (ho : o < 2 ^ c)
    (H0 : ∀ i' o', (∀ S, pa_ok c RV ND MT (pa_rq bi a8) S → ¬ pa_cn i o S) → post 0 (nI c, bi, cu, no, st, nI i', nI o', bc, bs, a1, a2, a3, a4, a5, a6, a7, a8, a9, a10, a11, a12, a13, a14, a15, a16, a17, a18, a19))
    (H1 : pa_dj i o → pa_cl c RV ND MT (pa_rq bi a8) i o → post 1 (nI c, bi, cu, no, st, nI i, nI o, bc, bs, a1, a2, a3, a4, a5, a6, a7, a8, a9, a10, a11, a12, a13, a14, a15, a16, a17, a18, a19))
    (H2 : ∀ i' o', pa_fr c RV ND MT (pa_rq bi a8) i o i' o' → pa_dj i' o' → ¬ (i = i' ∧ o = o') → J (nI (r + 1)) (nI c) bi cu no st (nI i') (nI o') bc bs a1 a2 a3 a4 a5 a6 a7 a8 a9 a10 a11 a12 a13 a14 a15 a16 a17 a18 a19) :
    ∃ n, wX_force_23 post J (nI r) (nI (i ||| o * 1024)) n 0 (nI c) bi cu no st (nI i) (nI o) bc bs a1 a2 a3 a4 a5 a6 a7 a8 a9 a10 a11 a12 a13 a14 a15 a16 a17 a18 a19 := by
  have hc := hm.1
  refine pk_loop (σ := Int32 × Int32) (fun n u s => wX_force_23 post J (nI r) (nI (i ||| o * 1024)) n (nI u) (nI c) bi cu no st (s.1) (s.2) bc bs a1 a2 a3 a4 a5 a6 a7 a8 a9 a10 a11 a12 a13 a14 a15 a16 a17 a18 a19) (fun u s => ∃ i' o', s = (nI i', nI o') ∧ pa_fr c RV ND MT (pa_rq bi a8) i o i' o' ∧ ((i' = i ∧ o' = o) → ∀ v, v < u → i.testBit v = true → (pa_sub (RV v) o ∧ ∀ j, j < ND v → pa_rq bi a8 (3 * v + j) = true → ¬ pa_sub (MT (3 * v + j)) o))) c 0 (nI i, nI o) (by omega) ⟨i, o, rfl, pa_fr_rf hi ho, fun _ v hv => absurd hv (by omega)⟩ (fun n s h => ?_) (fun n u s hu h hw => ?_)
  · obtain ⟨i', o', rfl, h1, h2⟩ := h
    have hi' := pa_lt10 h1.1 hc
    have ho' := pa_lt10 h1.2.1 hc
    have hi10 := pa_lt10 hi hc
    have ho10 := pa_lt10 ho hc
    refine pk_le c c (fun _ => ek_if (pa_z0 hi') (fun z => ek_if (d := i = i' ∧ o = o') ?_ (fun z2 => ?_) (fun z2 => nm_r (nI_1 r) (H2 i' o' h1 z z2))) (fun z => H0 i' o' (fun S hS hcn => ?_))) (fun z => absurd z (by omega))
    · show nI (i ||| o * 1024) = nI i' ||| (nI o' <<< ((10 : Int32) &&& 31)) ↔ _
      rw [pa_pairI ho', nI_eq (pa_pairL hi10 ho10) (pa_pairL hi' ho')]
      exact ⟨fun q => pa_pair hi10 hi' q, fun q => by rw [q.1, q.2]⟩
    · obtain ⟨rfl, rfl⟩ := z2
      exact H1 z (h2 ⟨rfl, rfl⟩)
    · have q := h1.2.2.2.2 S hS hcn
      exact z (fun x hx => pa_bfalse (fun y => pa_tf (q.1 x hx) (q.2 x y)))
  · obtain ⟨i', o', rfl, h1, h2⟩ := h
    obtain ⟨p1, p2, p3, p4⟩ := hp u hu
    obtain ⟨m1, m2, m3, m4⟩ := hm.2 u hu
    have hi' := pa_lt10 h1.1 hc
    refine pk_le c u (fun z => absurd z (by omega)) (fun _ => ek_if (pa_bit1 (by omega) (by omega)) (fun z => ?_) (fun z => nm_r (nI_1 u) (hw _ ⟨i', o', rfl, h1, fun q => lt_s (h2 q) (fun y => absurd y (by rw [← q.1]; exact z))⟩)))
    have f1 := pa_fr_rv (RV := RV) (ND := ND) (MT := MT) (RQ := pa_rq bi a8) h1.1 h1.2.1 hu z m1
    have f2 := pa_fr_tr h1 f1
    refine And.intro (pk_in u 10 (by omega)) (nm_r (e' := nI (o' ||| RV u)) ?_ ?_)
    · show nI o' ||| a12 (nI u).toNatClampNeg = _
      rw [nI_clamp (by omega), p1, pa_or]
    · refine pa_w_fn hm hp hu h1.1 f1.2.1 z (fun i2 hS => br_t rfl (H0 i2 _ (fun S hS1 hcn => hS S hS1 (f2.2.2.2.2 S hS1 hcn)))) (fun i2 f3 hn => br_f (by decide) (nm_r (nI_1 u) (hw (nI i2, nI (o' ||| RV u)) ⟨i2, o' ||| RV u, rfl, pa_fr_tr f2 f3, fun q => ?_⟩)))
      have qi : i' = i := pa_sub_as (by rw [← q.1]; exact f3.2.2.1) h1.2.2.1
      have qo : o' = o := pa_sub_as (by rw [← q.2]; exact f1.2.2.2.1) h1.2.2.2.1
      refine lt_s (h2 ⟨qi, qo⟩) (fun _ => ?_)
      rw [q.2] at hn
      exact ⟨by rw [← q.2]; exact pa_sub_r _ _, hn⟩
theorem pa_w_force {post : Int32 → St1 → Prop} {bi cu no st bc bs : Int32} {a1 a2 a3 a4 a5 a6 a7 a8 a9 a10 a11 a12 a13 a14 a15 a16 a17 a18 a19 : Nat → Int32} {c i o : Nat} {RV LG ND MT : Nat → Nat} (hm : pa_md c RV LG ND MT) (hp : pa_pd c a5 a11 a12 a13 RV LG ND MT) (hi : i < 2 ^ c) (ho : o < 2 ^ c)
    (H0 : ∀ i' o', (∀ S, pa_ok c RV ND MT (pa_rq bi a8) S → ¬ pa_cn i o S) → post 0 (nI c, bi, cu, no, st, nI i', nI o', bc, bs, a1, a2, a3, a4, a5, a6, a7, a8, a9, a10, a11, a12, a13, a14, a15, a16, a17, a18, a19))
    (H1 : ∀ i' o', pa_fr c RV ND MT (pa_rq bi a8) i o i' o' → pa_dj i' o' → pa_cl c RV ND MT (pa_rq bi a8) i' o' → post 1 (nI c, bi, cu, no, st, nI i', nI o', bc, bs, a1, a2, a3, a4, a5, a6, a7, a8, a9, a10, a11, a12, a13, a14, a15, a16, a17, a18, a19)) :
    wpX_force post (nI c, bi, cu, no, st, nI i, nI o, bc, bs, a1, a2, a3, a4, a5, a6, a7, a8, a9, a10, a11, a12, a13, a14, a15, a16, a17, a18, a19) := by
  have hc := hm.1
  refine pk_loop (σ := Int32 × Int32) (fun n r s => wX_force_2 post n (nI r) (nI c) bi cu no st (s.1) (s.2) bc bs a1 a2 a3 a4 a5 a6 a7 a8 a9 a10 a11 a12 a13 a14 a15 a16 a17 a18 a19) (fun r s => ∃ i' o', s = (nI i', nI o') ∧ pa_fr c RV ND MT (pa_rq bi a8) i o i' o' ∧ r ≤ pa_pc (i' ||| o') 10) 11 0 (nI i, nI o) (by omega) ⟨i, o, rfl, pa_fr_rf hi ho, by omega⟩ (fun n s h => ?_) (fun n r s hr h hw => ?_)
  · obtain ⟨i', o', rfl, h1, h2⟩ := h
    have := pa_pc_le (i' ||| o') 10
    omega
  · obtain ⟨i', o', rfl, h1, h2⟩ := h
    refine pk_lt 10 r (fun z => absurd z (by omega)) (fun _ => nm_r (pa_pairI (pa_lt10 h1.2.1 hc)) ?_)
    refine pa_w_f23 hm hp h1.1 h1.2.1 (fun i2 o2 hS => H0 i2 o2 (fun S hS1 hcn => hS S hS1 (h1.2.2.2.2 S hS1 hcn))) (fun d1 c1 => H1 i' o' h1 d1 c1) (fun i2 o2 f d1 ne => hw (nI i2, nI o2) ⟨i2, o2, rfl, pa_fr_tr h1 f, ?_⟩)
    have := pa_grow hc f.1 f.2.1 f.2.2.1 f.2.2.2.1 d1 ne
    omega
end
section
/-! keep, offerBest, the search's loop -/
theorem pa_w_keep {post : St1 → Prop} {ct bi cu no st fi fo bc bs : Int32} {a1 a2 a3 a4 a5 a6 a7 a8 a9 a10 a11 a12 a13 a14 a15 a16 a17 a18 a19 : Nat → Int32} {d : Nat} (hd : d < 12) (H : post (ct, bi, cu, no, st, fi, fo, bc, bs, a1, a2, a3, a4, a5, a6, a7, a8, a9, a10, a11, a12, a13, upd a14 d fi, upd a15 d fo, upd a16 d 0, a17, a18, a19)) : wpX_keep post (ct, bi, cu, no, st, fi, fo, bc, bs, a1, a2, a3, a4, a5, a6, a7, a8, a9, a10, a11, a12, a13, a14, a15, a16, a17, a18, a19) (nI d) := by
  unfold wpX_keep
  dsimp only
  rw [nI_clamp (show d < 2 ^ 31 by omega)]
  exact ⟨pk_in d 12 hd, nm_e ⟨pk_in d 12 hd, nm_e ⟨pk_in d 12 hd, nm_e H⟩⟩⟩
/-- the best so far -/
def pa_bst (ctf : Nat → Nat) (bc bs : Int32) : Option Nat → Prop
  | none => bs = -1
  | some B => bs = nI B ∧ bc = nI (ctf B)
/-- the cost of a whole set -/
def pa_ct (c cur : Nat) (LG ND MT : Nat → Nat) (OP : Nat → Bool) (S : Nat) : Nat := pa_cost c cur LG ND MT OP S (S ^^^ 1023)
theorem pa_w_ob {post : St1 → Prop} {bi no st fi fo bc bs : Int32} {a1 a2 a3 a4 a5 a6 a7 a8 a9 a10 a11 a12 a13 a14 a15 a16 a17 a18 a19 : Nat → Int32} {c cur B : Nat} {RV LG ND MT : Nat → Nat} {best : Option Nat} (hm : pa_md c RV LG ND MT) (hp : pa_pd c a5 a11 a12 a13 RV LG ND MT) (hcur : cur < 1024) (hB : B < 1024)
    (hbest : pa_bst (pa_ct c cur LG ND MT (pa_op bi a8)) bc bs best) (hbl : ∀ B0, best = some B0 → B0 < 1024)
    (Hn : (∀ B0, best = some B0 → (pa_ct c cur LG ND MT (pa_op bi a8) B < pa_ct c cur LG ND MT (pa_op bi a8) B0 ∨ (pa_ct c cur LG ND MT (pa_op bi a8) B = pa_ct c cur LG ND MT (pa_op bi a8) B0 ∧ B ≤ B0))) → post (nI c, bi, nI cur, no, st, fi, fo, nI (pa_ct c cur LG ND MT (pa_op bi a8) B), nI B, a1, a2, a3, a4, a5, a6, a7, a8, a9, a10, a11, a12, a13, a14, a15, a16, a17, a18, a19))
    (Ho : ∀ B0, best = some B0 → (pa_ct c cur LG ND MT (pa_op bi a8) B0 < pa_ct c cur LG ND MT (pa_op bi a8) B ∨ (pa_ct c cur LG ND MT (pa_op bi a8) B0 = pa_ct c cur LG ND MT (pa_op bi a8) B ∧ B0 ≤ B)) → post (nI c, bi, nI cur, no, st, fi, fo, bc, bs, a1, a2, a3, a4, a5, a6, a7, a8, a9, a10, a11, a12, a13, a14, a15, a16, a17, a18, a19)) :
    wpX_offerBest post (nI c, bi, nI cur, no, st, fi, fo, bc, bs, a1, a2, a3, a4, a5, a6, a7, a8, a9, a10, a11, a12, a13, a14, a15, a16, a17, a18, a19) (nI B) := by
  have k1 : pa_ct c cur LG ND MT (pa_op bi a8) B ≤ 230 := pa_cost_le cur (pa_op bi a8) B (B ^^^ 1023) hm
  unfold wpX_offerBest
  dsimp only
  refine pa_w_cost hm hp hB hcur (pa_lr_c B) ?_
  cases best with
  | none =>
    have e : bs = -1 := hbest
    exact br_t (by rw [e]; decide) (Hn (fun B0 h => absurd h (by simp)))
  | some B0 =>
    obtain ⟨e1, e2⟩ := hbest
    have hB0 := hbl B0 rfl
    have k2 : pa_ct c cur LG ND MT (pa_op bi a8) B0 ≤ 230 := pa_cost_le cur (pa_op bi a8) B0 (B0 ^^^ 1023) hm
    have ne : ∀ B1, some B0 = some B1 → B0 = B1 := fun B1 h => by simpa using h
    refine br_f (by rw [e1]; exact nI_pos (by omega)) (pk_lt (pa_ct c cur LG ND MT (pa_op bi a8) B) (pa_ct c cur LG ND MT (pa_op bi a8) B0) (fun z => Hn (fun B1 h => by rw [← ne B1 h]; exact Or.inl z)) (fun z => ?_) rfl e2)
    refine pk_eq (pa_ct c cur LG ND MT (pa_op bi a8) B) (pa_ct c cur LG ND MT (pa_op bi a8) B0) (fun z2 => pk_le B0 B (fun z3 => Ho B0 rfl (by omega)) (fun z3 => Hn (fun B1 h => by rw [← ne B1 h]; omega)) e1 rfl) (fun z2 => Ho B0 rfl (by omega)) rfl e2
def pa_wi (c cur : Nat) (RV LG ND MT : Nat → Nat) (RQ OP : Nat → Bool) (w b D step : Nat) (x3 bc bs : Int32) (a14 a15 a16 : Nat → Int32) : Prop :=
  ∃ (HI HO TU : Nat → Nat) (best : Option Nat), x3 = nI D + (-1) ∧ (∀ j, j < D → (a14 j = nI (HI j) ∧ a15 j = nI (HO j) ∧ a16 j = nI (TU j))) ∧ pa_inv c RV ND MT RQ w b (pa_ct c cur LG ND MT OP) D step HI HO TU best ∧ pa_bst (pa_ct c cur LG ND MT OP) bc bs best
theorem pa_upI {a : Nat → Int32} {f : Nat → Nat} {k x : Nat} {y : Int32} (hy : y = nI x) {j : Nat} (h : j ≠ k → a j = nI (f j)) : upd a k y j = nI (pa_up f k x j) := by
  by_cases e : j = k
  · rw [e, pk_us, pa_up_s, hy]
  · rw [pk_un e, pa_up_n f x e]; exact h e
theorem pa_w_212 {post : St1 → Prop} {J : Int32 → Int32 → Int32 → Int32 → Int32 → Int32 → Int32 → Int32 → Int32 → Int32 → Int32 → (Nat → Int32) → (Nat → Int32) → (Nat → Int32) → (Nat → Int32) → (Nat → Int32) → (Nat → Int32) → (Nat → Int32) → (Nat → Int32) → (Nat → Int32) → (Nat → Int32) → (Nat → Int32) → (Nat → Int32) → (Nat → Int32) → (Nat → Int32) → (Nat → Int32) → (Nat → Int32) → (Nat → Int32) → (Nat → Int32) → (Nat → Int32) → Prop} {bi no st bc bs : Int32} {a1 a2 a3 a4 a5 a6 a7 a8 a9 a10 a11 a12 a13 a14 a15 a16 a17 a18 a19 : Nat → Int32} {c cur w b d step u t i o : Nat} {RV LG ND MT HI HO TU : Nat → Nat} {best : Option Nat} (hc : c ≤ 10)
    (h : pa_inv c RV ND MT (pa_rq bi a8) w b (pa_ct c cur LG ND MT (pa_op bi a8)) (d + 1) step HI HO TU best) (hbest : pa_bst (pa_ct c cur LG ND MT (pa_op bi a8)) bc bs best)
    (ha : ∀ j, j < d + 1 → (a14 j = nI (HI j) ∧ a15 j = nI (HO j) ∧ a16 j = nI (pa_up TU d (t + 1) j)))
    (hu : pa_first c (HI d ||| HO d) u) (ht : t < 2) (he : TU d = t)
    (hf : pa_fr c RV ND MT (pa_rq bi a8) (if t = 0 then HI d else HI d ||| 2 ^ u) (if t = 0 then HO d ||| 2 ^ u else HO d) i o) (hd : pa_dj i o) (hcl : pa_cl c RV ND MT (pa_rq bi a8) i o)
    (H : ∀ D' y3 fi' fo' b14 b15 b16, pa_wi c cur RV LG ND MT (pa_rq bi a8) (pa_op bi a8) w b D' (step + 1) y3 bc bs b14 b15 b16 → J y3 (nI (step + 1)) (nI c) bi (nI cur) no st fi' fo' bc bs a1 a2 a3 a4 a5 a6 a7 a8 a9 a10 a11 a12 a13 b14 b15 b16 a17 a18 a19) :
    wX_search_212 post J (nI d) (nI step) (nI c) bi (nI cur) no st (nI i) (nI o) bc bs a1 a2 a3 a4 a5 a6 a7 a8 a9 a10 a11 a12 a13 a14 a15 a16 a17 a18 a19 := by
  have hdu := pa_s_du h hu
  have huc := hu.1
  have h2 := pa_s_push hc h hu ht he hf hd hcl
  refine nm_r (nI_1 d) (pa_w_keep (by omega) (nm_r (nI_1 step) (H (d + 2) _ _ _ _ _ _ ⟨_, _, _, best, (pk_m1 (d + 1)).symm, fun j hj => ⟨?_, ?_, ?_⟩, h2, hbest⟩)))
  · exact pa_upI rfl (fun z => (ha j (by omega)).1)
  · exact pa_upI rfl (fun z => (ha j (by omega)).2.1)
  · exact pa_upI rfl (fun z => (ha j (by omega)).2.2)
theorem pa_w_169 {post : St1 → Prop} {J : Int32 → Int32 → Int32 → Int32 → Int32 → Int32 → Int32 → Int32 → Int32 → Int32 → Int32 → (Nat → Int32) → (Nat → Int32) → (Nat → Int32) → (Nat → Int32) → (Nat → Int32) → (Nat → Int32) → (Nat → Int32) → (Nat → Int32) → (Nat → Int32) → (Nat → Int32) → (Nat → Int32) → (Nat → Int32) → (Nat → Int32) → (Nat → Int32) → (Nat → Int32) → (Nat → Int32) → (Nat → Int32) → (Nat → Int32) → (Nat → Int32) → Prop} {bi no st bc bs : Int32} {a1 a2 a3 a4 a5 a6 a7 a8 a9 a10 a11 a12 a13 a14 a15 a16 a17 a18 a19 : Nat → Int32} {c cur w b d step u t i0 o0 : Nat} {RV LG ND MT HI HO TU : Nat → Nat} {best : Option Nat} (hm : pa_md c RV LG ND MT) (hp : pa_pd c a5 a11 a12 a13 RV LG ND MT) (hcur : cur < 1024)
    (h : pa_inv c RV ND MT (pa_rq bi a8) w b (pa_ct c cur LG ND MT (pa_op bi a8)) (d + 1) step HI HO TU best) (hbest : pa_bst (pa_ct c cur LG ND MT (pa_op bi a8)) bc bs best)
    (ha : ∀ j, j < d + 1 → (a14 j = nI (HI j) ∧ a15 j = nI (HO j) ∧ a16 j = nI (TU j)))
    (hu : pa_first c (HI d ||| HO d) u) (ht : t < 2) (he : TU d = t) (ei : i0 = if t = 0 then HI d else HI d ||| 2 ^ u) (eo : o0 = if t = 0 then HO d ||| 2 ^ u else HO d)
    (H : ∀ D' y3 fi' fo' b14 b15 b16, pa_wi c cur RV LG ND MT (pa_rq bi a8) (pa_op bi a8) w b D' (step + 1) y3 bc bs b14 b15 b16 → J y3 (nI (step + 1)) (nI c) bi (nI cur) no st fi' fo' bc bs a1 a2 a3 a4 a5 a6 a7 a8 a9 a10 a11 a12 a13 b14 b15 b16 a17 a18 a19) :
    wX_search_169 post J (nI d) (nI step) (nI c) bi (nI cur) no st (nI i0) (nI o0) bc bs a1 a2 a3 a4 a5 a6 a7 a8 a9 a10 a11 a12 a13 a14 a15 a16 a17 a18 a19 := by
  have hc := hm.1
  have hdu := pa_s_du h hu
  have huc := hu.1
  have hlv := h.2.2.1 d (by omega)
  have hi0 : i0 < 2 ^ c := by
    rw [ei]; split
    · exact hlv.1
    · exact Nat.or_lt_two_pow hlv.1 (pa_pwlt huc)
  have ho0 : o0 < 2 ^ c := by
    rw [eo]; split
    · exact Nat.or_lt_two_pow hlv.2.1 (pa_pwlt huc)
    · exact hlv.2.1
  have ha' : ∀ j, j < d + 1 → (a14 j = nI (HI j) ∧ a15 j = nI (HO j) ∧ upd a16 d (a16 d + 1) j = nI (pa_up TU d (t + 1) j)) := fun j hj =>
    ⟨(ha j hj).1, (ha j hj).2.1, pa_upI (by rw [(ha d (by omega)).2.2, he, nI_1]) (fun _ => (ha j hj).2.2)⟩
  have no : (∀ S, pa_va c RV ND MT (pa_rq bi a8) w b S → pa_cn (if t = 0 then HI d else HI d ||| 2 ^ u) (if t = 0 then HO d ||| 2 ^ u else HO d) S → pa_done (pa_ct c cur LG ND MT (pa_op bi a8)) best S) →
      pa_wi c cur RV LG ND MT (pa_rq bi a8) (pa_op bi a8) w b (d + 1) (step + 1) (nI d) bc bs a14 a15 (upd a16 d (a16 d + 1)) := fun q =>
    ⟨HI, HO, pa_up TU d (t + 1), best, (pk_m1 d).symm, ha', pa_s_no hc h hu ht he q, hbest⟩
  unfold wX_search_169
  rw [nI_clamp (show d < 2 ^ 31 by omega)]
  refine ⟨pk_in d 12 (by omega), pk_in d 12 (by omega), nm_e (pa_w_force hm hp hi0 ho0 (fun i' o' hS => br_t rfl (nm_r (nI_1 step) (H (d + 1) _ _ _ _ _ _ (no (fun S hv hcn => ?_))))) (fun i' o' f1 f2 f3 => br_f (by decide) ?_))⟩
  · rw [← ei, ← eo] at hcn
    exact absurd hcn (hS S hv.2.1)
  · have f1' := f1
    rw [ei, eo] at f1'
    have push := pa_w_212 (post := post) (J := J) hc h hbest ha' hu ht he f1' f2 f3 H
    refine br_c (fun _ => push) (fun g => ?_)
    refine pa_w_cost hm hp (pa_lt10 f1.1 hc) hcur (pa_lr_n o') ?_
    cases best with
    | none =>
      have e : bs = -1 := hbest
      exact absurd (show bs < 0 by rw [e]; decide) g
    | some B0 =>
      obtain ⟨e1, e2⟩ := hbest
      have k1 : pa_ct c cur LG ND MT (pa_op bi a8) B0 ≤ 230 := pa_cost_le cur (pa_op bi a8) B0 (B0 ^^^ 1023) hm
      have k2 := pa_cost_le (c := c) (RV := RV) (LG := LG) (ND := ND) (MT := MT) cur (pa_op bi a8) i' o' hm
      refine pk_lt (pa_ct c cur LG ND MT (pa_op bi a8) B0) (pa_cost c cur LG ND MT (pa_op bi a8) i' o') (fun z => nm_r (nI_1 step) (H (d + 1) _ _ _ _ _ _ (no (fun S hv hcn => ?_)))) (fun _ => push) e2 rfl
      rw [← ei, ← eo] at hcn
      have q := f1.2.2.2.2 S hv.2.1 hcn
      have k3 : pa_cost c cur LG ND MT (pa_op bi a8) i' o' ≤ pa_ct c cur LG ND MT (pa_op bi a8) S := pa_cost_mono hm hcur (pa_lt10 f1.1 hc) (pa_lt10 hv.1 hc) q.1 q.2
      exact ⟨B0, rfl, Or.inl (by omega)⟩
/-- what the search leaves -/
def pa_res (va : Nat → Prop) (ctf : Nat → Nat) (bc bs : Int32) : Prop := (bs = -1 ∧ ∀ S, ¬ va S) ∨ ∃ B, bs = nI B ∧ bc = nI (ctf B) ∧ pa_best va ctf B
theorem pa_w_42 {post : St1 → Prop} {bi no st fi fo bc bs : Int32} {a1 a2 a3 a4 a5 a6 a7 a8 a9 a10 a11 a12 a13 a14 a15 a16 a17 a18 a19 : Nat → Int32} {c cur w b : Nat} {RV LG ND MT : Nat → Nat} (hm : pa_md c RV LG ND MT) (hp : pa_pd c a5 a11 a12 a13 RV LG ND MT) (hcur : cur < 1024)
    (h0 : pa_wi c cur RV LG ND MT (pa_rq bi a8) (pa_op bi a8) w b 1 0 0 bc bs a14 a15 a16)
    (H : ∀ fi' fo' bc' bs' b14 b15 b16, pa_res (pa_va c RV ND MT (pa_rq bi a8) w b) (pa_ct c cur LG ND MT (pa_op bi a8)) bc' bs' → post (nI c, bi, nI cur, no, st, fi', fo', bc', bs', a1, a2, a3, a4, a5, a6, a7, a8, a9, a10, a11, a12, a13, b14, b15, b16, a17, a18, a19)) :
    ∃ n, wX_search_42 post n 0 0 (nI c) bi (nI cur) no st fi fo bc bs a1 a2 a3 a4 a5 a6 a7 a8 a9 a10 a11 a12 a13 a14 a15 a16 a17 a18 a19 := by
  have hc := hm.1
  refine pk_loop (σ := Int32 × Int32 × Int32 × Int32 × Int32 × (Nat → Int32) × (Nat → Int32) × (Nat → Int32)) (fun n step s => wX_search_42 post n s.1 (nI step) (nI c) bi (nI cur) no st (s.2.1) (s.2.2.1) (s.2.2.2.1) (s.2.2.2.2.1) a1 a2 a3 a4 a5 a6 a7 a8 a9 a10 a11 a12 a13 (s.2.2.2.2.2.1) (s.2.2.2.2.2.2.1) (s.2.2.2.2.2.2.2) a17 a18 a19)
    (fun step s => ∃ D, pa_wi c cur RV LG ND MT (pa_rq bi a8) (pa_op bi a8) w b D step s.1 s.2.2.2.1 s.2.2.2.2.1 s.2.2.2.2.2.1 s.2.2.2.2.2.2.1 s.2.2.2.2.2.2.2) 8192 0 (0, fi, fo, bc, bs, a14, a15, a16) (by omega) ⟨1, h0⟩ (fun n s h => ?_) (fun n step s hstep h hw => ?_)
  · obtain ⟨D, HI, HO, TU, best, h1, h2, h3, h4⟩ := h
    have := h3.2.1
    omega
  · obtain ⟨y3, yi, yo, yc, ys, y14, y15, y16⟩ := s
    obtain ⟨D, HI, HO, TU, best, h1, h2, h3, h4⟩ := h
    dsimp only at h1 h2 h4
    have hw' : ∀ D' z3 zi zo zc zs z14 z15 z16, pa_wi c cur RV LG ND MT (pa_rq bi a8) (pa_op bi a8) w b D' (step + 1) z3 zc zs z14 z15 z16 → wX_search_42 post n z3 (nI (step + 1)) (nI c) bi (nI cur) no st zi zo zc zs a1 a2 a3 a4 a5 a6 a7 a8 a9 a10 a11 a12 a13 z14 z15 z16 a17 a18 a19 := fun D' z3 zi zo zc zs z14 z15 z16 q => hw (z3, zi, zo, zc, zs, z14, z15, z16) ⟨D', q⟩
    show wX_search_42 post (n + 1) y3 (nI step) (nI c) bi (nI cur) no st yi yo yc ys a1 a2 a3 a4 a5 a6 a7 a8 a9 a10 a11 a12 a13 y14 y15 y16 a17 a18 a19
    refine pk_le 8192 step (fun z => absurd z (by omega)) (fun _ => ?_)
    cases D with
    | zero =>
      have e : y3 = -1 := h1
      refine br_t (by rw [e]; decide) (H _ _ _ _ _ _ _ ?_)
      rcases pa_s_end h3 with ⟨q1, q2⟩ | ⟨B, q1, q2⟩
      · subst q1
        exact Or.inl ⟨h4, q2⟩
      · subst q1
        exact Or.inr ⟨B, h4.1, h4.2, q2⟩
    | succ d =>
      rw [pk_m1] at h1
      subst h1
      obtain ⟨e14, e15, e16⟩ := h2 d (by omega)
      obtain ⟨l1, l2, l3, l4, l5, l6, l7, l8⟩ := h3.2.2.1 d (by omega)
      have hd11 := h3.1
      have li := pa_lt10 l1 hc
      have lo := pa_lt10 l2 hc
      have lio := pa_lt10 (Nat.or_lt_two_pow l1 l2) hc
      have hbl : ∀ B0, best = some B0 → B0 < 1024 := fun B0 q => pa_lt10 (h3.2.2.2.1 B0 q).1 hc
      refine br_f (nI_pos (by omega)) ?_
      rw [nI_clamp (show d < 2 ^ 31 by omega)]
      refine ⟨pk_in d 12 (by omega), pk_in d 12 (by omega), pa_w_fo (d := HI d ||| HO d) (by rw [e14, e15, pa_or]) hc lio (fun hall => br_t rfl ?_) (fun u hu => br_f ?_ ?_)⟩
      · rw [e14]
        refine ⟨pk_in d 12 (by omega), pa_w_ob hm hp hcur li h4 hbl (fun q => ?_) (fun B0 q1 q2 => ?_)⟩
        · exact nm_r (e' := nI d + (-1)) rfl (nm_r (nI_1 step) (hw' d _ _ _ _ _ _ _ _ ⟨HI, HO, TU, some (HI d), rfl, fun j hj => h2 j (by omega), pa_s_new hm h3 hall q, rfl, rfl⟩))
        · exact nm_r (e' := nI d + (-1)) rfl (nm_r (nI_1 step) (hw' d _ _ _ _ _ _ _ _ ⟨HI, HO, TU, best, rfl, fun j hj => h2 j (by omega), pa_s_old hm h3 hall q1 q2, h4⟩))
      · have huc := hu.1
        intro q
        have q2 : nI u = -1 := q
        have q3 := nI_pos (n := u) (by omega)
        rw [q2] at q3
        exact q3 (by decide)
      · have huc := hu.1
        refine ⟨pk_in d 12 (by omega), ?_⟩
        rw [e14, e15, e16]
        refine pk_eq (TU d) 2 (fun z => nm_r (e' := nI d + (-1)) rfl (nm_r (nI_1 step) (hw' d _ _ _ _ _ _ _ _ ⟨HI, HO, TU, best, rfl, fun j hj => h2 j (by omega), pa_s_two h3 z, h4⟩))) (fun z => ⟨pk_in d 12 (by omega), nm_e ⟨pk_in d 12 (by omega), nm_e ⟨pk_in d 12 (by omega), ?_⟩⟩⟩)
        refine pk_eq (TU d) 0 (fun z2 => nm_r (e' := nI (HO d ||| 2 ^ u)) (by rw [pa_shl u (by omega), pa_or]) ?_) (fun z2 => nm_r (e' := nI (HI d ||| 2 ^ u)) (by rw [pa_shl u (by omega), pa_or]) ?_)
        · exact pa_w_169 hm hp hcur h3 h4 h2 hu (show 0 < 2 by omega) z2 rfl rfl (fun D' z3 zi zo z14 z15 z16 q => hw' D' z3 zi zo _ _ z14 z15 z16 q)
        · exact pa_w_169 hm hp hcur h3 h4 h2 hu (show 1 < 2 by omega) (by omega) rfl rfl (fun D' z3 zi zo z14 z15 z16 q => hw' D' z3 zi zo _ _ z14 z15 z16 q)
theorem pa_w_search {post : St1 → Prop} {bi no st fi fo bc bs : Int32} {a1 a2 a3 a4 a5 a6 a7 a8 a9 a10 a11 a12 a13 a14 a15 a16 a17 a18 a19 : Nat → Int32} {c cur w b : Nat} (hb : pa_wb c a2 a4 a5) (hcur : cur < 1024) (hw : w < 2 ^ c) (hbb : b < 2 ^ c)
    (H : ∀ fi' fo' bc' bs' b11 b12 b13 b14 b15 b16, pa_res (pa_va c (pa_RV c a1 a3) (pa_ND a5) (pa_MT c a4 a6 a7 a8 a9 a10) (pa_rq bi a8) w b) (pa_ct c cur (pa_LG c a1 a2) (pa_ND a5) (pa_MT c a4 a6 a7 a8 a9 a10) (pa_op bi a8)) bc' bs' → post (nI c, bi, nI cur, no, st, fi', fo', bc', bs', a1, a2, a3, a4, a5, a6, a7, a8, a9, a10, b11, b12, b13, b14, b15, b16, a17, a18, a19)) :
    wpX_search post (nI c, bi, nI cur, no, st, fi, fo, bc, bs, a1, a2, a3, a4, a5, a6, a7, a8, a9, a10, a11, a12, a13, a14, a15, a16, a17, a18, a19) (nI w) (nI b) := by
  have hm := pa_md_of (a1 := a1) (a3 := a3) (a6 := a6) (a7 := a7) (a8 := a8) (a9 := a9) (a10 := a10) hb
  unfold wpX_search
  dsimp only
  refine pa_w_prep hb (fun b11 b12 b13 hp => ?_)
  refine pa_w_force hm hp hw hbb (fun i' o' hS => br_t rfl (H _ _ _ _ _ _ _ _ _ _ (Or.inl ⟨rfl, fun S hv => hS S hv.2.1 ⟨hv.2.2.1, hv.2.2.2⟩⟩))) (fun i' o' f1 f2 f3 => br_f (by decide) ?_)
  refine pa_w_keep (d := 0) (by omega) ?_
  refine pa_w_42 hm hp hcur ⟨fun _ => i', fun _ => o', fun _ => 0, none, by decide, fun j hj => ?_, pa_s_start f1 f2 f3 rfl rfl rfl, rfl⟩ (fun fi' fo' bc' bs' b14 b15 b16 q => H _ _ _ _ _ _ _ _ _ _ q)
  have e : j = 0 := by omega
  subst e
  show upd a14 0 (nI i') 0 = nI i' ∧ upd a15 0 (nI o') 0 = nI o' ∧ upd a16 0 0 0 = (0 : Int32)
  exact ⟨pk_us, pk_us, pk_us⟩
end
section
theorem pa_neg1 : ¬ (0 : Int32) ≤ -1 := by decide
/-! plan, planCost, sound, cost, excess -/
theorem pa_w_plan {post : Int32 → St1 → Prop} {bi no st fi fo bc bs : Int32} {a1 a2 a3 a4 a5 a6 a7 a8 a9 a10 a11 a12 a13 a14 a15 a16 a17 a18 a19 : Nat → Int32} {c cur w b : Nat} (hb : pa_wb c a2 a4 a5) (hcur : cur < 1024) (hw : w < 2 ^ c) (hbb : b < 2 ^ c)
    (Hn : ∀ fi' fo' bc' bs' b11 b12 b13 b14 b15 b16, (∀ S, ¬ (pa_va c (pa_RV c a1 a3) (pa_ND a5) (pa_MT c a4 a6 a7 a8 a9 a10) (pa_rq bi a8) w b) S) → post (-2) (nI c, bi, nI cur, no, st, fi', fo', bc', bs', a1, a2, a3, a4, a5, a6, a7, a8, a9, a10, b11, b12, b13, b14, b15, b16, a17, a18, a19))
    (Hs : ∀ B fi' fo' bc' bs' b11 b12 b13 b14 b15 b16, pa_best (pa_va c (pa_RV c a1 a3) (pa_ND a5) (pa_MT c a4 a6 a7 a8 a9 a10) (pa_rq bi a8) w b) (pa_ct c cur (pa_LG c a1 a2) (pa_ND a5) (pa_MT c a4 a6 a7 a8 a9 a10) (pa_op bi a8)) B → post (nI B) (nI c, bi, nI cur, no, st, fi', fo', bc', bs', a1, a2, a3, a4, a5, a6, a7, a8, a9, a10, b11, b12, b13, b14, b15, b16, a17, a18, a19)) :
    wpX_plan post (nI c, bi, nI cur, no, st, fi, fo, bc, bs, a1, a2, a3, a4, a5, a6, a7, a8, a9, a10, a11, a12, a13, a14, a15, a16, a17, a18, a19) (nI w) (nI b) := by
  have hc := hb.1
  unfold wpX_plan
  dsimp only
  refine pa_w_set hc hw (br_f (by decide) (pa_w_set hc hbb (br_f (by decide) (pa_w_search hb hcur hw hbb (fun fi' fo' bc' bs' b11 b12 b13 b14 b15 b16 h => ?_)))))
  rcases h with ⟨e, h⟩ | ⟨B, e, e2, h⟩
  · subst e
    exact br_f pa_neg1 (Hn _ _ _ _ _ _ _ _ _ _ h)
  · subst e
    have hB := pa_lt10 h.1.1 hc
    exact br_t (nI_pos' (by omega)) (Hs B _ _ _ _ _ _ _ _ _ _ h)
theorem pa_w_planCost {post : Int32 → St1 → Prop} {bi no st fi fo bc bs : Int32} {a1 a2 a3 a4 a5 a6 a7 a8 a9 a10 a11 a12 a13 a14 a15 a16 a17 a18 a19 : Nat → Int32} {c cur w b : Nat} (hb : pa_wb c a2 a4 a5) (hcur : cur < 1024) (hw : w < 2 ^ c) (hbb : b < 2 ^ c)
    (Hn : ∀ fi' fo' bc' bs' b11 b12 b13 b14 b15 b16, (∀ S, ¬ (pa_va c (pa_RV c a1 a3) (pa_ND a5) (pa_MT c a4 a6 a7 a8 a9 a10) (pa_rq bi a8) w b) S) → post (-2) (nI c, bi, nI cur, no, st, fi', fo', bc', bs', a1, a2, a3, a4, a5, a6, a7, a8, a9, a10, b11, b12, b13, b14, b15, b16, a17, a18, a19))
    (Hs : ∀ B fi' fo' bc' bs' b11 b12 b13 b14 b15 b16, pa_best (pa_va c (pa_RV c a1 a3) (pa_ND a5) (pa_MT c a4 a6 a7 a8 a9 a10) (pa_rq bi a8) w b) (pa_ct c cur (pa_LG c a1 a2) (pa_ND a5) (pa_MT c a4 a6 a7 a8 a9 a10) (pa_op bi a8)) B → post (nI ((pa_ct c cur (pa_LG c a1 a2) (pa_ND a5) (pa_MT c a4 a6 a7 a8 a9 a10) (pa_op bi a8)) B)) (nI c, bi, nI cur, no, st, fi', fo', bc', bs', a1, a2, a3, a4, a5, a6, a7, a8, a9, a10, b11, b12, b13, b14, b15, b16, a17, a18, a19)) :
    wpX_planCost post (nI c, bi, nI cur, no, st, fi, fo, bc, bs, a1, a2, a3, a4, a5, a6, a7, a8, a9, a10, a11, a12, a13, a14, a15, a16, a17, a18, a19) (nI w) (nI b) := by
  have hc := hb.1
  unfold wpX_planCost
  dsimp only
  refine pa_w_set hc hw (br_f (by decide) (pa_w_set hc hbb (br_f (by decide) (pa_w_search hb hcur hw hbb (fun fi' fo' bc' bs' b11 b12 b13 b14 b15 b16 h => ?_)))))
  rcases h with ⟨e, h⟩ | ⟨B, e, e2, h⟩
  · subst e
    exact br_f pa_neg1 (Hn _ _ _ _ _ _ _ _ _ _ h)
  · subst e e2
    have hB := pa_lt10 h.1.1 hc
    exact br_t (nI_pos' (by omega)) (Hs B _ _ _ _ _ _ _ _ _ _ h)
theorem pa_w_sound {post : Int32 → St1 → Prop} {bi cu no st fi fo bc bs : Int32} {a1 a2 a3 a4 a5 a6 a7 a8 a9 a10 a11 a12 a13 a14 a15 a16 a17 a18 a19 : Nat → Int32} {c S : Nat} (hb : pa_wb c a2 a4 a5) (hS : S < 2 ^ c) (hok : pa_ok c (pa_RV c a1 a3) (pa_ND a5) (pa_MT c a4 a6 a7 a8 a9 a10) (pa_rq bi a8) S)
    (H : ∀ b11 b12 b13, post 1 (nI c, bi, cu, no, st, fi, fo, bc, bs, a1, a2, a3, a4, a5, a6, a7, a8, a9, a10, b11, b12, b13, a14, a15, a16, a17, a18, a19)) : wpX_sound post (nI c, bi, cu, no, st, fi, fo, bc, bs, a1, a2, a3, a4, a5, a6, a7, a8, a9, a10, a11, a12, a13, a14, a15, a16, a17, a18, a19) (nI S) := by
  have hc := hb.1
  have hm := pa_md_of (a1 := a1) (a3 := a3) (a6 := a6) (a7 := a7) (a8 := a8) (a9 := a9) (a10 := a10) hb
  unfold wpX_sound
  dsimp only
  refine pa_w_set hc hS (br_f (by decide) (pa_w_prep hb (fun b11 b12 b13 hp => ?_)))
  exact pa_w_is hm hp (pa_lt10 hS hc) (fun _ => br_f (by decide) (H b11 b12 b13)) (fun q => absurd hok q)
theorem pa_w_costs {post : Int32 → St1 → Prop} {bi no st fi fo bc bs : Int32} {a1 a2 a3 a4 a5 a6 a7 a8 a9 a10 a11 a12 a13 a14 a15 a16 a17 a18 a19 : Nat → Int32} {c cur S : Nat} (hb : pa_wb c a2 a4 a5) (hcur : cur < 1024) (hS : S < 2 ^ c)
    (H : ∀ b11 b12 b13, post (nI ((pa_ct c cur (pa_LG c a1 a2) (pa_ND a5) (pa_MT c a4 a6 a7 a8 a9 a10) (pa_op bi a8)) S)) (nI c, bi, nI cur, no, st, fi, fo, bc, bs, a1, a2, a3, a4, a5, a6, a7, a8, a9, a10, b11, b12, b13, a14, a15, a16, a17, a18, a19)) : wpX_cost post (nI c, bi, nI cur, no, st, fi, fo, bc, bs, a1, a2, a3, a4, a5, a6, a7, a8, a9, a10, a11, a12, a13, a14, a15, a16, a17, a18, a19) (nI S) := by
  have hc := hb.1
  have hm := pa_md_of (a1 := a1) (a3 := a3) (a6 := a6) (a7 := a7) (a8 := a8) (a9 := a9) (a10 := a10) hb
  unfold wpX_cost
  dsimp only
  refine pa_w_set hc hS (br_f (by decide) (pa_w_prep hb (fun b11 b12 b13 hp => ?_)))
  exact pa_w_cost hm hp (pa_lt10 hS hc) hcur (pa_lr_c S) (H b11 b12 b13)
/-- how much of a demand is given up -/
def pa_gv (w b S : Nat) : Nat := pa_pc (pa_df w S) 10 + pa_pc (b &&& S) 10
theorem pa_gv0 {w b S : Nat} (hw : w < 1024) (hb : b < 1024) : pa_gv w b S = 0 ↔ (pa_sub w S ∧ pa_dj b S) := by
  have h1 := pa_df_lt (c := 10) hw S
  have h2 : b &&& S ≤ b := Nat.and_le_left
  unfold pa_gv
  rw [← pa_df0 hw, ← pa_dj0, ← pa_pc_z h1, ← pa_pc_z (show b &&& S < 1024 by omega)]
  omega
theorem pa_w_ex {post : Int32 → St1 → Prop} {bi cu no st fi fo bc bs : Int32} {a1 a2 a3 a4 a5 a6 a7 a8 a9 a10 a11 a12 a13 a14 a15 a16 a17 a18 a19 : Nat → Int32} {c w b : Nat} (hb : pa_wb c a2 a4 a5) (hw : w < 2 ^ c) (hbb : b < 2 ^ c)
    (H : ∀ l b11 b12 b13, l ≤ 20 → (l = 0 ↔ ((w = 0 ∧ b = 0) ∨ ∃ S, (pa_va c (pa_RV c a1 a3) (pa_ND a5) (pa_MT c a4 a6 a7 a8 a9 a10) (pa_rq bi a8) w b) S)) → post (nI l) (nI c, bi, cu, no, st, fi, fo, bc, bs, a1, a2, a3, a4, a5, a6, a7, a8, a9, a10, b11, b12, b13, a14, a15, a16, a17, a18, a19)) :
    wpX_excess post (nI c, bi, cu, no, st, fi, fo, bc, bs, a1, a2, a3, a4, a5, a6, a7, a8, a9, a10, a11, a12, a13, a14, a15, a16, a17, a18, a19) (nI w) (nI b) := by
  have hc := hb.1
  have hm := pa_md_of (a1 := a1) (a3 := a3) (a6 := a6) (a7 := a7) (a8 := a8) (a9 := a9) (a10 := a10) hb
  have hp10 := pa_p10 hc
  have w10 := pa_lt10 hw hc
  have b10 := pa_lt10 hbb hc
  have pw := pa_pc_le w 10
  have pb := pa_pc_le b 10
  unfold wpX_excess
  dsimp only
  refine pa_w_set hc hw (br_f (by decide) (pa_w_set hc hbb (br_f (by decide) (pa_w_prep hb (fun b11 b12 b13 hp => pa_w_ones rfl (by omega) (pa_w_ones rfl (by omega) (nm_r (nI_add _ _) ?_)))))))
  refine pk_loop (fun n i s => wX_excess_35 post (nI w) (nI b) (nI c) bi cu no st fi fo bc bs a1 a2 a3 a4 a5 a6 a7 a8 a9 a10 b11 b12 b13 a14 a15 a16 a17 a18 a19 n s (nI i)) (fun i s => ∃ l, s = nI l ∧ l ≤ 20 ∧ (l = 0 ↔ (pa_pc w 10 + pa_pc b 10 = 0 ∨ ∃ S, S < i ∧ pa_ok c (pa_RV c a1 a3) (pa_ND a5) (pa_MT c a4 a6 a7 a8 a9 a10) (pa_rq bi a8) S ∧ pa_gv w b S = 0))) (2 ^ c) 0 _ (by omega) ⟨_, rfl, by omega, ⟨fun q => Or.inl q, fun q => ?_⟩⟩ (fun n s h => ?_) (fun n i s hi h hk => ?_)
  · rcases q with q | ⟨S, q, _⟩
    · exact q
    · omega
  · obtain ⟨l, rfl, h1, h2⟩ := h
    refine pk_le (2 ^ c) (2 ^ c) (fun _ => H l b11 b12 b13 h1 ?_) (fun z => absurd z (by omega)) (pa_shl c (by omega)) rfl (by omega) (by omega)
    rw [h2]
    constructor
    · intro q
      rcases q with q | ⟨S, q1, q2, q3⟩
      · exact Or.inl ⟨(pa_pc_z w10).mp (by omega), (pa_pc_z b10).mp (by omega)⟩
      · have q4 := (pa_gv0 w10 b10).mp q3
        exact Or.inr ⟨S, q1, q2, q4.1, q4.2⟩
    · intro q
      rcases q with ⟨q1, q2⟩ | ⟨S, q1, q2, q3, q4⟩
      · left
        rw [(pa_pc_z w10).mpr q1, (pa_pc_z b10).mpr q2]
      · exact Or.inr ⟨S, q1, q2, (pa_gv0 w10 b10).mpr ⟨q3, q4⟩⟩
  · obtain ⟨l, rfl, h1, h2⟩ := h
    have e : nI i + 1 = nI (i + 1) := nI_1 i
    have d1 := pa_df_lt (c := 10) w10 i
    have d2 : b &&& i ≤ b := Nat.and_le_left
    have g1 := pa_pc_le (pa_df w i) 10
    have g2 := pa_pc_le (b &&& i) 10
    refine pk_le (2 ^ c) i (fun z => absurd z (by omega)) (fun _ => ?_) (pa_shl c (by omega)) rfl (by omega) (by omega)
    refine pa_w_ones (pa_not w10 i) (by omega) (pa_w_ones (pa_and b i) (by omega) (nm_r (e' := nI (pa_gv w b i)) (nI_add _ _) ?_))
    have g3 : pa_gv w b i ≤ 20 := by unfold pa_gv; omega
    have keep : (pa_ok c (pa_RV c a1 a3) (pa_ND a5) (pa_MT c a4 a6 a7 a8 a9 a10) (pa_rq bi a8) i → l ≤ pa_gv w b i) → (l = 0 ↔ (pa_pc w 10 + pa_pc b 10 = 0 ∨ ∃ S, S < i + 1 ∧ pa_ok c (pa_RV c a1 a3) (pa_ND a5) (pa_MT c a4 a6 a7 a8 a9 a10) (pa_rq bi a8) S ∧ pa_gv w b S = 0)) := by
      intro hq
      rw [h2]
      constructor
      · intro q
        rcases q with q | ⟨S, q1, q2⟩
        · exact Or.inl q
        · exact Or.inr ⟨S, by omega, q2⟩
      · intro q
        rcases q with q | ⟨S, q1, q2, q3⟩
        · exact Or.inl q
        · by_cases z : S = i
          · subst z
            have := hq q2
            exact h2.mp (by omega)
          · exact Or.inr ⟨S, by omega, q2, q3⟩
    refine pk_le l (pa_gv w b i) (fun z => nm_r e (hk _ ⟨l, rfl, h1, keep (fun _ => z)⟩)) (fun z => ?_)
    refine pa_w_is hm hp (by omega) (fun hok => br_f (by decide) (nm_r e (hk _ ⟨pa_gv w b i, rfl, g3, ?_⟩))) (fun hok => br_t rfl (nm_r e (hk _ ⟨l, rfl, h1, keep (fun q => absurd q hok)⟩)))
    constructor
    · intro q
      exact Or.inr ⟨i, by omega, hok, q⟩
    · intro q
      have hl : ¬ (pa_pc w 10 + pa_pc b 10 = 0 ∨ ∃ S, S < i ∧ pa_ok c (pa_RV c a1 a3) (pa_ND a5) (pa_MT c a4 a6 a7 a8 a9 a10) (pa_rq bi a8) S ∧ pa_gv w b S = 0) := fun y => by
        have := h2.mpr y
        omega
      rcases q with q | ⟨S, q1, q2, q3⟩
      · exact absurd (Or.inl q) hl
      · by_cases y : S = i
        · rw [← y]; exact q3
        · exact absurd (Or.inr ⟨S, by omega, q2, q3⟩) hl
end
section
/-! undo, doStep, changeTo -/
def pa_jx (J : Nat → Nat) : Nat → Nat
  | 0 => 0
  | k + 1 => pa_jx J k ^^^ 2 ^ J k
theorem pa_jx_cg {f g : Nat → Nat} (k : Nat) (h : ∀ j, j < k → f j = g j) : pa_jx f k = pa_jx g k := by
  induction k with
  | zero => rfl
  | succ k ih =>
    show pa_jx f k ^^^ 2 ^ f k = pa_jx g k ^^^ 2 ^ g k
    rw [ih (fun j hj => h j (by omega)), h k (by omega)]
theorem pa_w_undo {post : St1 → Prop} {ct bi no fi fo bc bs : Int32} {a1 a2 a3 a4 a5 a6 a7 a8 a9 a10 a11 a12 a13 a14 a15 a16 a17 a18 a19 : Nat → Int32} {X k : Nat} {J : Nat → Nat} (hk : k ≤ 10) (hJ : ∀ j, j < k → (a17 j = nI (J j) ∧ J j < 10)) (H : ∀ b19, post (ct, bi, nI X, no, nI k, fi, fo, bc, bs, a1, a2, a3, a4, a5, a6, a7, a8, a9, a10, a11, a12, a13, a14, a15, a16, a17, a18, b19)) :
    wpX_undo post (ct, bi, nI (X ^^^ pa_jx J k), no, nI k, fi, fo, bc, bs, a1, a2, a3, a4, a5, a6, a7, a8, a9, a10, a11, a12, a13, a14, a15, a16, a17, a18, a19) := by
  refine nm_r (e' := nI k + (-1)) (Int32.sub_eq_add_neg _ _) ?_
  refine ⟨k + 1, pk_loopD (σ := Int32 × (Nat → Int32)) (fun n i s => wX_undo_7 post ct bi no (nI k) fi fo bc bs n (nI i + (-1)) s.1 a1 a2 a3 a4 a5 a6 a7 a8 a9 a10 a11 a12 a13 a14 a15 a16 a17 a18 (s.2)) (fun i s => i ≤ k ∧ s.1 = nI (X ^^^ pa_jx J i)) (fun n s h => ?_) (fun n i s h hw => ?_) k (nI (X ^^^ pa_jx J k), a19) ⟨Nat.le_refl k, rfl⟩⟩
  · obtain ⟨y, b19⟩ := s
    obtain ⟨_, e⟩ := h
    have e' : y = nI X := by rw [show y = nI (X ^^^ pa_jx J 0) from e]; show nI (X ^^^ 0) = nI X; rw [Nat.xor_zero]
    subst e'
    exact br_t (by decide) (H b19)
  · obtain ⟨y, b19⟩ := s
    obtain ⟨hi, e⟩ := h
    obtain ⟨j1, j2⟩ := hJ i (by omega)
    have e' : y = nI (X ^^^ pa_jx J (i + 1)) := e
    show wX_undo_7 post ct bi no (nI k) fi fo bc bs (n + 1) (nI (i + 1) + (-1)) y a1 a2 a3 a4 a5 a6 a7 a8 a9 a10 a11 a12 a13 a14 a15 a16 a17 a18 b19
    rw [pk_m1]
    refine br_f (nI_pos (by omega)) (And.intro (pk_in i 10 (by omega)) (nm_r (e' := nI (X ^^^ pa_jx J i)) ?_ (And.intro (pk_in i 10 (by omega)) (And.intro (pk_in (J i) 10 j2 ?_) (And.intro (pk_in (J i) 10 j2 ?_) (nm_e (nm_r (e' := nI i + (-1)) rfl (hw (nI (X ^^^ pa_jx J i), _) ⟨by omega, rfl⟩))))))))
    · rw [nI_clamp (show i < 2 ^ 31 by omega), j1, pa_shl (J i) (by omega), e', pa_xor]
      show nI (X ^^^ (pa_jx J i ^^^ 2 ^ J i) ^^^ 2 ^ J i) = _
      rw [Nat.xor_assoc, Nat.xor_assoc, Nat.xor_self, Nat.xor_zero]
    · rw [nI_clamp (show i < 2 ^ 31 by omega), j1]
    · rw [nI_clamp (show i < 2 ^ 31 by omega), j1]
theorem pa_w_ds {post : St1 → Prop} {ct bi no fi fo bc bs : Int32} {a1 a2 a3 a4 a5 a6 a7 a8 a9 a10 a11 a12 a13 a14 a15 a16 a17 a18 a19 : Nat → Int32} {F u k : Nat} (hu : u < 10) (hk : k < 10) (H : ∀ b19, post (ct, bi, nI (F ^^^ 2 ^ u), no, nI (k + 1), fi, fo, bc, bs, a1, a2, a3, a4, a5, a6, a7, a8, a9, a10, a11, a12, a13, a14, a15, a16, upd a17 k (nI u), a18, b19)) :
    wpX_doStep post (ct, bi, nI F, no, nI k, fi, fo, bc, bs, a1, a2, a3, a4, a5, a6, a7, a8, a9, a10, a11, a12, a13, a14, a15, a16, a17, a18, a19) (nI u) := by
  refine nm_r (e' := nI (F ^^^ 2 ^ u)) (by rw [pa_shl u (by omega), pa_xor]) (And.intro (pk_in u 10 hu) (And.intro (pk_in u 10 hu) (nm_e (And.intro (pk_in k 10 hk) (nm_r (e' := upd a17 k (nI u)) (by rw [nI_clamp (by omega)]) (nm_r (nI_1 k) (H _)))))))
/-- a change under way: F is what is flipped -/
def pa_ch (X G : Nat) (f : Int32) (F : Nat) (cu st : Int32) (a17 : Nat → Int32) : Prop :=
  ∃ (J : Nat → Nat) (k : Nat), cu = nI (X ^^^ F) ∧ st = nI k ∧ F = pa_jx J k ∧ k = pa_pc F 10 ∧ (∀ j, j < k → (a17 j = nI (J j) ∧ J j < 10)) ∧ pa_sub F (X ^^^ G) ∧ (f = -1 ∨ ∃ K, f = nI K ∧ K < pa_pc (X ^^^ G) 10 ∧ k ≤ K)
theorem pa_ch_0 {X G : Nat} {f : Int32} {a17 : Nat → Int32} (hf : f = -1 ∨ ∃ K, f = nI K ∧ K < pa_pc (X ^^^ G) 10) : pa_ch X G f 0 (nI X) 0 a17 := by
  refine ⟨fun _ => 0, 0, by rw [Nat.xor_zero], rfl, rfl, ((pa_pc_z (by omega)).mpr rfl).symm, fun j hj => absurd hj (by omega), pa_sub_0 _, ?_⟩
  rcases hf with h | ⟨K, h1, h2⟩
  · exact Or.inl h
  · exact Or.inr ⟨K, h1, h2, by omega⟩
theorem pa_w_chu {post : St1 → Prop} {ct bi cu no st fi fo bc bs : Int32} {a1 a2 a3 a4 a5 a6 a7 a8 a9 a10 a11 a12 a13 a14 a15 a16 a17 a18 a19 : Nat → Int32} {X G F : Nat} {f : Int32} (h : pa_ch X G f F cu st a17) (H : ∀ b19, post (ct, bi, nI X, no, st, fi, fo, bc, bs, a1, a2, a3, a4, a5, a6, a7, a8, a9, a10, a11, a12, a13, a14, a15, a16, a17, a18, b19)) : wpX_undo post (ct, bi, cu, no, st, fi, fo, bc, bs, a1, a2, a3, a4, a5, a6, a7, a8, a9, a10, a11, a12, a13, a14, a15, a16, a17, a18, a19) := by
  obtain ⟨J, k, rfl, rfl, rfl, h4, h5, h6, h7⟩ := h
  have := pa_pc_le (pa_jx J k) 10
  exact pa_w_undo (by omega) h5 H
theorem pa_w_chs {post : St1 → Prop} {ct bi cu no st fi fo bc bs : Int32} {a1 a2 a3 a4 a5 a6 a7 a8 a9 a10 a11 a12 a13 a14 a15 a16 a17 a18 a19 : Nat → Int32} {X G F u : Nat} {f : Int32} (h : pa_ch X G f F cu st a17) (hu : u < 10) (hF : F.testBit u = false) (hX : (X ^^^ G).testBit u = true) (hne : ¬ st = f)
    (H : ∀ cu' st' b17 b19, pa_ch X G f (F ^^^ 2 ^ u) cu' st' b17 → post (ct, bi, cu', no, st', fi, fo, bc, bs, a1, a2, a3, a4, a5, a6, a7, a8, a9, a10, a11, a12, a13, a14, a15, a16, b17, a18, b19)) : wpX_doStep post (ct, bi, cu, no, st, fi, fo, bc, bs, a1, a2, a3, a4, a5, a6, a7, a8, a9, a10, a11, a12, a13, a14, a15, a16, a17, a18, a19) (nI u) := by
  obtain ⟨J, k, rfl, rfl, h3, h4, h5, h6, h7⟩ := h
  have l1 := pa_pc_lt h6 hF hX 10 hu
  have l2 := pa_pc_le (X ^^^ G) 10
  refine pa_w_ds hu (by omega) (fun b19 => H _ _ _ _ ⟨fun j => if j = k then u else J j, k + 1, ?_, rfl, ?_, ?_, fun j hj => ?_, fun x hx => ?_, ?_⟩)
  · rw [Nat.xor_assoc]
  · show F ^^^ 2 ^ u = pa_jx (fun j => if j = k then u else J j) k ^^^ 2 ^ (if k = k then u else J k)
    rw [if_pos rfl, pa_jx_cg (g := J) k (fun j hj => if_neg (by omega)), ← h3]
  · rw [pa_pc_flip hF 10 hu, h4]
  · by_cases e : j = k
    · subst e
      show upd a17 j (nI u) j = nI (if j = j then u else J j) ∧ (if j = j then u else J j) < 10
      rw [if_pos rfl, pk_us]
      exact ⟨rfl, hu⟩
    · show upd a17 k (nI u) j = nI (if j = k then u else J j) ∧ (if j = k then u else J j) < 10
      rw [if_neg e, pk_un e]
      exact h5 j (by omega)
  · by_cases e : x = u
    · rw [e]; exact hX
    · rw [Nat.testBit_xor, Nat.testBit_two_pow_of_ne (fun q => e q.symm), Bool.xor_false] at hx
      exact h6 x hx
  · rcases h7 with h7 | ⟨K, q1, q2, q3⟩
    · exact Or.inl h7
    · refine Or.inr ⟨K, q1, q2, ?_⟩
      have : k ≠ K := fun q => hne (by rw [q1, q])
      omega
/-- the notes -/
def pa_hs (c m : Nat) (a18 : Nat → Int32) : Prop := m ≤ 8 ∧ ∀ i, i < m → ∃ h, h < 2 ^ c ∧ a18 i = nI h
theorem pa_w_200 {post : Int32 → St1 → Prop} {ct bi st fi fo bc bs : Int32} {a1 a2 a3 a4 a5 a6 a7 a8 a9 a10 a11 a12 a13 a14 a15 a16 a17 a18 a19 : Nat → Int32} {c m G : Nat} (hG : G < 2 ^ c) (hm : m < 8) (hh : pa_hs c m a18)
    (H : ∀ b18, pa_hs c (m + 1) b18 → post st (ct, bi, nI G, nI (m + 1), st, fi, fo, bc, bs, a1, a2, a3, a4, a5, a6, a7, a8, a9, a10, a11, a12, a13, a14, a15, a16, a17, b18, a19)) : wX_changeTo_200 post ct bi (nI G) (nI m) st fi fo bc bs a1 a2 a3 a4 a5 a6 a7 a8 a9 a10 a11 a12 a13 a14 a15 a16 a17 a18 a19 := by
  refine And.intro (pk_in m 8 hm) (nm_e (nm_r (nI_1 m) (H _ ⟨by omega, fun i hi => ?_⟩)))
  rw [nI_clamp (show m < 2 ^ 31 by omega)]
  by_cases e : i = m
  · rw [e, pk_us]; exact ⟨G, hG, rfl⟩
  · rw [pk_un e]; exact hh.2 i (by omega)
theorem pa_w_note {post : Int32 → St1 → Prop} {ct bi st fi fo bc bs : Int32} {a1 a2 a3 a4 a5 a6 a7 a8 a9 a10 a11 a12 a13 a14 a15 a16 a17 a18 a19 : Nat → Int32} {c m G : Nat} (hG : G < 2 ^ c) (hh : pa_hs c m a18)
    (H : ∀ m' b18, pa_hs c m' b18 → post st (ct, bi, nI G, nI m', st, fi, fo, bc, bs, a1, a2, a3, a4, a5, a6, a7, a8, a9, a10, a11, a12, a13, a14, a15, a16, a17, b18, a19)) :
    (nI m = 8 → ∃ n, wX_changeTo_161 post ct bi (nI G) (nI m) st fi fo bc bs n 1 a1 a2 a3 a4 a5 a6 a7 a8 a9 a10 a11 a12 a13 a14 a15 a16 a17 a18 a19) ∧ (¬ nI m = 8 → wX_changeTo_200 post ct bi (nI G) (nI m) st fi fo bc bs a1 a2 a3 a4 a5 a6 a7 a8 a9 a10 a11 a12 a13 a14 a15 a16 a17 a18 a19) := by
  have hm8 := hh.1
  refine pk_eq m 8 (fun z => ?_) (fun z => pa_w_200 hG (by omega) hh (fun b18 q => H _ b18 q))
  refine pk_loop (fun n i s => wX_changeTo_161 post ct bi (nI G) (nI m) st fi fo bc bs n (nI i) a1 a2 a3 a4 a5 a6 a7 a8 a9 a10 a11 a12 a13 a14 a15 a16 a17 s a19) (fun i s => 1 ≤ i ∧ ∀ j, j < 8 → ∃ h, h < 2 ^ c ∧ s j = nI h) 8 1 a18 (by omega) ⟨by omega, fun j hj => hh.2 j (by omega)⟩ (fun n s h => pk_le 8 8 (fun _ => nm_r (e' := nI 7) (by rw [z]; decide) (pa_w_200 (m := 7) hG (by omega) ⟨by omega, fun i hi => h.2 i (by omega)⟩ (fun b18 q => H _ b18 q))) (fun z => absurd z (by omega))) (fun n i s hi h hw => ?_)
  obtain ⟨h1, h2⟩ := h
  have e1 : nI i - 1 = nI (i - 1) := pk_sub (a := i) (b := 1) h1
  refine pk_le 8 i (fun z => absurd z (by omega)) (fun _ => And.intro (pk_in i 8 hi) (And.intro (pk_in (i - 1) 8 (by omega) e1) (nm_e (nm_r (nI_1 i) (hw _ ⟨by omega, fun j hj => ?_⟩)))))
  rw [e1, nI_clamp (show i - 1 < 2 ^ 31 by omega), nI_clamp (show i < 2 ^ 31 by omega)]
  by_cases e : j = i - 1
  · rw [e, pk_us]; exact h2 i hi
  · rw [pk_un e]; exact h2 j hj
theorem pa_nm1 {k : Nat} (hk : k < 2 ^ 31) : ¬ nI k = -1 := by
  intro q
  have q3 := nI_pos hk
  rw [q] at q3
  exact q3 (by decide)
theorem pa_chb {a b u : Nat} (ha : a < 1024) (hu : u < 31) : ((nI a &&& (nI b ^^^ (-1))) >>> (nI u &&& 31)) &&& 1 = 1 ↔ (a.testBit u = true ∧ b.testBit u = false) := by
  have h := pa_df_lt (c := 10) ha b
  rw [pa_not ha b, pa_bit1 (by omega) hu, pa_df_tb ha]
  cases a.testBit u <;> cases b.testBit u <;> simp
theorem pa_ch_f {X G F : Nat} {f cu st : Int32} {a17 : Nat → Int32} (h : pa_ch X G f F cu st a17) (hq : st = f) : ¬ f = -1 := by
  obtain ⟨J, k, h1, h2, h3, h4, h5, h6, h7⟩ := h
  have := pa_pc_le F 10
  rw [← hq, h2]
  exact pa_nm1 (by omega)
theorem pa_ch_e {X G F : Nat} {f cu st : Int32} {a17 : Nat → Int32} (h : pa_ch X G f F cu st a17) (e : F = X ^^^ G) : f = -1 ∧ cu = nI G ∧ st = nI (pa_pc (X ^^^ G) 10) := by
  obtain ⟨J, k, h1, h2, h3, h4, h5, h6, h7⟩ := h
  refine ⟨?_, ?_, ?_⟩
  · rcases h7 with h7 | ⟨K, q1, q2, q3⟩
    · exact h7
    · rw [e] at h4; omega
  · rw [h1, e, ← Nat.xor_assoc, Nat.xor_self, Nat.zero_xor]
  · rw [h2, h4, e]
theorem pa_w_83 {post : Int32 → St1 → Prop} {bi cu st fi fo bc bs : Int32} {a1 a2 a3 a4 a5 a6 a7 a8 a9 a10 a11 a12 a13 a14 a15 a16 a17 a18 a19 : Nat → Int32} {c m X G F : Nat} {f : Int32} (hc : c ≤ 10) (hX : X < 2 ^ c) (hG : G < 2 ^ c) (hh : pa_hs c m a18)
    (h : pa_ch X G f F cu st a17) (hF : ∀ x, F.testBit x = (X.testBit x && !G.testBit x))
    (Hu : ¬ f = -1 → ∀ st' b17 b19, post 0 (nI c, bi, nI X, nI m, st', fi, fo, bc, bs, a1, a2, a3, a4, a5, a6, a7, a8, a9, a10, a11, a12, a13, a14, a15, a16, b17, a18, b19))
    (Hs : f = -1 → ∀ m' b17 b18 b19, pa_hs c m' b18 → post (nI (pa_pc (X ^^^ G) 10)) (nI c, bi, nI G, nI m', nI (pa_pc (X ^^^ G) 10), fi, fo, bc, bs, a1, a2, a3, a4, a5, a6, a7, a8, a9, a10, a11, a12, a13, a14, a15, a16, b17, b18, b19)) :
    ∃ n, wX_changeTo_83 post (nI G) f (nI X) n 0 (nI c) bi cu (nI m) st fi fo bc bs a1 a2 a3 a4 a5 a6 a7 a8 a9 a10 a11 a12 a13 a14 a15 a16 a17 a18 a19 := by
  have X10 := pa_lt10 hX hc
  have G10 := pa_lt10 hG hc
  refine pk_loop (σ := Int32 × Int32 × (Nat → Int32) × (Nat → Int32)) (fun n i s => wX_changeTo_83 post (nI G) f (nI X) n (nI i) (nI c) bi (s.1) (nI m) (s.2.1) fi fo bc bs a1 a2 a3 a4 a5 a6 a7 a8 a9 a10 a11 a12 a13 a14 a15 a16 (s.2.2.1) a18 (s.2.2.2))
    (fun i s => ∃ F, pa_ch X G f F s.1 s.2.1 s.2.2.1 ∧ ∀ x, F.testBit x = ((X.testBit x && !G.testBit x) || (decide (x < i) && (G.testBit x && !X.testBit x)))) c 0 (cu, st, a17, a19) (by omega) ⟨F, h, fun x => ?_⟩ (fun n s h => ?_) (fun n i s hi h hw => ?_)
  · rw [hF x, decide_eq_false (show ¬ x < 0 by omega)]; simp
  · obtain ⟨y, z, b17, b19⟩ := s
    obtain ⟨F, h1, h2⟩ := h
    have e : F = X ^^^ G := by
      apply Nat.eq_of_testBit_eq
      intro x
      rw [h2 x, Nat.testBit_xor]
      by_cases q : x < c
      · rw [decide_eq_true q]; cases X.testBit x <;> cases G.testBit x <;> rfl
      · rw [pa_hi hX (by omega), pa_hi hG (by omega)]; simp
    obtain ⟨e1, e2, e3⟩ := pa_ch_e h1 e
    have e2' : y = nI G := e2
    have e3' : z = nI (pa_pc (X ^^^ G) 10) := e3
    subst e2' e3'
    exact pk_le c c (fun _ => pa_w_note hG hh (fun m' b18 q => Hs e1 m' b17 b18 b19 q)) (fun q => absurd q (by omega))
  · obtain ⟨y, z, b17, b19⟩ := s
    obtain ⟨F, h1, h2⟩ := h
    have h1' : pa_ch X G f F y z b17 := h1
    have hw' : ∀ y' z' c17 c19, (∃ F, pa_ch X G f F y' z' c17 ∧ ∀ x, F.testBit x = ((X.testBit x && !G.testBit x) || (decide (x < i + 1) && (G.testBit x && !X.testBit x)))) → wX_changeTo_83 post (nI G) f (nI X) n (nI (i + 1)) (nI c) bi y' (nI m) z' fi fo bc bs a1 a2 a3 a4 a5 a6 a7 a8 a9 a10 a11 a12 a13 a14 a15 a16 c17 a18 c19 := fun y' z' c17 c19 q => hw (y', z', c17, c19) q
    have bt := pa_chb (b := X) (u := i) G10 (by omega)
    show wX_changeTo_83 post (nI G) f (nI X) (n + 1) (nI i) (nI c) bi y (nI m) z fi fo bc bs a1 a2 a3 a4 a5 a6 a7 a8 a9 a10 a11 a12 a13 a14 a15 a16 b17 a18 b19
    refine pk_le c i (fun q => absurd q (by omega)) (fun _ => ek_if bt (fun g => br_c (fun q => br_t (bt.mpr g) (pa_w_chu h1' (fun c19 => Hu (pa_ch_f h1' q) _ _ c19))) (fun q => pa_w_chs h1' (by omega) ?_ ?_ q (fun y' z' c17 c19 h' => nm_r (nI_1 i) (hw' y' z' c17 c19 ⟨_, h', fun x => ?_⟩)))) (fun g => br_f (fun q => g (bt.mp q)) (nm_r (nI_1 i) (hw' y z b17 b19 ⟨F, h1', fun x => ?_⟩))))
    · rw [h2 i, g.1, g.2, decide_eq_false (show ¬ i < i by omega)]; rfl
    · rw [Nat.testBit_xor, g.1, g.2]; rfl
    · rw [Nat.testBit_xor, h2 x]
      by_cases q1 : x = i
      · rw [q1, g.1, g.2, decide_eq_false (show ¬ i < i by omega), decide_eq_true (show i < i + 1 by omega), Nat.testBit_two_pow_self]; rfl
      · rw [Nat.testBit_two_pow_of_ne (fun q => q1 q.symm), Bool.xor_false, show decide (x < i + 1) = decide (x < i) from by
          by_cases q2 : x < i
          · rw [decide_eq_true q2, decide_eq_true (by omega)]
          · rw [decide_eq_false q2, decide_eq_false (by omega)]]
    · rw [h2 x]
      by_cases q1 : x = i
      · have q3 : (G.testBit x && !X.testBit x) = false := by
          rw [q1]
          revert g
          cases G.testBit i <;> cases X.testBit i <;> simp
        rw [q3]; simp
      · rw [show decide (x < i + 1) = decide (x < i) from by
          by_cases q2 : x < i
          · rw [decide_eq_true q2, decide_eq_true (by omega)]
          · rw [decide_eq_false q2, decide_eq_false (by omega)]]
theorem pa_w_change {post : Int32 → St1 → Prop} {bi st fi fo bc bs : Int32} {a1 a2 a3 a4 a5 a6 a7 a8 a9 a10 a11 a12 a13 a14 a15 a16 a17 a18 a19 : Nat → Int32} {c m X G : Nat} {f : Int32} (hc : c ≤ 10) (hX : X < 2 ^ c) (hG : G < 2 ^ c) (hh : pa_hs c m a18)
    (hf : f = -1 ∨ ∃ K, f = nI K ∧ K < pa_pc (X ^^^ G) 10)
    (Hu : ¬ f = -1 → ∀ st' b17 b19, post 0 (nI c, bi, nI X, nI m, st', fi, fo, bc, bs, a1, a2, a3, a4, a5, a6, a7, a8, a9, a10, a11, a12, a13, a14, a15, a16, b17, a18, b19))
    (Hs : f = -1 → ∀ m' b17 b18 b19, pa_hs c m' b18 → post (nI (pa_pc (X ^^^ G) 10)) (nI c, bi, nI G, nI m', nI (pa_pc (X ^^^ G) 10), fi, fo, bc, bs, a1, a2, a3, a4, a5, a6, a7, a8, a9, a10, a11, a12, a13, a14, a15, a16, b17, b18, b19)) :
    wpX_changeTo post (nI c, bi, nI X, nI m, st, fi, fo, bc, bs, a1, a2, a3, a4, a5, a6, a7, a8, a9, a10, a11, a12, a13, a14, a15, a16, a17, a18, a19) (nI G) f := by
  have X10 := pa_lt10 hX hc
  have G10 := pa_lt10 hG hc
  refine nm_r (e' := nI c + (-1)) (Int32.sub_eq_add_neg _ _) ?_
  refine ⟨c + 1, pk_loopD (σ := Int32 × Int32 × (Nat → Int32) × (Nat → Int32)) (fun n i s => wX_changeTo_18 post (nI G) f (nI X) n (nI i + (-1)) (nI c) bi (s.1) (nI m) (s.2.1) fi fo bc bs a1 a2 a3 a4 a5 a6 a7 a8 a9 a10 a11 a12 a13 a14 a15 a16 (s.2.2.1) a18 (s.2.2.2))
    (fun i s => i ≤ c ∧ ∃ F, pa_ch X G f F s.1 s.2.1 s.2.2.1 ∧ ∀ x, F.testBit x = (decide (i ≤ x) && (X.testBit x && !G.testBit x))) (fun n s h => ?_) (fun n i s h hw => ?_) c (nI X, 0, a17, a19) ⟨Nat.le_refl c, 0, pa_ch_0 hf, fun x => ?_⟩⟩
  · obtain ⟨y, z, b17, b19⟩ := s
    obtain ⟨_, F, h1, h2⟩ := h
    exact br_t (by decide) (pa_w_83 hc hX hG hh h1 (fun x => by rw [h2 x, decide_eq_true (Nat.zero_le x)]; rfl) Hu Hs)
  · obtain ⟨y, z, b17, b19⟩ := s
    obtain ⟨hi, F, h1, h2⟩ := h
    have h1' : pa_ch X G f F y z b17 := h1
    have hw' : ∀ y' z' c17 c19, (∃ F, pa_ch X G f F y' z' c17 ∧ ∀ x, F.testBit x = (decide (i ≤ x) && (X.testBit x && !G.testBit x))) → wX_changeTo_18 post (nI G) f (nI X) n (nI i + (-1)) (nI c) bi y' (nI m) z' fi fo bc bs a1 a2 a3 a4 a5 a6 a7 a8 a9 a10 a11 a12 a13 a14 a15 a16 c17 a18 c19 := fun y' z' c17 c19 q => hw (y', z', c17, c19) ⟨by omega, q⟩
    have bt := pa_chb (b := G) (u := i) X10 (by omega)
    show wX_changeTo_18 post (nI G) f (nI X) (n + 1) (nI (i + 1) + (-1)) (nI c) bi y (nI m) z fi fo bc bs a1 a2 a3 a4 a5 a6 a7 a8 a9 a10 a11 a12 a13 a14 a15 a16 b17 a18 b19
    rw [pk_m1]
    refine br_f (nI_pos (by omega)) (ek_if bt (fun g => br_c (fun q => br_t (bt.mpr g) (pa_w_chu h1' (fun c19 => Hu (pa_ch_f h1' q) _ _ c19))) (fun q => pa_w_chs h1' (by omega) ?_ ?_ q (fun y' z' c17 c19 h' => nm_r (e' := nI i + (-1)) rfl (hw' y' z' c17 c19 ⟨_, h', fun x => ?_⟩)))) (fun g => br_f (fun q => g (bt.mp q)) (nm_r (e' := nI i + (-1)) rfl (hw' y z b17 b19 ⟨F, h1', fun x => ?_⟩))))
    · rw [h2 i, decide_eq_false (show ¬ i + 1 ≤ i by omega)]; rfl
    · rw [Nat.testBit_xor, g.1, g.2]; rfl
    · rw [Nat.testBit_xor, h2 x]
      by_cases q1 : x = i
      · rw [q1, g.1, g.2, decide_eq_false (show ¬ i + 1 ≤ i by omega), decide_eq_true (Nat.le_refl i), Nat.testBit_two_pow_self]; rfl
      · rw [Nat.testBit_two_pow_of_ne (fun q => q1 q.symm), Bool.xor_false, show decide (i + 1 ≤ x) = decide (i ≤ x) from by
          by_cases q2 : i ≤ x
          · rw [decide_eq_true q2, decide_eq_true (by omega)]
          · rw [decide_eq_false q2, decide_eq_false (by omega)]]
    · rw [h2 x]
      by_cases q1 : x = i
      · have q3 : (X.testBit x && !G.testBit x) = false := by
          rw [q1]
          revert g
          cases X.testBit i <;> cases G.testBit i <;> simp
        rw [q3]; simp
      · rw [show decide (i + 1 ≤ x) = decide (i ≤ x) from by
          by_cases q2 : i ≤ x
          · rw [decide_eq_true q2, decide_eq_true (by omega)]
          · rw [decide_eq_false q2, decide_eq_false (by omega)]]
  · rw [Nat.zero_testBit]
    by_cases q : c ≤ x
    · rw [pa_hi hX q]; simp
    · rw [decide_eq_false q]; rfl
end
section
/-! fail, apply, revert; unit, offer, need, environment; a turn -/
theorem pa_w_fail {post : Int32 → St1 → Prop} {bi st fi fo bc bs : Int32} {a1 a2 a3 a4 a5 a6 a7 a8 a9 a10 a11 a12 a13 a14 a15 a16 a17 a18 a19 : Nat → Int32} {c cur m w b : Nat} {p2 : Int32} (hb : pa_wb c a2 a4 a5) (hcur : cur < 2 ^ c) (hh : pa_hs c m a18) (hw : w < 2 ^ c) (hbb : b < 2 ^ c)
    (H : ∀ r fi' fo' bc' bs' b11 b12 b13 b14 b15 b16 st' b17 b19, post r (nI c, bi, nI cur, nI m, st', fi', fo', bc', bs', a1, a2, a3, a4, a5, a6, a7, a8, a9, a10, b11, b12, b13, b14, b15, b16, b17, a18, b19)) :
    wpX_fail post (nI c, bi, nI cur, nI m, st, fi, fo, bc, bs, a1, a2, a3, a4, a5, a6, a7, a8, a9, a10, a11, a12, a13, a14, a15, a16, a17, a18, a19) (nI w) (nI b) p2 := by
  have hc := hb.1
  have cur10 := pa_lt10 hcur hc
  unfold wpX_fail
  dsimp only
  refine pa_w_plan hb cur10 hw hbb (fun fi' fo' bc' bs' b11 b12 b13 b14 b15 b16 h => ?_) (fun B fi' fo' bc' bs' b11 b12 b13 b14 b15 b16 h => ?_)
  · exact br_f (by decide) (H _ _ _ _ _ _ _ _ _ _ _ _ _ _)
  · have hB := h.1.1
    have B10 := pa_lt10 hB hc
    have hx : B ^^^ cur < 2 ^ 10 := Nat.xor_lt_two_pow B10 cur10
    refine br_t (nI_pos' (by omega)) (br_c (fun _ => H _ _ _ _ _ _ _ _ _ _ _ _ _ _) (fun g => pa_w_ones (pa_xor B cur) (by omega) ?_))
    obtain ⟨K, hK, rfl⟩ := nI_of g
    have hp := pa_pc_le (B ^^^ cur) 10
    refine pk_lt K (pa_pc (B ^^^ cur) 10) (fun z => ?_) (fun _ => H _ _ _ _ _ _ _ _ _ _ _ _ _ _)
    exact pa_w_change hc hcur hB hh (Or.inr ⟨K, rfl, by rw [Nat.xor_comm]; exact z⟩) (fun _ st' b17 b19 => H _ _ _ _ _ _ _ _ _ _ _ _ _ _) (fun q => absurd q (pa_nm1 hK))
theorem pa_w_apply {post : Int32 → St1 → Prop} {bi st fi fo bc bs : Int32} {a1 a2 a3 a4 a5 a6 a7 a8 a9 a10 a11 a12 a13 a14 a15 a16 a17 a18 a19 : Nat → Int32} {c cur m w b : Nat} (hb : pa_wb c a2 a4 a5) (hcur : cur < 2 ^ c) (hh : pa_hs c m a18) (hw : w < 2 ^ c) (hbb : b < 2 ^ c)
    (Hn : ∀ fi' fo' bc' bs' b11 b12 b13 b14 b15 b16, (∀ S, ¬ (pa_va c (pa_RV c a1 a3) (pa_ND a5) (pa_MT c a4 a6 a7 a8 a9 a10) (pa_rq bi a8) w b) S) → post (-2) (nI c, bi, nI cur, nI m, st, fi', fo', bc', bs', a1, a2, a3, a4, a5, a6, a7, a8, a9, a10, b11, b12, b13, b14, b15, b16, a17, a18, a19))
    (Hs : ∀ B fi' fo' bc' bs' b11 b12 b13 b14 b15 b16, pa_best (pa_va c (pa_RV c a1 a3) (pa_ND a5) (pa_MT c a4 a6 a7 a8 a9 a10) (pa_rq bi a8) w b) (pa_ct c cur (pa_LG c a1 a2) (pa_ND a5) (pa_MT c a4 a6 a7 a8 a9 a10) (pa_op bi a8)) B → ∀ k m' b17 b18 b19, k ≤ 10 → pa_hs c m' b18 → post (nI k) (nI c, bi, nI B, nI m', nI k, fi', fo', bc', bs', a1, a2, a3, a4, a5, a6, a7, a8, a9, a10, b11, b12, b13, b14, b15, b16, b17, b18, b19)) :
    wpX_apply post (nI c, bi, nI cur, nI m, st, fi, fo, bc, bs, a1, a2, a3, a4, a5, a6, a7, a8, a9, a10, a11, a12, a13, a14, a15, a16, a17, a18, a19) (nI w) (nI b) := by
  have hc := hb.1
  have cur10 := pa_lt10 hcur hc
  unfold wpX_apply
  dsimp only
  refine pa_w_plan hb cur10 hw hbb (fun fi' fo' bc' bs' b11 b12 b13 b14 b15 b16 h => ?_) (fun B fi' fo' bc' bs' b11 b12 b13 b14 b15 b16 h => ?_)
  · exact br_f (by decide) (Hn _ _ _ _ _ _ _ _ _ _ h)
  · have hB := h.1.1
    have B10 := pa_lt10 hB hc
    refine br_t (nI_pos' (by omega)) (pa_w_change hc hcur hB hh (Or.inl rfl) (fun q => absurd rfl q) (fun _ m' b17 b18 b19 q => Hs B _ _ _ _ _ _ _ _ _ _ h _ m' b17 b18 b19 (pa_pc_le _ _) q))
/-- a state as the law meets it -/
def pa_wf (c m cur : Nat) (a2 a4 a5 a18 : Nat → Int32) : Prop := pa_wb c a2 a4 a5 ∧ cur < 2 ^ c ∧ pa_hs c m a18
def pa_ws (u : St1) : Prop := match u with
  | (ct, bi, cu, no, st, fi, fo, bc, bs, a1, a2, a3, a4, a5, a6, a7, a8, a9, a10, a11, a12, a13, a14, a15, a16, a17, a18, a19) => ∃ c m cur, ct = nI c ∧ cu = nI cur ∧ no = nI m ∧ pa_wf c m cur a2 a4 a5 a18
theorem pa_ws_i {bi st fi fo bc bs : Int32} {a1 a2 a3 a4 a5 a6 a7 a8 a9 a10 a11 a12 a13 a14 a15 a16 a17 a18 a19 : Nat → Int32} {c m cur : Nat} (h : pa_wf c m cur a2 a4 a5 a18) : pa_ws (nI c, bi, nI cur, nI m, st, fi, fo, bc, bs, a1, a2, a3, a4, a5, a6, a7, a8, a9, a10, a11, a12, a13, a14, a15, a16, a17, a18, a19) := ⟨c, m, cur, rfl, rfl, rfl, h⟩
theorem pa_w_revert {post : Int32 → St1 → Prop} {bi st fi fo bc bs : Int32} {a1 a2 a3 a4 a5 a6 a7 a8 a9 a10 a11 a12 a13 a14 a15 a16 a17 a18 a19 : Nat → Int32} {c cur m : Nat} {p0 : Int32} (h : pa_wf c m cur a2 a4 a5 a18) (H : ∀ r u, pa_ws u → post r u) :
    wpX_revert post (nI c, bi, nI cur, nI m, st, fi, fo, bc, bs, a1, a2, a3, a4, a5, a6, a7, a8, a9, a10, a11, a12, a13, a14, a15, a16, a17, a18, a19) p0 := by
  obtain ⟨hb, hcur, hh⟩ := h
  have hc := hb.1
  have hm8 := hh.1
  refine br_c (fun _ => H _ _ (pa_ws_i ⟨hb, hcur, hh⟩)) (fun g => ?_)
  obtain ⟨K, hK, rfl⟩ := nI_of g
  refine pk_lt K m (fun z => And.intro (pk_in K 8 (by omega)) ?_) (fun _ => H _ _ (pa_ws_i ⟨hb, hcur, hh⟩))
  obtain ⟨G, hG, e⟩ := hh.2 K z
  rw [nI_clamp hK, e]
  exact pa_w_change hc hcur hG hh (Or.inl rfl) (fun q => absurd rfl q) (fun _ m' b17 b18 b19 q => H _ _ (pa_ws_i ⟨hb, hG, q⟩))
theorem pa_w_env {post : Int32 → St1 → Prop} {bi st fi fo bc bs : Int32} {a1 a2 a3 a4 a5 a6 a7 a8 a9 a10 a11 a12 a13 a14 a15 a16 a17 a18 a19 : Nat → Int32} {c cur m : Nat} {p0 : Int32} (h : pa_wf c m cur a2 a4 a5 a18) (H : ∀ r u, pa_ws u → post r u) :
    wpX_environment post (nI c, bi, nI cur, nI m, st, fi, fo, bc, bs, a1, a2, a3, a4, a5, a6, a7, a8, a9, a10, a11, a12, a13, a14, a15, a16, a17, a18, a19) p0 :=
  br_c (fun _ => H _ _ (pa_ws_i h)) (fun g => br_c (fun _ => H _ _ (pa_ws_i h)) (fun _ => H _ _ (pa_ws_i h)))
theorem pa_w_iu {post : Int32 → Prop} {bi cu no st fi fo bc bs : Int32} {a1 a2 a3 a4 a5 a6 a7 a8 a9 a10 a11 a12 a13 a14 a15 a16 a17 a18 a19 : Nat → Int32} {c : Nat} {p0 : Int32} (hc : c ≤ 10) (h0 : post 0) (h1 : ∀ u, u < c → p0 = nI u → post 1) : wpX_isUnit post (nI c, bi, cu, no, st, fi, fo, bc, bs, a1, a2, a3, a4, a5, a6, a7, a8, a9, a10, a11, a12, a13, a14, a15, a16, a17, a18, a19) p0 := by
  refine br_c (fun _ => h0) (fun g => ?_)
  obtain ⟨u, hu, rfl⟩ := nI_of g
  exact pk_le c u (fun _ => h0) (fun z => h1 u z rfl)
theorem pa_pw_ss {h c : Nat} (hh : h < 2 ^ c) : h < 2 ^ (c + 1) := Nat.lt_trans hh (pa_pwlt (by omega))
theorem pa_hs_ss {c m : Nat} {a18 : Nat → Int32} (h : pa_hs c m a18) : pa_hs (c + 1) m a18 := ⟨h.1, fun i hi => by
  obtain ⟨x, hx, e⟩ := h.2 i hi
  exact ⟨x, pa_pw_ss hx, e⟩⟩
theorem pa_w_u117 {post : Int32 → St1 → Prop} {bi st fi fo bc bs : Int32} {a1 a2 a3 a4 a5 a6 a7 a8 a9 a10 a11 a12 a13 a14 a15 a16 a17 a18 a19 : Nat → Int32} {c cur m : Nat} {z0 : Int32} (hc : c < 10)
    (h : ∀ b4 b5, b4 = upd a4 c 0 → b5 = upd a5 c 0 → pa_wf (c + 1) m cur a2 b4 b5 a18) (H : ∀ r u, pa_ws u → post r u) : wX_unit_117 post z0 (nI c) (nI c) bi (nI cur) (nI m) st fi fo bc bs a1 a2 a3 a4 a5 a6 a7 a8 a9 a10 a11 a12 a13 a14 a15 a16 a17 a18 a19 := by
  refine And.intro (pk_in c 10 hc) (nm_e (And.intro (pk_in c 10 hc) (nm_r (e' := upd a4 c 0) (by rw [nI_clamp (by omega)]) (And.intro (pk_in c 10 hc) (nm_r (e' := upd a5 c 0) (by rw [nI_clamp (by omega)]) (nm_r (nI_1 c) (H _ _ (pa_ws_i (h _ _ rfl rfl)))))))))
theorem pa_w_unit {post : Int32 → St1 → Prop} {bi st fi fo bc bs : Int32} {a1 a2 a3 a4 a5 a6 a7 a8 a9 a10 a11 a12 a13 a14 a15 a16 a17 a18 a19 : Nat → Int32} {c cur m : Nat} {p0 p1 p2 : Int32} (h : pa_wf c m cur a2 a4 a5 a18) (H : ∀ r u, pa_ws u → post r u) :
    wpX_unit post (nI c, bi, nI cur, nI m, st, fi, fo, bc, bs, a1, a2, a3, a4, a5, a6, a7, a8, a9, a10, a11, a12, a13, a14, a15, a16, a17, a18, a19) p0 p1 p2 := by
  have same := fun r => H r _ (pa_ws_i (bi := bi) (st := st) (fi := fi) (fo := fo) (bc := bc) (bs := bs) (a1 := a1) (a3 := a3) (a6 := a6) (a7 := a7) (a8 := a8) (a9 := a9) (a10 := a10) (a11 := a11) (a12 := a12) (a13 := a13) (a14 := a14) (a15 := a15) (a16 := a16) (a17 := a17) (a19 := a19) h)
  obtain ⟨hb, hcur, hh⟩ := h
  have hc := hb.1
  refine br_c (fun _ => same _) (fun _ => br_c (fun _ => br_c (fun _ => same _) (fun g1 => br_c (fun g2 => ?_) (fun _ => same _))) (fun _ => same _))
  have hp1 : ∃ j, j ≤ 9 ∧ p1 = nI j := by
    refine nI_of2 (M := 9) (by decide) (fun q => g1 ?_) g2
    exact Int32.lt_trans q (by decide)
  refine pk_loop (σ := Unit) (fun n i _ => wX_unit_28 post p0 p1 p2 (nI c) bi (nI cur) (nI m) st fi fo bc bs a1 a2 a3 a4 a5 a6 a7 a8 a9 a10 a11 a12 a13 a14 a15 a16 a17 a18 a19 n (nI i)) (fun _ _ => True) c 0 () (by omega) trivial (fun n _ _ => ?_) (fun n i _ hi _ hw => ?_)
  · refine pk_le c c (fun _ => pk_eq c 10 (fun _ => same _) (fun z => And.intro (pk_in c 10 (by omega)) (nm_e (And.intro (pk_in c 10 (by omega)) (nm_r (e' := upd a2 c p1) (by rw [nI_clamp (by omega)]) ?_))))) (fun q => absurd q (by omega))
    have fin : ∀ b4 b5, b4 = upd a4 c 0 → b5 = upd a5 c 0 → pa_wf (c + 1) m cur (upd a2 c p1) b4 b5 a18 := by
      intro b4 b5 e4 e5
      subst e4 e5
      refine ⟨⟨by omega, fun u hu => ?_⟩, pa_pw_ss hcur, pa_hs_ss hh⟩
      by_cases e : u = c
      · subst e
        rw [pk_us, pk_us, pk_us]
        exact ⟨hp1, ⟨0, by omega, rfl⟩, ⟨0, by omega, rfl⟩⟩
      · rw [pk_un e, pk_un e, pk_un e]
        exact hb.2 u (by omega)
    exact br_c (fun _ => pa_w_u117 (by omega) fin H) (fun _ => pa_w_u117 (by omega) fin H)
  · have e : nI i + 1 = nI (i + 1) := nI_1 i
    exact pk_le c i (fun q => absurd q (by omega)) (fun _ => And.intro (pk_in i 10 (by omega)) (br_c (fun _ => And.intro (pk_in i 10 (by omega)) (br_c (fun _ => same _) (fun _ => nm_r e (hw () trivial)))) (fun _ => nm_r e (hw () trivial))))
theorem pa_w_need {post : Int32 → St1 → Prop} {bi st fi fo bc bs : Int32} {a1 a2 a3 a4 a5 a6 a7 a8 a9 a10 a11 a12 a13 a14 a15 a16 a17 a18 a19 : Nat → Int32} {c cur m : Nat} {p0 p1 p2 p3 : Int32} (h : pa_wf c m cur a2 a4 a5 a18) (H : ∀ r u, pa_ws u → post r u) :
    wpX_need post (nI c, bi, nI cur, nI m, st, fi, fo, bc, bs, a1, a2, a3, a4, a5, a6, a7, a8, a9, a10, a11, a12, a13, a14, a15, a16, a17, a18, a19) p0 p1 p2 p3 := by
  have same := fun r => H r _ (pa_ws_i (bi := bi) (st := st) (fi := fi) (fo := fo) (bc := bc) (bs := bs) (a1 := a1) (a3 := a3) (a6 := a6) (a7 := a7) (a8 := a8) (a9 := a9) (a10 := a10) (a11 := a11) (a12 := a12) (a13 := a13) (a14 := a14) (a15 := a15) (a16 := a16) (a17 := a17) (a19 := a19) h)
  obtain ⟨hb, hcur, hh⟩ := h
  have hc := hb.1
  unfold wpX_need
  dsimp only
  refine pa_w_iu hc (br_t rfl (same _)) (fun u hu e => br_f (by decide) ?_)
  subst e
  refine br_c (fun _ => same _) (fun _ => br_c (fun _ => same _) (fun _ => br_c (fun _ => br_c (fun _ => same _) (fun _ => br_c (fun _ => same _) (fun _ => br_c (fun _ => And.intro (pk_in u 10 (by omega)) ?_) (fun _ => same _)))) (fun _ => same _)))
  obtain ⟨v, hv, ev⟩ := (hb.2 u hu).2.2
  rw [nI_clamp (show u < 2 ^ 31 by omega), ev]
  refine pk_eq v 3 (fun _ => same _) (fun z => ?_)
  have e3 : (3 : Int32) * nI u + nI v = nI (3 * u + v) := by rw [pa_3, nI_add]
  refine ⟨pk_in u 10 (by omega), nm_r e3 ⟨pk_in (3 * u + v) 30 (by omega), nm_e ⟨pk_in (3 * u + v) 30 (by omega), nm_e ⟨pk_in (3 * u + v) 30 (by omega), nm_e ⟨pk_in u 10 (by omega), pk_in u 10 (by omega), nm_e ⟨pk_in u 10 (by omega), H _ _ (pa_ws_i ⟨⟨hc, fun u' hu' => ⟨(hb.2 u' hu').1, (hb.2 u' hu').2.1, ?_⟩⟩, hcur, hh⟩)⟩⟩⟩⟩⟩⟩
  by_cases e : u' = u
  · rw [e, pk_us]; exact ⟨v + 1, by omega, nI_1 v⟩
  · rw [pk_un e]; exact (hb.2 u' hu').2.2
theorem pa_w_offer {post : Int32 → St1 → Prop} {bi st fi fo bc bs : Int32} {a1 a2 a3 a4 a5 a6 a7 a8 a9 a10 a11 a12 a13 a14 a15 a16 a17 a18 a19 : Nat → Int32} {c cur m : Nat} {p0 p1 p2 : Int32} (h : pa_wf c m cur a2 a4 a5 a18) (H : ∀ r u, pa_ws u → post r u) :
    wpX_offer post (nI c, bi, nI cur, nI m, st, fi, fo, bc, bs, a1, a2, a3, a4, a5, a6, a7, a8, a9, a10, a11, a12, a13, a14, a15, a16, a17, a18, a19) p0 p1 p2 := by
  have same := fun r => H r _ (pa_ws_i (bi := bi) (st := st) (fi := fi) (fo := fo) (bc := bc) (bs := bs) (a1 := a1) (a3 := a3) (a6 := a6) (a7 := a7) (a8 := a8) (a9 := a9) (a10 := a10) (a11 := a11) (a12 := a12) (a13 := a13) (a14 := a14) (a15 := a15) (a16 := a16) (a17 := a17) (a19 := a19) h)
  obtain ⟨hb, hcur, hh⟩ := h
  have hc := hb.1
  unfold wpX_offer
  dsimp only
  refine pa_w_iu hc (br_t rfl (same _)) (fun u hu e => br_f (by decide) ?_)
  subst e
  refine br_c (fun _ => same _) (fun _ => br_c (fun _ => br_c (fun _ => same _) (fun _ => br_c (fun _ => And.intro (pk_in u 10 (by omega)) ?_) (fun _ => same _))) (fun _ => same _))
  obtain ⟨v, hv, ev⟩ := (hb.2 u hu).2.1
  rw [nI_clamp (show u < 2 ^ 31 by omega), ev]
  refine pk_eq v 3 (fun _ => same _) (fun z => ?_)
  have e3 : (3 : Int32) * nI u + nI v = nI (3 * u + v) := by rw [pa_3, nI_add]
  refine ⟨pk_in u 10 (by omega), nm_r e3 ⟨pk_in (3 * u + v) 30 (by omega), nm_e ⟨pk_in (3 * u + v) 30 (by omega), nm_e ⟨pk_in u 10 (by omega), pk_in u 10 (by omega), nm_e ⟨pk_in u 10 (by omega), H _ _ (pa_ws_i ⟨⟨hc, fun u' hu' => ⟨(hb.2 u' hu').1, ?_, (hb.2 u' hu').2.2⟩⟩, hcur, hh⟩)⟩⟩⟩⟩⟩
  by_cases e : u' = u
  · rw [e, pk_us]; exact ⟨v + 1, by omega, nI_1 v⟩
  · rw [pk_un e]; exact (hb.2 u' hu').2.1
theorem pa_mask (x : Int32) {c : Nat} (hc : c ≤ 10) : ∃ j, j < 2 ^ c ∧ x &&& nI (2 ^ c - 1) = nI j := by
  have h := pa_p10 hc
  exact pk_andE x c (pk_tn (by omega))
theorem pa_w_t20 {post : St1 → Prop} {bi st fi fo bc bs : Int32} {a1 a2 a3 a4 a5 a6 a7 a8 a9 a10 a11 a12 a13 a14 a15 a16 a17 a18 a19 : Nat → Int32} {c cur m : Nat} {x1 x2 z0 : Int32} (h : pa_wf c m cur a2 a4 a5 a18) (H : ∀ u, pa_ws u → post u) :
    wL_turn_20 post x1 x2 (nI c) z0 (nI c) bi (nI cur) (nI m) st fi fo bc bs a1 a2 a3 a4 a5 a6 a7 a8 a9 a10 a11 a12 a13 a14 a15 a16 a17 a18 a19 := by
  have hc := h.1.1
  have g : ∀ (r : Int32) (u : St1), pa_ws u → (fun (_ : Int32) (u : St1) => match u with | (ct, bi, cu, no, st, fi, fo, bc, bs, a1, a2, a3, a4, a5, a6, a7, a8, a9, a10, a11, a12, a13, a14, a15, a16, a17, a18, a19) => post (ct, bi, cu, no, st, fi, fo, bc, bs, a1, a2, a3, a4, a5, a6, a7, a8, a9, a10, a11, a12, a13, a14, a15, a16, a17, a18, a19)) r u := fun r u q => H u q
  refine nm_r (pa_full c (by omega)) ?_
  refine br_c (fun _ => br_c (fun _ => br_c (fun _ => br_c (fun _ => pa_w_env h g) (fun _ => br_c (fun _ => br_c (fun _ => pa_w_revert h g) (fun _ => ?_)) (fun _ => ?_))) (fun _ => And.intro (by decide) (pa_w_need h g))) (fun _ => And.intro (by decide) (And.intro (by decide) (pa_w_offer h g)))) (fun _ => And.intro (by decide) (And.intro (by decide) (pa_w_unit h g)))
  · obtain ⟨w, hw, e1⟩ := pa_mask x2 hc
    obtain ⟨b, hb, e2⟩ := pa_mask ((x2 >>> ((5 : Int32) &&& 31)) &&& (x2 >>> ((15 : Int32) &&& 31))) hc
    rw [e1, e2]
    exact pa_w_fail h.1 h.2.1 h.2.2 hw hb (fun r fi' fo' bc' bs' b11 b12 b13 b14 b15 b16 st' b17 b19 => H _ (pa_ws_i h))
  · obtain ⟨w, hw, e1⟩ := pa_mask (x2 &&& (x2 >>> ((10 : Int32) &&& 31))) hc
    obtain ⟨b, hb, e2⟩ := pa_mask (((x2 >>> ((5 : Int32) &&& 31)) &&& (x2 >>> ((15 : Int32) &&& 31))) &&& (x2 >>> ((2 : Int32) &&& 31))) hc
    rw [e1, e2]
    exact pa_w_apply h.1 h.2.1 h.2.2 hw hb (fun fi' fo' bc' bs' b11 b12 b13 b14 b15 b16 q => H _ (pa_ws_i h)) (fun B fi' fo' bc' bs' b11 b12 b13 b14 b15 b16 q k m' b17 b18 b19 hk hh => H _ (pa_ws_i ⟨h.1, q.1.1, hh⟩))
theorem pa_w_turn {post : St1 → Prop} {bi st fi fo bc bs : Int32} {a1 a2 a3 a4 a5 a6 a7 a8 a9 a10 a11 a12 a13 a14 a15 a16 a17 a18 a19 : Nat → Int32} {c cur m : Nat} {p1 p2 : Int32} (h : pa_wf c m cur a2 a4 a5 a18) (H : ∀ u, pa_ws u → post u) :
    wpL_turn post (nI c, bi, nI cur, nI m, st, fi, fo, bc, bs, a1, a2, a3, a4, a5, a6, a7, a8, a9, a10, a11, a12, a13, a14, a15, a16, a17, a18, a19) p1 p2 := by
  have hc := h.1.1
  unfold wpL_turn
  dsimp only
  exact pk_le 1 c (fun z => And.intro (nI_ne0 (by omega) (by omega)) (pa_w_t20 h H)) (fun _ => pa_w_t20 h H)
end
section
/-! holds, and the law -/
theorem pa_va0 {c : Nat} {RV ND MT : Nat → Nat} {RQ : Nat → Bool} : pa_va c RV ND MT RQ 0 0 0 := ⟨Nat.two_pow_pos c, pa_ok_0 _ _ _ _ _, pa_sub_0 _, pa_dj_0 _⟩
theorem pa_and_sub {a b : Nat} (h : pa_sub b a) : a &&& b = b := by
  refine pa_bex (fun x => ?_)
  rw [Nat.testBit_and, Bool.and_eq_true]
  exact ⟨fun q => q.2, fun q => ⟨h x q, q⟩⟩
theorem pa_w_holds {post : Int32 → St1 → Prop} {bi no st fi fo bc bs : Int32} {a1 a2 a3 a4 a5 a6 a7 a8 a9 a10 a11 a12 a13 a14 a15 a16 a17 a18 a19 : Nat → Int32} {c cur w b : Nat} (hb : pa_wb c a2 a4 a5) (hcur : cur < 2 ^ c) (hw : w < 2 ^ c) (hbb : b < 2 ^ c)
    (H : ∀ fi' fo' bc' bs' b11 b12 b13 b14 b15 b16, post 1 (nI c, bi, nI cur, no, st, fi', fo', bc', bs', a1, a2, a3, a4, a5, a6, a7, a8, a9, a10, b11, b12, b13, b14, b15, b16, a17, a18, a19)) : wpL_holds post (nI c, bi, nI cur, no, st, fi, fo, bc, bs, a1, a2, a3, a4, a5, a6, a7, a8, a9, a10, a11, a12, a13, a14, a15, a16, a17, a18, a19) (nI w) (nI b) := by
  have hc := hb.1
  have cur10 := pa_lt10 hcur hc
  have hm := pa_md_of (a1 := a1) (a3 := a3) (a6 := a6) (a7 := a7) (a8 := a8) (a9 := a9) (a10 := a10) hb
  unfold wpL_holds
  dsimp only
  refine pa_w_plan (w := 0) (b := 0) hb cur10 (Nat.two_pow_pos c) (Nat.two_pow_pos c) (fun fi' fo' bc' bs' b11 b12 b13 b14 b15 b16 h => absurd pa_va0 (h 0)) (fun B0 fi' fo' bc' bs' b11 b12 b13 b14 b15 b16 h0 => ?_)
  have B010 := pa_lt10 h0.1.1 hc
  refine br_f (fun q => ?_) ?_
  · have q1 : nI B0 = -2 := q
    have q3 := nI_pos (n := B0) (by omega)
    rw [q1] at q3
    exact q3 (by decide)
  refine pa_w_plan hb cur10 hw hbb (fun fi' fo' bc' bs' b11 b12 b13 b14 b15 b16 h => ?_) (fun B fi' fo' bc' bs' b11 b12 b13 b14 b15 b16 h => ?_)
  · refine br_f (by decide) (br_t rfl ?_)
    refine pa_w_planCost hb cur10 hw hbb (fun fi' fo' bc' bs' b11 b12 b13 b14 b15 b16 h' => br_t rfl ?_) (fun B fi' fo' bc' bs' b11 b12 b13 b14 b15 b16 h' => absurd h'.1 (h B))
    refine pa_w_ex hb hw hbb (fun l b11 b12 b13 h1 h2 => ?_)
    refine br_f (fun q => ?_) (H _ _ _ _ _ _ _ _ _ _)
    have q1 : nI l ≤ nI 0 := q
    rw [nI_leI (by omega) (by omega)] at q1
    rcases h2.mp (by omega) with ⟨e1, e2⟩ | ⟨S, hS⟩
    · subst e1 e2
      exact h 0 pa_va0
    · exact h S hS
  · have hB := h.1.1
    have B10 := pa_lt10 hB hc
    have w10 := pa_lt10 hw hc
    refine br_t (nI_pos' (by omega)) (pa_w_sound hb hB h.1.2.1 (fun b11 b12 b13 => br_t rfl (br_t ?_ (br_t ?_ (pa_w_costs hb cur10 hB (fun b11 b12 b13 => pa_w_planCost hb cur10 hw hbb (fun fi' fo' bc' bs' b11 b12 b13 b14 b15 b16 h' => absurd h.1 (h' B)) (fun B' fi' fo' bc' bs' b11 b12 b13 b14 b15 b16 h' => br_t ?_ (pa_w_ex hb hw hbb (fun l b11 b12 b13 h1 h2 => br_t ?_ (H _ _ _ _ _ _ _ _ _ _))))))))))
    · show nI B &&& nI w = nI w
      rw [pa_and, pa_and_sub h.1.2.2.1]
    · exact (pa_z0 B10).mpr (pa_dj_c h.1.2.2.2)
    · rw [pa_best_u h h']
    · rw [h2.mpr (Or.inr ⟨B, h.1⟩)]; rfl
theorem pa_w_cell {post : Int32 → Prop} {L : Nat} {xs : Nat → Int32} {k : Nat} (hL : L ≤ 260) (hk : k < 2 ^ 31) (H : ∀ x, post x) : wpL_cell post L xs () (nI k) :=
  pk_le L k (fun _ => H _) (fun z => And.intro (pk_in k L z) (H _))
theorem pa_w_prof {post : Int32 → Prop} {ct bi cu no st fi fo bc bs : Int32} {a1 a2 a3 a4 a5 a6 a7 a8 a9 a10 a11 a12 a13 a14 a15 a16 a17 a18 a19 : Nat → Int32} (h : post cu) : wpX_profile post (ct, bi, cu, no, st, fi, fo, bc, bs, a1, a2, a3, a4, a5, a6, a7, a8, a9, a10, a11, a12, a13, a14, a15, a16, a17, a18, a19) := h
theorem pa_w_notes {post : Int32 → Prop} {ct bi cu no st fi fo bc bs : Int32} {a1 a2 a3 a4 a5 a6 a7 a8 a9 a10 a11 a12 a13 a14 a15 a16 a17 a18 a19 : Nat → Int32} (h : post no) : wpX_notes post (ct, bi, cu, no, st, fi, fo, bc, bs, a1, a2, a3, a4, a5, a6, a7, a8, a9, a10, a11, a12, a13, a14, a15, a16, a17, a18, a19) := h
theorem pa_w_91 {post : Int32 → Prop} {J : Int32 → Int32 → Int32 → Int32 → Int32 → Int32 → Int32 → Int32 → Int32 → Int32 → (Nat → Int32) → (Nat → Int32) → (Nat → Int32) → (Nat → Int32) → (Nat → Int32) → (Nat → Int32) → (Nat → Int32) → (Nat → Int32) → (Nat → Int32) → (Nat → Int32) → (Nat → Int32) → (Nat → Int32) → (Nat → Int32) → (Nat → Int32) → (Nat → Int32) → (Nat → Int32) → (Nat → Int32) → (Nat → Int32) → (Nat → Int32) → Prop} {L : Nat} {xs : Nat → Int32} {kc ks : Nat} {bi st fi fo bc bs : Int32} {a1 a2 a3 a4 a5 a6 a7 a8 a9 a10 a11 a12 a13 a14 a15 a16 a17 a18 a19 : Nat → Int32} {c m cur w b : Nat} {x2 x3 x4 y2 : Int32} (h : pa_wf c m cur a2 a4 a5 a18) (hw : w < 2 ^ c) (hbb : b < 2 ^ c) (e2 : x2 + 2 = y2)
    (H : ∀ u, pa_ws u → (match u with | (ct, bi, cu, no, st, fi, fo, bc, bs, a1, a2, a3, a4, a5, a6, a7, a8, a9, a10, a11, a12, a13, a14, a15, a16, a17, a18, a19) => J y2 ct bi cu no st fi fo bc bs a1 a2 a3 a4 a5 a6 a7 a8 a9 a10 a11 a12 a13 a14 a15 a16 a17 a18 a19)) :
    wL_law_91 post L xs J x2 x3 x4 (nI w) (nI b) kc ks (nI c) bi (nI cur) (nI m) st fi fo bc bs a1 a2 a3 a4 a5 a6 a7 a8 a9 a10 a11 a12 a13 a14 a15 a16 a17 a18 a19 := by
  obtain ⟨hb, hcur, hh⟩ := h
  have hc := hb.1
  have cur10 := pa_lt10 hcur hc
  unfold wL_law_91
  refine pa_w_holds hb hcur hw hbb (fun fi' fo' bc' bs' b11 b12 b13 b14 b15 b16 => br_f (by decide) ?_)
  refine pa_w_prof (pa_w_notes (pa_w_fail (p2 := x4 &&& 3) hb hcur hh hw hbb (fun r fi' fo' bc' bs' b11 b12 b13 b14 b15 b16 st' b17 b19 => ?_)))
  refine pa_w_prof (br_t rfl (pa_w_notes (br_t rfl (br_c (fun _ => ?_) (fun _ => nm_r e2 (H _ (pa_ws_i ⟨hb, hcur, hh⟩)))))))
  refine pa_w_plan hb cur10 hw hbb (fun fi' fo' bc' bs' b11 b12 b13 b14 b15 b16 h => ?_) (fun B fi' fo' bc' bs' b11 b12 b13 b14 b15 b16 h => ?_)
  · refine pa_w_apply hb hcur hh hw hbb (fun fi' fo' bc' bs' b11 b12 b13 b14 b15 b16 h' => ?_) (fun B fi' fo' bc' bs' b11 b12 b13 b14 b15 b16 h' => absurd h'.1 (h B))
    refine br_t (by decide) (br_t (by decide) (br_t rfl (br_t (by decide) (nm_r e2 (H _ (pa_ws_i ⟨hb, hcur, hh⟩))))))
  · refine pa_w_apply hb hcur hh hw hbb (fun fi' fo' bc' bs' b11 b12 b13 b14 b15 b16 h' => absurd h.1 (h' B)) (fun B' fi' fo' bc' bs' b11 b12 b13 b14 b15 b16 h' k m' b17 b18 b19 hk hh' => ?_)
    have hB := h.1.1
    have B10 := pa_lt10 hB hc
    have e := pa_best_u h' h
    subst e
    refine br_f (nI_pos (by omega)) (br_f (nI_pos (by omega)) (br_t rfl (br_f (nI_pos (by omega)) (pa_w_prof (br_t rfl (nm_r e2 (H _ (pa_ws_i ⟨hb, hB, hh'⟩))))))))
theorem i_vc (xs : Nat → Int32) (L : Nat) (hL : L ≤ 260) : wpL_law (fun r => r = 1) L xs := by
  refine ⟨19, 314, by omega, by omega, ?_⟩
  unfold wpX_init
  dsimp only
  refine ⟨by omega, by omega, by omega, by omega, by omega, by omega, by omega, by omega, by omega, by omega, by omega, by omega, by omega, by omega, by omega, by omega, by omega, by omega, by omega, by omega, by omega, by omega, by omega, by omega, by omega, by omega, by omega, by omega, by omega, by omega, by omega, by omega, by omega, by omega, by omega, by omega, by omega, by omega, ?_⟩
  refine pk_loop (σ := St1) (fun n i s => match s with | (ct, bi, cu, no, st, fi, fo, bc, bs, a1, a2, a3, a4, a5, a6, a7, a8, a9, a10, a11, a12, a13, a14, a15, a16, a17, a18, a19) => wL_law_10 (fun r => r = 1) L xs (1 + 19) (28 + 314) n (nI (2 * i)) ct bi cu no st fi fo bc bs a1 a2 a3 a4 a5 a6 a7 a8 a9 a10 a11 a12 a13 a14 a15 a16 a17 a18 a19) (fun i s => pa_ws s) ((L + 1) / 2) 0 (0, 0, 0, 0, 0, 0, 0, 0, 0, (fun _ => 0), (fun _ => 0), (fun _ => 0), (fun _ => 0), (fun _ => 0), (fun _ => 0), (fun _ => 0), (fun _ => 0), (fun _ => 0), (fun _ => 0), (fun _ => 0), (fun _ => 0), (fun _ => 0), (fun _ => 0), (fun _ => 0), (fun _ => 0), (fun _ => 0), (fun _ => 0), (fun _ => 0)) (by omega) ⟨0, 0, 0, rfl, rfl, rfl, ⟨by omega, fun u hu => absurd hu (by omega)⟩, by decide, by omega, fun i hi => absurd hi (by omega)⟩ (fun n s h => ?_) (fun n i s hi h hw => ?_)
  · obtain ⟨ct, bi, cu, no, st, fi, fo, bc, bs, a1, a2, a3, a4, a5, a6, a7, a8, a9, a10, a11, a12, a13, a14, a15, a16, a17, a18, a19⟩ := s
    exact pk_le L (2 * ((L + 1) / 2)) (fun _ => rfl) (fun z => absurd z (by omega))
  · obtain ⟨ct, bi, cu, no, st, fi, fo, bc, bs, a1, a2, a3, a4, a5, a6, a7, a8, a9, a10, a11, a12, a13, a14, a15, a16, a17, a18, a19⟩ := s
    obtain ⟨c, m, cur, rfl, rfl, rfl, h⟩ := h
    refine pk_le L (2 * i) (fun z => absurd z (by omega)) (fun z => pa_w_cell hL (by omega) (fun r74 => ?_))
    have e1 : nI (2 * i) + 1 = nI (2 * i + 1) := nI_1 _
    rw [e1]
    refine pa_w_cell hL (by omega) (fun r75 => pa_w_turn h (fun u hu => ?_))
    obtain ⟨ct, bi, cu, no, st, fi, fo, bc, bs, a1, a2, a3, a4, a5, a6, a7, a8, a9, a10, a11, a12, a13, a14, a15, a16, a17, a18, a19⟩ := u
    obtain ⟨c, m, cur, rfl, rfl, rfl, h⟩ := hu
    have hc := h.1.1
    have e2 : nI (2 * i) + 2 = nI (2 * (i + 1)) := nI_add (2 * i) 2
    obtain ⟨w, hw1, ew⟩ := pa_mask (r74 >>> ((4 : Int32) &&& 31)) hc
    obtain ⟨b, hb1, eb⟩ := pa_mask ((r74 >>> ((14 : Int32) &&& 31)) &&& (r74 >>> ((9 : Int32) &&& 31))) hc
    refine nm_r (pa_full c (by omega)) (nm_r ew (nm_r eb ?_))
    refine br_c (fun _ => ?_) (fun _ => pa_w_91 h hw1 hb1 e2 (fun u hu => hw u hu))
    obtain ⟨w2, hw2, ew2⟩ : ∃ w2, w2 < 2 ^ c ∧ nI w &&& (r74 >>> ((12 : Int32) &&& 31)) = nI w2 := by
      refine ⟨w &&& (r74 >>> ((12 : Int32) &&& 31)).toBitVec.toNat, Nat.lt_of_le_of_lt Nat.and_le_left hw1, ?_⟩
      rw [← pa_and]
      congr 1
      apply Int32.toBitVec_inj.1
      show _ = BitVec.ofNat 32 _
      simp
    exact nm_r ew2 (pa_w_91 h hw2 hb1 e2 (fun u hu => hw u hu))
end
