section
/-! rows pasted from kit/rows (PURE-ROWS, BITS) -/
theorem pk_us {f : Nat → Int32} {k : Nat} {x : Int32} : upd f k x k = x := if_pos rfl
theorem pk_un {f : Nat → Int32} {k j : Nat} {x : Int32} (h : j ≠ k) : upd f k x j = f j := if_neg h
theorem pk_uLs {f : Nat → Int64} {k : Nat} {x : Int64} : vp_updL f k x k = x := if_pos rfl
theorem pk_uLn {f : Nat → Int64} {k j : Nat} {x : Int64} (h : j ≠ k) : vp_updL f k x j = f j := if_neg h
theorem pk_sub {a b : Nat} (h : b ≤ a) : nI a - nI b = nI (a - b) := by
  obtain ⟨c, rfl⟩ : ∃ c, a = c + b := ⟨a - b, by omega⟩
  rw [← nI_add, Int32.add_sub_cancel, Nat.add_sub_cancel]
theorem pk_m1 (n : Nat) : nI (n + 1) + (-1) = nI n := by
  rw [← nI_1, Int32.add_assoc, show (1 : Int32) + (-1) = 0 from rfl, Int32.add_zero]
theorem pk_mul (a b : Nat) : nI a * nI b = nI (a * b) := (Int32.ofNat_mul a b).symm
theorem pk_sub_toInt {a b : Nat} (ha : a < 2 ^ 30) (hb : b < 2 ^ 30) : (nI a - nI b).toInt = (a : Int) - b := by
  rw [Int32.toInt_sub, nI_toInt (by omega), nI_toInt (by omega)]
  exact Int.bmod_eq_of_le (by omega) (by omega)
theorem pk_sneg {a b : Nat} (hb : b < 2 ^ 30) (h : a < b) : nI a - nI b < 0 := by
  rw [Int32.lt_iff_toInt_lt, pk_sub_toInt (by omega) hb, show (0 : Int32).toInt = 0 from by decide]
  omega
theorem pk_ix (x : Int32) {n : Nat} (hn : n < 2 ^ 31) : x < 0 ∨ nI n ≤ x ∨ ∃ j : Nat, j < n ∧ x = nI j := by
  by_cases h : x < 0
  · exact Or.inl h
  · obtain ⟨j, hj, rfl⟩ := nI_of h
    by_cases h2 : j < n
    · exact Or.inr (Or.inr ⟨j, h2, rfl⟩)
    · exact Or.inr (Or.inl (nI_le (by omega) hj))
theorem pk_le {x y : Int32} {A B : Prop} (a b : Nat) (f : a ≤ b → A) (g : b < a → B) (hx : x = nI a := by rfl) (hy : y = nI b := by rfl) (ha : a < 2 ^ 31 := by omega) (hb : b < 2 ^ 31 := by omega) : (x ≤ y → A) ∧ (¬ x ≤ y → B) := by
  subst hx hy
  rw [nI_leI ha hb]
  exact ⟨f, fun z => g (by omega)⟩
theorem pk_lt {x y : Int32} {A B : Prop} (a b : Nat) (f : a < b → A) (g : b ≤ a → B) (hx : x = nI a := by rfl) (hy : y = nI b := by rfl) (ha : a < 2 ^ 31 := by omega) (hb : b < 2 ^ 31 := by omega) : (x < y → A) ∧ (¬ x < y → B) := by
  subst hx hy
  rw [nI_ltI ha hb]
  exact ⟨f, fun z => g (by omega)⟩
theorem pk_eq {x y : Int32} {A B : Prop} (a b : Nat) (f : a = b → A) (g : a ≠ b → B) (hx : x = nI a := by rfl) (hy : y = nI b := by rfl) (ha : a < 2 ^ 31 := by omega) (hb : b < 2 ^ 31 := by omega) : (x = y → A) ∧ (¬ x = y → B) := by
  subst hx hy
  rw [nI_eq ha hb]
  exact ⟨f, g⟩
theorem pk_in {x : Int32} (n N : Nat) (h : n < N) (hx : x = nI n := by rfl) (hN : N < 2 ^ 31 := by omega) : vp_in x N := by
  subst hx
  exact vp_in_nI h hN
theorem pk_cl {x : Int32} (n : Nat) (hx : x = nI n := by rfl) (h : n < 2 ^ 31 := by omega) : x.toNatClampNeg = n := by
  subst hx
  exact nI_clamp h
theorem pk_tn {n : Nat} (h : n < 2 ^ 32) : (nI n).toBitVec.toNat = n := Nat.mod_eq_of_lt h
theorem pk_ns (z : Int32) : narrow .short (.int z.toInt16.toInt32) = .int z.toInt16.toInt32 := congrArg Value.int (by simp)
theorem pk_fs (r : Int32) : fits .short (.int r.toInt16.toInt32) = true := by
  have ⟨a, b⟩ := lg_i2s_range r
  have h1 : (-32768 : Int32).toInt = -32768 := by decide
  have h2 : (32767 : Int32).toInt = 32767 := by decide
  simp only [fits, Bool.and_eq_true, decide_eq_true_eq, Int32.le_iff_toInt_le, h1, h2]
  omega
theorem pk_charN {q : Nat} (hq : q < 65536) : narrow .char (.int (nI q)) = .int (nI q) ∧ fits .char (.int (nI q)) = true := by
  constructor
  · have e : (nI q).toUInt32.toUInt16.toUInt32.toInt32 = nI q := by
      apply Int32.toBitVec_inj.mp
      apply BitVec.eq_of_toNat_eq
      show (nI q).toUInt32.toUInt16.toUInt32.toNat = q % 2 ^ 32
      rw [UInt16.toNat_toUInt32, UInt32.toNat_toUInt16, show (nI q).toUInt32.toNat = q % 2 ^ 32 from rfl]
      omega
    exact congrArg Value.int e
  · have a : (0 : Int32) ≤ nI q := nI_pos' (by omega)
    have b : nI q ≤ 65535 := nI_le (b := 65535) (by omega) (by decide)
    show (decide ((0 : Int32) ≤ nI q) && decide (nI q ≤ 65535)) = true
    rw [decide_eq_true a, decide_eq_true b]
    rfl
theorem pk_char (x : Int32) : (x.toUInt32 % 65536).toInt32 = nI (x.toBitVec.toNat % 65536) := by
  apply Int32.toBitVec_inj.mp
  apply BitVec.eq_of_toNat_eq
  rw [pk_tn (by omega)]
  show (x.toUInt32 % 65536).toNat = _
  rw [UInt32.toNat_mod]
  rfl
theorem pk_vs (z : Int32) : vp_nar .short z.toInt16.toInt32 = z.toInt16.toInt32 := by rw [vp_nar_short]; simp
def bt (x : Int32) (i : Nat) : Bool := x.toBitVec.getLsbD i
theorem b_ext {x y : Int32} (h : ∀ i, i < 32 → bt x i = bt y i) : x = y := Int32.toBitVec_inj.mp (BitVec.eq_of_getLsbD_eq (fun i hi => h i hi))
theorem b_and (x y : Int32) (i : Nat) : bt (x &&& y) i = (bt x i && bt y i) := by unfold bt; rw [Int32.toBitVec_and, BitVec.getLsbD_and]
theorem b_xor (x y : Int32) (i : Nat) : bt (x ^^^ y) i = (bt x i ^^ bt y i) := by unfold bt; rw [Int32.toBitVec_xor, BitVec.getLsbD_xor]
theorem b_big {x : Int32} {i : Nat} (h : 32 ≤ i) : bt x i = false := BitVec.getLsbD_of_ge _ _ h
theorem b_65535 (i : Nat) : bt 65535 i = decide (i < 16) := by
  rcases Nat.lt_or_ge i 32 with h | h
  · exact (by decide +kernel : ∀ i, i < 32 → bt 65535 i = decide (i < 16)) i h
  · rw [b_big h, decide_eq_false (by omega)]
theorem b_0 (i : Nat) : bt 0 i = false := BitVec.getLsbD_zero
end
section
/-! stores into ghosts, chars, tokens -/
def sc_u (B : Nat → Nat) (k x : Nat) : Nat → Nat := fun j => if j = k then x else B j
theorem sc_us {B : Nat → Nat} {k x : Nat} : sc_u B k x k = x := if_pos rfl
theorem sc_un {B : Nat → Nat} {k x j : Nat} (h : j ≠ k) : sc_u B k x j = B j := if_neg h
theorem sc_uu {B : Nat → Nat} {k x y : Nat} : sc_u (sc_u B k x) k y = sc_u B k y := by
  funext j
  by_cases h : j = k <;> simp [sc_u, h]
theorem sc_ui {B : Nat → Nat} {k : Nat} : sc_u B k (B k) = B := by
  funext j
  by_cases h : j = k <;> simp [sc_u, h]
theorem sc_char {x : Nat} (h : x < 65536) : ((nI x).toUInt32 % 65536).toInt32 = nI x := by
  rw [pk_char, pk_tn (by omega), Nat.mod_eq_of_lt h]
theorem sc_nar {x : Nat} (h : x < 65536) : vp_nar .char (nI x) = nI x := Value.int.inj (pk_charN h).1
theorem sc_upN {B : Nat → Nat} {k x : Nat} : upd (fun f => nI (B f)) k (nI x) = fun f => nI (sc_u B k x f) := by
  funext j
  by_cases h : j = k <;> simp [sc_u, upd, h]
theorem sc_upC {B : Nat → Nat} {k x : Nat} (h : x < 65536) : upd (fun f => nI (B f)) k (vp_nar .char ((nI x).toUInt32 % 65536).toInt32) = fun f => nI (sc_u B k x f) := by
  rw [sc_char h, sc_nar h, sc_upN]
theorem sc_upT {T : Nat → Int32} {k : Nat} {p : Int32} : upd (fun f => (T f).toInt16.toInt32) k (vp_nar .short p.toInt16.toInt32) = fun f => (upd T k p f).toInt16.toInt32 := by
  rw [pk_vs]
  funext j
  by_cases h : j = k <;> simp [upd, h]
theorem sc_short (x : Int32) : x.toInt16.toInt32.toInt16.toInt32 = x.toInt16.toInt32 := by rw [Int16.toInt16_toInt32]
theorem sc_tok (p t : Int32) : ((p ^^^ t) &&& 65535) = 0 ↔ t.toInt16.toInt32 = p.toInt16.toInt32 := by
  constructor
  · intro h
    have e : t.toInt16 = p.toInt16 := by
      apply Int16.toBitVec_inj.mp
      rw [Int32.toBitVec_toInt16, Int32.toBitVec_toInt16]
      apply BitVec.eq_of_getLsbD_eq
      intro i hi
      rw [BitVec.getLsbD_signExtend, BitVec.getLsbD_signExtend]
      have b2 : bt ((p ^^^ t) &&& 65535) i = bt 0 i := congrArg (fun z => bt z i) h
      rw [b_and, b_xor, b_65535, b_0, decide_eq_true hi, Bool.and_true] at b2
      have q : bt t i = bt p i := by
        revert b2
        cases bt t i <;> cases bt p i <;> decide
      rw [if_pos (show i < 32 by omega), if_pos (show i < 32 by omega), show t.toBitVec.getLsbD i = p.toBitVec.getLsbD i from q]
    rw [e]
  · intro h
    have e : t.toInt16 = p.toInt16 := by
      have e2 := congrArg Int32.toInt16 h
      rwa [Int16.toInt16_toInt32, Int16.toInt16_toInt32] at e2
    apply b_ext
    intro i hi
    rw [b_and, b_xor, b_65535, b_0]
    by_cases h16 : i < 16
    · have b : (t.toInt16).toBitVec.getLsbD i = (p.toInt16).toBitVec.getLsbD i := by rw [e]
      rw [Int32.toBitVec_toInt16, Int32.toBitVec_toInt16, BitVec.getLsbD_signExtend, BitVec.getLsbD_signExtend, if_pos hi, if_pos hi, decide_eq_true h16, Bool.true_and, Bool.true_and] at b
      rw [show bt t i = bt p i from b]
      cases bt p i <;> rfl
    · rw [decide_eq_false h16, Bool.and_false]
/-! sums of sizes -/
def sc_sm (S : Nat → Nat) : Nat → Nat
  | 0 => 0
  | n + 1 => sc_sm S n + S n
theorem sc_sm_u {S : Nat → Nat} {k x : Nat} : ∀ d : Nat, d ≤ k → sc_sm (sc_u S k x) d = sc_sm S d
  | 0, _ => rfl
  | d + 1, h => by
    show sc_sm (sc_u S k x) d + sc_u S k x d = sc_sm S d + S d
    rw [sc_sm_u d (by omega), sc_un (by omega)]
theorem sc_sm_le {S : Nat → Nat} {a : Nat} : ∀ b : Nat, a ≤ b → sc_sm S a ≤ sc_sm S b
  | 0, h => by
    have e : a = 0 := by omega
    subst e
    exact Nat.le_refl _
  | b + 1, h => by
    rcases Nat.lt_or_ge a (b + 1) with h1 | h1
    · have m := sc_sm_le (S := S) b (show a ≤ b by omega)
      show sc_sm S a ≤ sc_sm S b + S b
      omega
    · have e : a = b + 1 := by omega
      subst e
      exact Nat.le_refl _
/-! the relation -/
def sc_P (d us : Nat) (B F S L : Nat → Nat) (sl ce : Nat → Int64) : Prop :=
  d ≤ 4 ∧ us = sc_sm S d ∧ us ≤ 16 ∧ ∀ f, f < d → B f = sc_sm S f ∧ F f = B f + L f ∧ L f ≤ S f ∧ F f < 16 ∧ ∀ i, i < S f → ce (f * 16 + i) = sl (B f + i)
def sc_A (ap ac tn : Int32) (ga : Nat → Int64) (yac yat : Int32) (ya : Nat → Int64) : Prop :=
  (ap = 0 ∧ yac = -1) ∨ ∃ n : Nat, n ≤ 4 ∧ ap = 1 ∧ ac = nI n ∧ yac = nI n ∧ tn = yat.toInt16.toInt32 ∧ ∀ i, i < n → ga i = ya i
def sc_R (rp : Int32) (rs : Int64) (rc rt : Int32) (ys : Int64) (yrc yrt : Int32) : Prop :=
  (rp = 0 ∧ yrc = -1) ∨ (rp = 1 ∧ rc = yrc ∧ rs = ys ∧ rt = yrt.toInt16.toInt32)
abbrev sc_X (d us : Nat) (ap ac tn rp : Int32) (rs : Int64) (rc rt : Int32) (sl : Nat → Int64) (B F : Nat → Nat) (T : Nat → Int32) (ga : Nat → Int64) : SX :=
  (nI d, nI us, ap, ac, tn, rp, rs, rc, rt, sl, fun f => nI (B f), fun f => nI (F f), fun f => (T f).toInt16.toInt32, ga)
abbrev sc_Y (d : Nat) (yac yat : Int32) (ys : Int64) (yrc yrt : Int32) (ce : Nat → Int64) (S L : Nat → Nat) (T : Nat → Int32) (ya : Nat → Int64) : SY :=
  (nI d, yac, yat, ys, yrc, yrt, ce, fun f => nI (S f), fun f => nI (L f), fun f => (T f).toInt16.toInt32, ya)
/-- the relation: X's one store and Y's rows hold the same live frames; arguments and result at hand alike -/
def i_Rel (k : Nat) (u : SX) (v : SY) : Prop :=
  ∃ (d us : Nat) (B F S L : Nat → Nat) (T : Nat → Int32) (ap ac tn rp : Int32) (rs : Int64) (rc rt : Int32) (sl ga : Nat → Int64) (yac yat : Int32) (ys : Int64) (yrc yrt : Int32) (ce ya : Nat → Int64),
    sc_P d us B F S L sl ce ∧ sc_A ap ac tn ga yac yat ya ∧ sc_R rp rs rc rt ys yrc yrt ∧ u = sc_X d us ap ac tn rp rs rc rt sl B F T ga ∧ v = sc_Y d yac yat ys yrc yrt ce S L T ya
theorem sc_el {k : Nat} {u : SX} {v : SY} {Q : SX → SY → Prop} (I : i_Rel k u v)
    (h : ∀ (d us : Nat) (B F S L : Nat → Nat) (T : Nat → Int32) (ap ac tn rp : Int32) (rs : Int64) (rc rt : Int32) (sl ga : Nat → Int64) (yac yat : Int32) (ys : Int64) (yrc yrt : Int32) (ce ya : Nat → Int64),
      sc_P d us B F S L sl ce → sc_A ap ac tn ga yac yat ya → sc_R rp rs rc rt ys yrc yrt → Q (sc_X d us ap ac tn rp rs rc rt sl B F T ga) (sc_Y d yac yat ys yrc yrt ce S L T ya)) : Q u v := by
  obtain ⟨d, us, B, F, S, L, T, ap, ac, tn, rp, rs, rc, rt, sl, ga, yac, yat, ys, yrc, yrt, ce, ya, hp, ha, hr, eu, ev⟩ := I
  rw [eu, ev]
  exact h d us B F S L T ap ac tn rp rs rc rt sl ga yac yat ys yrc yrt ce ya hp ha hr
theorem sc_mk {k : Nat} {d us : Nat} {B F S L : Nat → Nat} {T : Nat → Int32} {ap ac tn rp : Int32} {rs : Int64} {rc rt : Int32} {sl ga : Nat → Int64} {yac yat : Int32} {ys : Int64} {yrc yrt : Int32} {ce ya : Nat → Int64}
    (hp : sc_P d us B F S L sl ce) (ha : sc_A ap ac tn ga yac yat ya) (hr : sc_R rp rs rc rt ys yrc yrt) : i_Rel k (sc_X d us ap ac tn rp rs rc rt sl B F T ga) (sc_Y d yac yat ys yrc yrt ce S L T ya) :=
  ⟨d, us, B, F, S, L, T, ap, ac, tn, rp, rs, rc, rt, sl, ga, yac, yat, ys, yrc, yrt, ce, ya, hp, ha, hr, rfl, rfl⟩
theorem sc_A0 {ac tn : Int32} {ga : Nat → Int64} {yat : Int32} {ya : Nat → Int64} : sc_A 0 ac tn ga (-1) yat ya := Or.inl ⟨rfl, rfl⟩
theorem sc_R0 {rs : Int64} {rc rt : Int32} {ys : Int64} {yrt : Int32} : sc_R 0 rs rc rt ys (-1) yrt := Or.inl ⟨rfl, rfl⟩
/-! facts of the relation, and its pure transitions -/
section
variable {d us e : Nat} {B F S L : Nat → Nat} {sl ce sl' ce' : Nat → Int64}
theorem sc_fr (h : sc_P d us B F S L sl ce) {f : Nat} (hf : f < d) : B f + S f ≤ us ∧ F f = B f + L f ∧ L f ≤ S f ∧ F f < 16 ∧ B f = sc_sm S f := by
  obtain ⟨h1, h2, h3, h4⟩ := h
  obtain ⟨q1, q2, q3, q4, q5⟩ := h4 f hf
  have m : sc_sm S f + S f ≤ sc_sm S d := sc_sm_le (S := S) (a := f + 1) d hf
  exact ⟨by omega, q2, q3, q4, q1⟩
theorem sc_top (h : sc_P (e + 1) us B F S L sl ce) : e < 4 ∧ us = B e + S e ∧ us ≤ 16 ∧ F e = B e + L e ∧ L e ≤ S e ∧ F e < 16 := by
  obtain ⟨h1, h2, h3, h4⟩ := h
  obtain ⟨q1, q2, q3, q4, q5⟩ := h4 e (by omega)
  have h2' : us = sc_sm S e + S e := h2
  exact ⟨by omega, by omega, h3, q2, q3, q4⟩
theorem sc_end (h : sc_P d us B F S L sl ce) {f : Nat} (hf : f < d) : (f + 1 = d → us = B f + S f) ∧ (f + 1 < d → B (f + 1) = B f + S f) := by
  obtain ⟨h1, h2, h3, h4⟩ := h
  have q := (h4 f hf).1
  constructor
  · intro z
    subst z
    have h2' : us = sc_sm S f + S f := h2
    omega
  · intro z
    have q2 : B (f + 1) = sc_sm S f + S f := (h4 (f + 1) z).1
    omega
theorem sc_cell (h : sc_P d us B F S L sl ce) {f : Nat} (hf : f < d) {i : Nat} (hi : i < S f) : ce (f * 16 + i) = sl (B f + i) := (h.2.2.2 f hf).2.2.2.2 i hi
theorem sc_pPush (t : Int64) (h : sc_P (e + 1) us B F S L sl ce) (hu : us < 16) : sc_P (e + 1) (us + 1) B F (sc_u S e (S e + 1)) L (vp_updL sl us t) (vp_updL ce (e * 16 + S e) t) := by
  have ht := sc_top h
  have hfr := fun f (hf : f < e + 1) => sc_fr h hf
  obtain ⟨h1, h2, h3, h4⟩ := h
  have h2' : us = sc_sm S e + S e := h2
  refine ⟨h1, ?_, by omega, fun f hf => ?_⟩
  · show us + 1 = sc_sm (sc_u S e (S e + 1)) e + sc_u S e (S e + 1) e
    rw [sc_sm_u e (Nat.le_refl _), sc_us]
    omega
  · obtain ⟨q1, q2, q3, q4, q5⟩ := h4 f hf
    rw [sc_sm_u f (by omega)]
    by_cases z : f = e
    · subst z
      rw [sc_us]
      refine ⟨q1, q2, by omega, q4, fun i hi => ?_⟩
      by_cases zi : i = S f
      · subst zi
        rw [pk_uLs, show B f + S f = us by omega, pk_uLs]
      · rw [pk_uLn (by omega), pk_uLn (by omega)]
        exact q5 i (by omega)
    · rw [sc_un z]
      refine ⟨q1, q2, q3, q4, fun i hi => ?_⟩
      have m : sc_sm S f + S f ≤ sc_sm S e := sc_sm_le (S := S) (a := f + 1) e (by omega)
      rw [pk_uLn (by omega), pk_uLn (by omega)]
      exact q5 i hi
theorem sc_pShr {s : Nat} (h : sc_P (e + 1) us B F S L sl ce) (h1 : L e ≤ s) (h2 : s ≤ S e) (hk : ∀ j, j < B e + s → sl' j = sl j) : sc_P (e + 1) (B e + s) B F (sc_u S e s) L sl' ce := by
  have ht := sc_top h
  obtain ⟨g1, g2, g3, g4⟩ := h
  have qe := (g4 e (by omega)).1
  refine ⟨g1, ?_, by omega, fun f hf => ?_⟩
  · show B e + s = sc_sm (sc_u S e s) e + sc_u S e s e
    rw [sc_sm_u e (Nat.le_refl _), sc_us]
    omega
  · obtain ⟨q1, q2, q3, q4, q5⟩ := g4 f hf
    rw [sc_sm_u f (by omega)]
    by_cases z : f = e
    · subst z
      rw [sc_us]
      refine ⟨q1, q2, h1, q4, fun i hi => ?_⟩
      rw [hk _ (by omega)]
      exact q5 i (by omega)
    · rw [sc_un z]
      refine ⟨q1, q2, q3, q4, fun i hi => ?_⟩
      have m : sc_sm S f + S f ≤ sc_sm S e := sc_sm_le (S := S) (a := f + 1) e (by omega)
      rw [hk _ (by omega)]
      exact q5 i hi
theorem sc_pPop {d' : Nat} (h : sc_P d us B F S L sl ce) (hd : d' ≤ d) (hk : ∀ j, j < sc_sm S d' → sl' j = sl j) : sc_P d' (sc_sm S d') B F S L sl' ce := by
  obtain ⟨g1, g2, g3, g4⟩ := h
  have m0 : sc_sm S d' ≤ sc_sm S d := sc_sm_le (S := S) d hd
  refine ⟨by omega, rfl, by omega, fun f hf => ?_⟩
  obtain ⟨q1, q2, q3, q4, q5⟩ := g4 f (by omega)
  refine ⟨q1, q2, q3, q4, fun i hi => ?_⟩
  have m : sc_sm S f + S f ≤ sc_sm S d' := sc_sm_le (S := S) (a := f + 1) d' (by omega)
  rw [hk _ (by omega)]
  exact q5 i hi
theorem sc_pPop1 (h : sc_P (e + 1) us B F S L sl ce) (hk : ∀ j, j < B e → sl' j = sl j) : sc_P e (B e) B F S L sl' ce := by
  have q : B e = sc_sm S e := (h.2.2.2 e (by omega)).1
  rw [q] at hk ⊢
  exact sc_pPop h (by omega) hk
theorem sc_pUnw (t : Int64) (h : sc_P d us B F S L sl ce) (hd : e < d) (hk : ∀ j, j < F e → sl' j = sl j) : sc_P (e + 1) (F e + 1) B F (sc_u S e (L e + 1)) L (vp_updL sl' (F e) t) (vp_updL ce (e * 16 + L e) t) := by
  have hf := sc_fr h hd
  have h1 := sc_pPop (sl' := sl) h (show e + 1 ≤ d from hd) (fun _ _ => rfl)
  have h2 := sc_pShr (sl' := sl') h1 (Nat.le_refl (L e)) hf.2.2.1 (fun j hj => hk j (by omega))
  rw [← hf.2.1] at h2
  have h3 := sc_pPush t h2 hf.2.2.2.1
  rw [sc_us, sc_uu] at h3
  exact h3
theorem sc_pEnt {M : Nat} (h : sc_P d us B F S L sl ce) (hd : d < 4) (hM : us + M < 16) (hk : ∀ j, j < us → sl' j = sl j) (hc : ∀ j, j < d * 16 → ce' j = ce j) (hn : ∀ i, i < M → ce' (d * 16 + i) = sl' (us + i)) : sc_P (d + 1) (us + M) (sc_u B d us) (sc_u F d (us + M)) (sc_u S d M) (sc_u L d M) sl' ce' := by
  have hfr := fun f (hf : f < d) => sc_fr h hf
  obtain ⟨g1, g2, g3, g4⟩ := h
  refine ⟨by omega, ?_, by omega, fun f hf => ?_⟩
  · show us + M = sc_sm (sc_u S d M) d + sc_u S d M d
    rw [sc_sm_u d (Nat.le_refl _), sc_us]
    omega
  · rw [sc_sm_u f (by omega)]
    by_cases z : f = d
    · subst z
      rw [sc_us, sc_us, sc_us, sc_us]
      exact ⟨g2, rfl, Nat.le_refl _, hM, hn⟩
    · rw [sc_un z, sc_un z, sc_un z, sc_un z]
      have hf' : f < d := by omega
      obtain ⟨q1, q2, q3, q4, q5⟩ := g4 f hf'
      have m := hfr f hf'
      refine ⟨q1, q2, q3, q4, fun i hi => ?_⟩
      rw [hc _ (by omega), hk _ (by omega)]
      exact q5 i hi
end
end
section
/-! loop laws over an abstract W -/
theorem sc_zl (W : Nat → Int32 → (Nat → Int64) → Prop) (b m : Nat) (sl : Nat → Int64) (hb : b ≤ m)
    (hs : ∀ n j s, b ≤ j → j < m → W n (nI (j + 1)) (vp_updL s j 0) → W (n + 1) (nI j) s)
    (hx : ∀ n s, (∀ j, j < b → s j = sl j) → W (n + 1) (nI m) s) : ∃ n, W n (nI b) sl := by
  refine ⟨m - b + 1, loop_i (fun n i s => W n (nI i) s) (fun i s => b ≤ i ∧ ∀ j, j < b → s j = sl j) m (fun n s h => hx n s h.2) ?_ (m - b + 1) b sl hb (by omega) ⟨Nat.le_refl b, fun _ _ => rfl⟩⟩
  intro n i s hi h ih
  refine hs n i s h.1 hi (ih _ ⟨by omega, fun j hj => ?_⟩)
  rw [pk_uLn (by omega)]
  exact h.2 j hj
theorem sc_wl (W : Nat → Int32 → (Nat → Int64) → Prop) (b M : Nat) (val sl : Nat → Int64)
    (hs : ∀ n k s, k < M → W n (nI (k + 1)) (vp_updL s (b + k) (val k)) → W (n + 1) (nI k) s)
    (hx : ∀ n s, (∀ j, j < b → s j = sl j) → (∀ i, i < M → s (b + i) = val i) → (∀ j, b + M ≤ j → s j = sl j) → W (n + 1) (nI M) s) : ∃ n, W n (nI 0) sl := by
  refine loop_0 (fun n i s => W n (nI i) s) (fun k s => (∀ j, j < b → s j = sl j) ∧ (∀ i, i < k → s (b + i) = val i) ∧ (∀ j, b + k ≤ j → s j = sl j)) M sl ⟨fun _ _ => rfl, fun i hi => absurd hi (Nat.not_lt_zero i), fun _ _ => rfl⟩ (fun n s h => hx n s h.1 h.2.1 h.2.2) ?_
  intro n k s hk h ih
  refine hs n k s hk (ih _ ⟨fun j hj => ?_, fun i hi => ?_, fun j hj => ?_⟩)
  · rw [pk_uLn (by omega)]
    exact h.1 j hj
  · by_cases z : i = k
    · subst z
      exact pk_uLs
    · rw [pk_uLn (by omega)]
      exact h.2.1 i (by omega)
  · rw [pk_uLn (by omega)]
    exact h.2.2 j (by omega)
theorem sc_bl (W : Nat → Int32 → (Nat → Int64) → (Nat → Int64) → Prop) (b M : Nat) (sl ga : Nat → Int64)
    (hs : ∀ n k s a, k < M → W n (nI (k + 1)) (vp_updL s (b + k) 0) (vp_updL a k (s (b + k))) → W (n + 1) (nI k) s a)
    (hx : ∀ n s a, (∀ j, j < b → s j = sl j) → (∀ i, i < M → a i = sl (b + i)) → W (n + 1) (nI M) s a) : ∃ n, W n (nI 0) sl ga := by
  refine loop_0 (fun n i (p : (Nat → Int64) × (Nat → Int64)) => W n (nI i) p.1 p.2) (fun k p => (∀ j, j < b → p.1 j = sl j) ∧ (∀ i, i < k → p.2 i = sl (b + i)) ∧ (∀ j, b + k ≤ j → p.1 j = sl j)) M (sl, ga) ⟨fun _ _ => rfl, fun i hi => absurd hi (Nat.not_lt_zero i), fun _ _ => rfl⟩ (fun n p h => hx n p.1 p.2 h.1 h.2.1) ?_
  intro n k p hk h ih
  refine hs n k p.1 p.2 hk (ih (vp_updL p.1 (b + k) 0, vp_updL p.2 k (p.1 (b + k))) ⟨fun j hj => ?_, fun i hi => ?_, fun j hj => ?_⟩)
  · show vp_updL p.1 (b + k) 0 j = sl j
    rw [pk_uLn (by omega)]
    exact h.1 j hj
  · show vp_updL p.2 k (p.1 (b + k)) i = sl (b + i)
    by_cases z : i = k
    · subst z
      rw [pk_uLs]
      exact h.2.2 (b + i) (Nat.le_refl _)
    · rw [pk_uLn z]
      exact h.2.1 i (by omega)
  · show vp_updL p.1 (b + k) 0 j = sl j
    rw [pk_uLn (by omega)]
    exact h.2.2 j (by omega)
theorem sc_hi {e : Nat} (he : e < 4) : vp_in (nI (e + 1) - 1) 4 := by
  rw [nI_pred]
  exact vp_in_nI he (by decide)
theorem sc_cl {e : Nat} (he : e < 4) : (nI (e + 1) - 1).toNatClampNeg = e := by
  rw [nI_pred]
  exact nI_clamp (by omega)
theorem sc_n0 {e : Nat} (he : e < 4) : ¬ nI (e + 1) = 0 := nI_ne0 (by omega) (by omega)
/-! X: dropArgs -/
theorem sc_xd17 {post : SX → Prop} {fd fu rp rc rt : Int32} {rs : Int64} {sl : Nat → Int64} {ba fl tk : Nat → Int32} (h : ∀ g, post (fd, fu, 0, 0, 0, rp, rs, rc, rt, sl, ba, fl, tk, g)) : ∀ (n j : Nat) (ga : Nat → Int64), j ≤ 4 → 4 - j < n → wX_dropArgs_17 post fd fu 0 0 0 rp rs rc rt n (nI j) sl ba fl tk ga := by
  intro n
  induction n with
  | zero => intro j ga _ h2; omega
  | succ n ih =>
    intro j ga h1 h2
    rcases Nat.lt_or_ge j 4 with hj | hj
    · exact br_f (nI_ge (b := 4) hj (by decide)) ⟨vp_in_nI hj (by decide), nm_e (nm_r (nI_1 j) (ih (j + 1) _ (by omega) (by omega)))⟩
    · exact br_t (nI_le (a := 4) hj (by omega)) (h ga)
theorem sc_drop {post : SX → Prop} {fd fu ap ac tn rp rc rt : Int32} {rs : Int64} {sl ga : Nat → Int64} {ba fl tk : Nat → Int32} (h : ∀ g, post (fd, fu, 0, 0, 0, rp, rs, rc, rt, sl, ba, fl, tk, g)) : wpX_dropArgs post (fd, fu, ap, ac, tn, rp, rs, rc, rt, sl, ba, fl, tk, ga) :=
  Exists.intro 5 (sc_xd17 h 5 0 ga (by omega) (by omega))
/-! X: the methods -/
section
variable {d us e : Nat} {B F : Nat → Nat} {T : Nat → Int32} {ap ac tn rp rc rt : Int32} {rs : Int64} {sl ga : Nat → Int64} {post : Int32 → SX → Prop}
theorem sc_xpush {t : Int64} (he : e < 4) (hu : us < 16) (h : post (nI (us + 1) - nI (B e)) (sc_X (e + 1) (us + 1) ap ac tn rp rs rc rt (vp_updL sl us t) B F T ga)) : wpX_push post (sc_X (e + 1) us ap ac tn rp rs rc rt sl B F T ga) t := by
  unfold wpX_push
  dsimp only
  rw [sc_cl he, nI_clamp (n := us) (by omega)]
  exact br_f (sc_n0 he) (br_t (nI_lt (b := 16) hu (by decide)) ⟨vp_in_nI hu (by decide), nm_e (nm_r (nI_1 us) ⟨sc_hi he, h⟩)⟩)
theorem sc_xbc {p0 : Int32} {a : Nat} (he : e < 4) (ha : a ≤ 4) (hF : F e + a ≤ us) (hu : us ≤ 16)
    (h : ∀ s g, (∀ j, j < us - a → s j = sl j) → (∀ i, i < a → g i = sl (us - a + i)) → post (nI (us - a) - nI (B e)) (sc_X (e + 1) (us - a) 1 (nI a) p0.toInt16.toInt32 0 0 0 0 s B F T g)) :
    wpX_beforeCall post (sc_X (e + 1) us ap ac tn rp rs rc rt sl B F T ga) p0 (nI a) := by
  unfold wpX_beforeCall
  dsimp only
  rw [sc_cl he]
  refine br_f (sc_n0 he) ⟨sc_hi he, nm_r (pk_sub (show F e ≤ us by omega)) (br_f (nI_pos (by omega)) (br_f (nI_nlt (a := 4) ha (by decide)) (br_t (nI_le (show a ≤ us - F e by omega) (by omega)) (sc_drop fun g => ?_))))⟩
  refine nm_r (pk_sub (show a ≤ us by omega)) ?_
  refine sc_bl (fun n x s a' => wX_beforeCall_58 post p0 (nI a) (nI (us - a)) (nI (e + 1)) (nI us) 0 0 0 rp rs rc rt n x s (fun f => nI (B f)) (fun f => nI (F f)) (fun f => (T f).toInt16.toInt32) a') (us - a) a sl g ?_ ?_
  · intro n k s a' hk hW
    refine br_f (nI_ge hk (by omega)) ?_
    rw [nI_add, nI_clamp (n := us - a + k) (by omega), nI_clamp (n := k) (by omega)]
    exact ⟨vp_in_nI (by omega) (by decide), vp_in_nI (by omega) (by decide), nm_e ⟨vp_in_nI (by omega) (by decide), nm_e (nm_r (nI_1 k) hW)⟩⟩
  · intro n s a' h1 h2
    refine br_t (nI_le (Nat.le_refl a) (by omega)) ⟨pk_ns p0, pk_fs p0, ?_⟩
    unfold wpX_dropResult
    dsimp only
    rw [sc_cl he]
    exact ⟨sc_hi he, h s a' h1 h2⟩
theorem sc_x184 {r fd fu : Int32} {ba fl tk : Nat → Int32} (h : ∀ g, post r (fd, fu, 0, 0, 0, 0, 0, 0, 0, sl, ba, fl, tk, g)) : wX_enter_184 post r fd fu ap ac tn rp rs rc rt sl ba fl tk ga := by
  unfold wX_enter_184
  exact sc_drop fun g => h g
theorem sc_xen {p0 : Int32} {M : Nat} (hd : d < 4) (hM : M ≤ 8) (hu : us + M < 16)
    (h : ∀ n s, (∀ j, j < us → s j = sl j) → (∀ i, i < M → s (us + i) = 0) → wX_enter_91 post p0 (nI M) (nI us) (nI (d + 1)) (nI us) ap ac tn rp rs rc rt (n + 1) (nI M) s (fun f => nI (sc_u B d us f)) (fun f => nI (sc_u F d (us + M) f)) (fun f => (upd T d p0 f).toInt16.toInt32) ga) :
    wpX_enter post (sc_X d us ap ac tn rp rs rc rt sl B F T ga) p0 (nI M) := by
  unfold wpX_enter
  dsimp only
  rw [nI_add, nI_clamp (n := d) (by omega)]
  have hi : vp_in (nI d) 4 := vp_in_nI hd (by decide)
  refine br_f (nI_pos (by omega)) (br_t (nI_le (b := 8) hM (by decide)) (br_t (nI_lt (b := 4) hd (by decide)) (br_t (nI_lt (b := 16) hu (by decide)) ⟨hi, nm_r (sc_upC (by omega)) ⟨hi, nm_r (sc_upC (by omega)) ⟨hi, nm_r sc_upT (nm_r (nI_1 d) ?_)⟩⟩⟩)))
  refine sc_wl (fun n x s => wX_enter_91 post p0 (nI M) (nI us) (nI (d + 1)) (nI us) ap ac tn rp rs rc rt n x s (fun f => nI (sc_u B d us f)) (fun f => nI (sc_u F d (us + M) f)) (fun f => (upd T d p0 f).toInt16.toInt32) ga) us M (fun _ => 0) sl ?_ ?_
  · intro n k s hk hW
    refine br_f (nI_ge hk (by omega)) ?_
    rw [nI_add, nI_clamp (n := us + k) (by omega)]
    exact ⟨vp_in_nI (by omega) (by decide), nm_e (nm_r (nI_1 k) hW)⟩
  · intro n s h1 h2 h3
    exact h n s h1 h2
theorem sc_xen0 {p0 : Int32} {M : Nat} (hd : d < 4) (hM : M ≤ 8) (hu : us + M < 16) (hc : ¬ ap = 0 → tn = p0.toInt16.toInt32 → nI M < ac)
    (h : ∀ s g, (∀ j, j < us → s j = sl j) → (∀ i, i < M → s (us + i) = 0) → post 0 (sc_X (d + 1) (us + M) 0 0 0 0 0 0 0 s (sc_u B d us) (sc_u F d (us + M)) (upd T d p0) g)) :
    wpX_enter post (sc_X d us ap ac tn rp rs rc rt sl B F T ga) p0 (nI M) := by
  refine sc_xen hd hM hu fun n s h1 h2 => ?_
  refine br_t (nI_le (Nat.le_refl M) (by omega)) (nm_r (nI_add us M) ?_)
  exact br_c (fun _ => sc_x184 fun g => h s g h1 h2) fun hap => br_c (fun ht => br_c (fun _ => sc_x184 fun g => h s g h1 h2) (fun hq => absurd (hc hap ht) hq)) (fun _ => sc_x184 fun g => h s g h1 h2)
theorem sc_xen1 {p0 : Int32} {M m : Nat} (hd : d < 4) (hM : M ≤ 8) (hu : us + M < 16) (hap : ¬ ap = 0) (ht : tn = p0.toInt16.toInt32) (hm : m ≤ M) (hm4 : m ≤ 4)
    (h : ∀ s g, (∀ j, j < us → s j = sl j) → (∀ i, i < M → s (us + i) = if i < m then ga i else 0) → post 1 (sc_X (d + 1) (us + M) 0 0 0 0 0 0 0 s (sc_u B d us) (sc_u F d (us + M)) (upd T d p0) g)) :
    wpX_enter post (sc_X d us ap (nI m) tn rp rs rc rt sl B F T ga) p0 (nI M) := by
  refine sc_xen hd hM hu fun n s h1 h2 => ?_
  refine br_t (nI_le (Nat.le_refl M) (by omega)) (nm_r (nI_add us M) (br_f hap (br_t ht (br_f (nI_nlt hm (by omega)) ?_))))
  refine sc_wl (fun n x s => wX_enter_150 post (nI us) (nI (d + 1)) (nI (us + M)) ap (nI m) tn rp rs rc rt n x s (fun f => nI (sc_u B d us f)) (fun f => nI (sc_u F d (us + M) f)) (fun f => (upd T d p0 f).toInt16.toInt32) ga) us m ga s ?_ ?_
  · intro n k s' hk hW
    refine br_f (nI_ge hk (by omega)) ?_
    rw [nI_add, nI_clamp (n := us + k) (by omega), nI_clamp (n := k) (by omega)]
    exact ⟨vp_in_nI (by omega) (by decide), vp_in_nI (by omega) (by decide), nm_e (nm_r (nI_1 k) hW)⟩
  · intro n s' g1 g2 g3
    refine br_t (nI_le (Nat.le_refl m) (by omega)) (sc_x184 fun g => h s' g (fun j hj => (g1 j hj).trans (h1 j hj)) fun i hi => ?_)
    by_cases z : i < m
    · rw [if_pos z]
      exact g2 i z
    · rw [if_neg z, g3 _ (by omega)]
      exact h2 i hi
theorem sc_x82 {p0 : Int32} {x3 : Int64} (he : e < 4) (hb : B e ≤ us) (hu : us ≤ 16)
    (h : ∀ s g, (∀ j, j < B e → s j = sl j) → (x3 = 0 → post 0 (sc_X e (B e) 0 0 0 1 x3 p0 (T e).toInt16.toInt32 s B F T g)) ∧ (¬ x3 = 0 → post 1 (sc_X e (B e) 0 0 0 1 x3 p0 (T e).toInt16.toInt32 s B F T g))) :
    wX_exitReturn_82 post p0 x3 (nI (e + 1)) (nI us) ap ac tn rp rs rc rt sl (fun f => nI (B f)) (fun f => nI (F f)) (fun f => (T f).toInt16.toInt32) ga := by
  unfold wX_exitReturn_82
  dsimp only
  rw [sc_cl he]
  refine ⟨sc_hi he, nm_e ⟨pk_ns (T e), pk_fs (T e), sc_hi he, nm_e ?_⟩⟩
  refine sc_zl (fun n x s => wX_exitReturn_129 post x3 (nI (B e)) (nI (e + 1)) (nI us) ap ac tn 1 x3 p0 (T e).toInt16.toInt32 n x s (fun f => nI (B f)) (fun f => nI (F f)) (fun f => (T f).toInt16.toInt32) ga) (B e) us sl hb ?_ ?_
  · intro n j s _ hj hW
    refine br_f (nI_ge hj (by omega)) ?_
    rw [nI_clamp (n := j) (by omega)]
    exact ⟨vp_in_nI (by omega) (by decide), nm_e (nm_r (nI_1 j) hW)⟩
  · intro n s hs
    exact br_t (nI_le (Nat.le_refl us) (by omega)) (nm_r (nI_pred e) (sc_drop fun g => h s g hs))
theorem sc_xex {c : Nat} (he : e < 4) (hc : c ≤ 2) (hF : F e + c ≤ us) (hb : B e ≤ F e) (hu : us ≤ 16) (w : Int64) (hw : w = if c = 0 then 0 else sl (us - c))
    (h : ∀ s g, (∀ j, j < B e → s j = sl j) → (w = 0 → post 0 (sc_X e (B e) 0 0 0 1 w (nI c) (T e).toInt16.toInt32 s B F T g)) ∧ (¬ w = 0 → post 1 (sc_X e (B e) 0 0 0 1 w (nI c) (T e).toInt16.toInt32 s B F T g))) :
    wpX_exitReturn post (sc_X (e + 1) us ap ac tn rp rs rc rt sl B F T ga) (nI c) := by
  unfold wpX_exitReturn
  dsimp only
  rw [sc_cl he]
  refine br_f (sc_n0 he) ⟨sc_hi he, nm_r (pk_sub (show F e ≤ us by omega)) (br_f (nI_pos (by omega)) (br_f (nI_nlt (a := 2) hc (by decide)) (br_t (nI_le (show c ≤ us - F e by omega) (by omega)) ?_)))⟩
  have hc3 : c = 0 ∨ c = 1 ∨ c = 2 := by omega
  rcases hc3 with z | z | z
  · subst z
    rw [if_pos rfl] at hw
    subst hw
    exact br_f (by decide) (br_f (by decide) (sc_x82 he (by omega) hu h))
  · subst z
    rw [if_neg (by decide)] at hw
    have e1 : nI us - 1 = nI (us - 1) := pk_sub (b := 1) (by omega)
    rw [e1, nI_clamp (n := us - 1) (by omega)]
    exact br_t rfl ⟨vp_in_nI (by omega) (by decide), nm_r hw.symm (sc_x82 he (by omega) hu h)⟩
  · subst z
    rw [if_neg (by decide)] at hw
    have e1 : nI us - 2 = nI (us - 2) := pk_sub (b := 2) (by omega)
    rw [e1, nI_clamp (n := us - 2) (by omega)]
    exact br_f (by decide) (br_t rfl ⟨vp_in_nI (by omega) (by decide), nm_r hw.symm (sc_x82 he (by omega) hu h)⟩)
theorem sc_x126 {z fd fu : Int32} {ba fl tk : Nat → Int32} (h : ∀ g, (z = 0 → post 2 (fd, fu, 0, 0, 0, 0, 0, 0, 0, sl, ba, fl, tk, g)) ∧ (¬ z = 0 → post 1 (fd, fu, 0, 0, 0, 0, 0, 0, 0, sl, ba, fl, tk, g))) : wX_afterCall_126 post z fd fu ap ac tn rp rs rc rt sl ba fl tk ga := by
  unfold wX_afterCall_126
  exact sc_drop fun g => h g
/-- the store after a call's answer of category c, its shadow w -/
def sc_ac (sl : Nat → Int64) (us : Nat) (w : Int64) (c : Nat) : Nat → Int64 :=
  match c with
  | 0 => sl
  | 1 => vp_updL sl us w
  | _ => vp_updL (vp_updL sl us w) (us + 1) 0
theorem sc_x64 {z fd : Int32} {ba fl tk : Nat → Int32} {c : Nat} (hc : c ≤ 2) (hu : us + c ≤ 16) (w : Int64) (h0 : z = 0 → w = 0) (h1 : ¬ z = 0 → w = rs)
    (h : ∀ g, (z = 0 → post 2 (fd, nI (us + c), 0, 0, 0, 0, 0, 0, 0, sc_ac sl us w c, ba, fl, tk, g)) ∧ (¬ z = 0 → post 1 (fd, nI (us + c), 0, 0, 0, 0, 0, 0, 0, sc_ac sl us w c, ba, fl, tk, g))) :
    wX_afterCall_64 post (nI c) z fd (nI us) ap ac tn rp rs rc rt sl ba fl tk ga := by
  unfold wX_afterCall_64
  have hc3 : c = 0 ∨ c = 1 ∨ c = 2 := by omega
  rcases hc3 with q | q | q
  · subst q
    exact br_t (by decide) (br_f (by decide) (sc_x126 h))
  · subst q
    have k1 : ∀ v : Int64, v = w → wX_afterCall_90 post (nI 1) z v (nI us) fd (nI us) ap ac tn rp rs rc rt sl ba fl tk ga := by
      intro v ev
      subst ev
      unfold wX_afterCall_90
      rw [nI_clamp (n := us) (by omega)]
      exact ⟨vp_in_nI (by omega) (by decide), nm_e (nm_r (nI_1 us) (br_f (by decide) (sc_x126 h)))⟩
    exact br_f (by decide) (br_c (fun z0 => k1 0 (h0 z0).symm) fun z1 => k1 rs (h1 z1).symm)
  · subst q
    have k1 : ∀ v : Int64, v = w → wX_afterCall_90 post (nI 2) z v (nI us) fd (nI us) ap ac tn rp rs rc rt sl ba fl tk ga := by
      intro v ev
      subst ev
      unfold wX_afterCall_90
      rw [nI_clamp (n := us) (by omega)]
      refine ⟨vp_in_nI (by omega) (by decide), nm_e (nm_r (nI_1 us) (br_t rfl ?_))⟩
      rw [nI_clamp (n := us + 1) (by omega)]
      exact ⟨vp_in_nI (by omega) (by decide), nm_e (nm_r (nI_1 (us + 1)) (sc_x126 h))⟩
    exact br_f (by decide) (br_c (fun z0 => k1 0 (h0 z0).symm) fun z1 => k1 rs (h1 z1).symm)
theorem sc_xac {p0 : Int32} {c : Nat} (he : e < 4) (hc : c ≤ 2) (hu : us + c ≤ 16) (z : Int32) (hz : (z = 1 ∧ ¬ rp = 0 ∧ rc = nI c ∧ rt = p0.toInt16.toInt32) ∨ (z = 0 ∧ (¬ rp = 0 → rc = nI c → ¬ rt = p0.toInt16.toInt32)))
    (w : Int64) (h0 : z = 0 → w = 0) (h1 : ¬ z = 0 → w = rs)
    (h : ∀ g, (z = 0 → post 2 (sc_X (e + 1) (us + c) 0 0 0 0 0 0 0 (sc_ac sl us w c) B F T g)) ∧ (¬ z = 0 → post 1 (sc_X (e + 1) (us + c) 0 0 0 0 0 0 0 (sc_ac sl us w c) B F T g))) :
    wpX_afterCall post (sc_X (e + 1) us ap ac tn rp rs rc rt sl B F T ga) p0 (nI c) := by
  unfold wpX_afterCall
  dsimp only
  rw [nI_add]
  refine br_f (sc_n0 he) (br_f (nI_pos (by omega)) (br_t (nI_le (b := 2) hc (by decide)) (br_t (nI_le (b := 16) hu (by decide)) ?_)))
  have k := sc_x64 (ap := ap) (ac := ac) (tn := tn) (rp := rp) (rc := rc) (rt := rt) (ga := ga) hc hu w h0 h1 h
  rcases hz with ⟨z1, q1, q2, q3⟩ | ⟨z0, q⟩
  · subst z1
    exact br_f q1 (br_t q2 (br_t q3 k))
  · subst z0
    exact br_c (fun _ => k) fun q1 => br_c (fun q2 => br_f (q q1 q2) k) fun _ => k
theorem sc_x102 {r fd fu : Int32} {ba fl tk : Nat → Int32} (h : ∀ g, post r (fd, fu, 0, 0, 0, 0, 0, 0, 0, sl, ba, fl, tk, g)) : wX_unwindTo_102 post r fd fu ap ac tn rp rs rc rt sl ba fl tk ga := by
  unfold wX_unwindTo_102
  exact sc_drop fun g => h g
theorem sc_x49 {x1 x4 fd : Int32} {x2 : Int64} {ba fl tk : Nat → Int32} {b : Nat} (hb : b ≤ us) (hu : us ≤ 16)
    (h : ∀ n s, (∀ j, j < b → s j = sl j) → wX_unwindTo_49 post x1 x2 x4 (nI b) fd (nI us) ap ac tn rp rs rc rt (n + 1) (nI us) s ba fl tk ga) :
    ∃ n, wX_unwindTo_49 post x1 x2 x4 (nI b) fd (nI us) ap ac tn rp rs rc rt n (nI b) sl ba fl tk ga := by
  refine sc_zl (fun n x s => wX_unwindTo_49 post x1 x2 x4 (nI b) fd (nI us) ap ac tn rp rs rc rt n x s ba fl tk ga) b us sl hb ?_ h
  intro n j s _ hj hW
  refine br_f (nI_ge hj (by omega)) ?_
  rw [nI_clamp (n := j) (by omega)]
  exact ⟨vp_in_nI (by omega) (by decide), nm_e (nm_r (nI_1 j) hW)⟩
theorem sc_xun0 {t : Int64} (hd : d ≤ 4) (hu : us ≤ 16)
    (h : ∀ s g, post (nI d - nI 0) (sc_X 0 0 0 0 0 0 0 0 0 s B F T g)) :
    wpX_unwindTo post (sc_X d us ap ac tn rp rs rc rt sl B F T ga) (nI 0) t := by
  unfold wpX_unwindTo
  dsimp only
  refine br_f (by decide) (br_t (nI_le (by omega) (by omega)) (nm_e (br_t (by decide) ?_)))
  refine sc_x49 (b := 0) (by omega) hu fun n s _ => ?_
  exact br_t (nI_le (Nat.le_refl us) (by omega)) (br_t (by decide) (sc_x102 fun g => h s g))
theorem sc_xun1 {t : Int64} (hd : d ≤ 4) (he : e < d) (hu : us ≤ 16) (hF : F e ≤ us) (hF16 : F e < 16)
    (h : ∀ s g, (∀ j, j < F e → s j = sl j) → post (nI d - nI (e + 1)) (sc_X (e + 1) (F e + 1) 0 0 0 0 0 0 0 (vp_updL s (F e) t) B F T g)) :
    wpX_unwindTo post (sc_X d us ap ac tn rp rs rc rt sl B F T ga) (nI (e + 1)) t := by
  unfold wpX_unwindTo
  dsimp only
  rw [sc_cl (by omega)]
  refine br_f (nI_pos (by omega)) (br_t (nI_le he (by omega)) (nm_e (br_f (nI_nle (by omega) (by omega)) ⟨sc_hi (by omega), nm_e ?_⟩)))
  refine sc_x49 hF hu fun n s hs => ?_
  refine br_t (nI_le (Nat.le_refl us) (by omega)) (br_f (nI_nle (by omega) (by omega)) ?_)
  rw [nI_clamp (n := F e) (by omega)]
  exact ⟨vp_in_nI hF16 (by decide), nm_e (nm_r (nI_1 (F e)) (sc_x102 fun g => h s g hs))⟩
end
end
section
/-! Y's walks, general posts -/
theorem sc_ix (e s : Nat) : nI e * 16 + nI s = nI (e * 16 + s) :=
  (congrArg (fun x => x + nI s) (show nI e * 16 = nI (e * 16) from pk_mul e 16)).trans (nI_add (e * 16) s)
def sc_acS (S : Nat → Nat) (e c : Nat) : Nat → Nat :=
  match c with
  | 0 => S
  | 1 => sc_u S e (S e + 1)
  | _ => sc_u (sc_u S e (S e + 1)) e (sc_u S e (S e + 1) e + 1)
def sc_acC (ce : Nat → Int64) (S : Nat → Nat) (e : Nat) (w : Int64) (c : Nat) : Nat → Int64 :=
  match c with
  | 0 => ce
  | 1 => vp_updL ce (e * 16 + S e) w
  | _ => vp_updL (vp_updL ce (e * 16 + S e) w) (e * 16 + sc_u S e (S e + 1) e) 0
section
variable {d e : Nat} {S L : Nat → Nat} {T : Nat → Int32} {yac yat yrc yrt : Int32} {ys : Int64} {ce ya : Nat → Int64}
theorem sc_yu4 {post : Int32 → Prop} (hd : d ≤ 4) (h : post (nI (sc_sm S d))) : ∀ n j : Nat, j ≤ d → d - j < n → wY_used_4 post (nI d) yac yat ys yrc yrt ce (fun f => nI (S f)) (fun f => nI (L f)) (fun f => (T f).toInt16.toInt32) ya n (nI (sc_sm S j)) (nI j) := by
  intro n
  induction n with
  | zero => intro j _ h2; omega
  | succ n ih =>
    intro j h1 h2
    rcases Nat.lt_or_ge j d with hj | hj
    · refine br_f (nI_ge hj (by omega)) ?_
      rw [nI_clamp (n := j) (by omega)]
      exact ⟨vp_in_nI (by omega) (by decide), nm_r (nI_add (sc_sm S j) (S j)) (nm_r (nI_1 j) (ih (j + 1) hj (by omega)))⟩
    · have z : j = d := by omega
      subst z
      exact br_t (nI_le (Nat.le_refl j) (by omega)) h
theorem sc_yused {post : Int32 → Prop} (hd : d ≤ 4) (h : post (nI (sc_sm S d))) : wpY_used post (sc_Y d yac yat ys yrc yrt ce S L T ya) :=
  Exists.intro (d + 1) (sc_yu4 hd h (d + 1) 0 (by omega) (by omega))
theorem sc_yput {post : Int64 → SY → Prop} {t : Int64} (he : e < 4) (hs : S e < 16) (h : post t (sc_Y (e + 1) yac yat ys yrc yrt (vp_updL ce (e * 16 + S e) t) (sc_u S e (S e + 1)) L T ya)) : wpY_put post (sc_Y (e + 1) yac yat ys yrc yrt ce S L T ya) t := by
  unfold wpY_put
  dsimp only
  refine nm_r (nI_pred e) ?_
  have hi : vp_in (nI e) 4 := vp_in_nI he (by decide)
  rw [nI_clamp (n := e) (by omega), sc_ix, nI_1, nI_clamp (n := e * 16 + S e) (by omega)]
  exact ⟨hi, hi, nm_r (sc_upC (by omega)) ⟨vp_in_nI (by omega) (by decide), nm_e h⟩⟩
end
section
variable {d e : Nat} {S L : Nat → Nat} {T : Nat → Int32} {yac yat yrc yrt : Int32} {ys : Int64} {ce ya : Nat → Int64} {post : Int32 → SY → Prop}
theorem sc_ypush {t : Int64} (he : e < 4) (hs : S e < 16) (hu : sc_sm S (e + 1) < 16) (h : post (nI (S e + 1)) (sc_Y (e + 1) yac yat ys yrc yrt (vp_updL ce (e * 16 + S e) t) (sc_u S e (S e + 1)) L T ya)) : wpY_push post (sc_Y (e + 1) yac yat ys yrc yrt ce S L T ya) t := by
  unfold wpY_push
  dsimp only
  refine br_f (sc_n0 he) (sc_yused (by omega) (br_t (nI_lt (b := 16) hu (by decide)) (sc_yput he hs ?_)))
  show vp_in (nI (e + 1) - 1) 4 ∧ post (nI (sc_u S e (S e + 1) (nI (e + 1) - 1).toNatClampNeg)) (sc_Y (e + 1) yac yat ys yrc yrt (vp_updL ce (e * 16 + S e) t) (sc_u S e (S e + 1)) L T ya)
  rw [sc_cl he, sc_us]
  exact ⟨sc_hi he, h⟩
theorem sc_yb50 {p0 : Int32} {a s : Nat} (he : e < 4) (ha : a ≤ 4) (hs : s + a ≤ 16)
    (h : ∀ g, (∀ i, i < a → g i = ce (e * 16 + (s + i))) → post (nI s) (sc_Y (e + 1) (nI a) p0 ys (-1) yrt ce (sc_u S e s) L T g)) :
    ∀ c : Nat, c ≤ a → ∀ g, (∀ i, c ≤ i → i < a → g i = ce (e * 16 + (s + i))) → wY_beforeCall_50 post p0 (nI a) (nI e) (nI (e + 1)) yac yat ys yrc yrt (c + 1) (nI c - 1) ce (fun f => nI (sc_u S e (s + c) f)) (fun f => nI (L f)) (fun f => (T f).toInt16.toInt32) g := by
  have hi : vp_in (nI e) 4 := vp_in_nI he (by decide)
  intro c
  induction c with
  | zero =>
    intro _ g hg
    refine br_t (by decide) ⟨hi, ?_⟩
    have k := h g (fun i q => hg i (Nat.zero_le _) q)
    rw [nI_clamp (n := e) (by omega)]
    show post (nI (sc_u S e s e)) _
    rw [sc_us]
    exact k
  | succ c ih =>
    intro hc g hg
    rw [nI_pred]
    refine br_f (nI_pos (by omega)) ?_
    rw [nI_clamp (n := e) (by omega), nI_clamp (n := c) (by omega)]
    have es : ((nI (sc_u S e (s + (c + 1)) e) - 1).toUInt32 % 65536).toInt32 = nI (s + c) := by
      rw [sc_us, ← Nat.add_assoc, nI_pred, sc_char (by omega)]
    have eu : upd (fun f => nI (sc_u S e (s + (c + 1)) f)) e (vp_nar .char ((nI (sc_u S e (s + (c + 1)) e) - 1).toUInt32 % 65536).toInt32) = fun f => nI (sc_u S e (s + c) f) := by
      rw [es, sc_nar (by omega), sc_upN, sc_uu]
    have ei : nI e * 16 + ((nI (sc_u S e (s + (c + 1)) e) - 1).toUInt32 % 65536).toInt32 = nI (e * 16 + (s + c)) := by
      rw [es, sc_ix]
    have ea : vp_updL g c (ce (nI e * 16 + ((nI (sc_u S e (s + (c + 1)) e) - 1).toUInt32 % 65536).toInt32).toNatClampNeg) = vp_updL g c (ce (e * 16 + (s + c))) := by
      rw [ei, nI_clamp (by omega)]
    have em : nI c + (-1) = nI c - 1 := (Int32.sub_eq_add_neg (nI c) 1).symm
    refine ⟨hi, hi, nm_r eu ⟨pk_in (e * 16 + (s + c)) 64 (by omega) ei (by decide), vp_in_nI (by omega) (by decide), nm_r ea (nm_r em (ih (by omega) _ fun i h1 h2 => ?_))⟩⟩
    by_cases z : i = c
    · subst z
      rw [pk_uLs]
    · rw [pk_uLn z]
      exact hg i (by omega) h2
theorem sc_ybc {p0 : Int32} {a : Nat} (he : e < 4) (ha : a ≤ 4) (hL : L e + a ≤ S e) (hS : S e ≤ 16)
    (h : ∀ g, (∀ i, i < a → g i = ce (e * 16 + (S e - a + i))) → post (nI (S e - a)) (sc_Y (e + 1) (nI a) p0 ys (-1) yrt ce (sc_u S e (S e - a)) L T g)) :
    wpY_beforeCall post (sc_Y (e + 1) yac yat ys yrc yrt ce S L T ya) p0 (nI a) := by
  have hi : vp_in (nI e) 4 := vp_in_nI he (by decide)
  unfold wpY_beforeCall
  dsimp only
  refine br_f (sc_n0 he) (nm_r (nI_pred e) (br_f (nI_pos (by omega)) (br_f (nI_nlt (a := 4) ha (by decide)) ⟨hi, hi, ?_⟩)))
  rw [nI_clamp (n := e) (by omega), pk_sub (show L e ≤ S e by omega)]
  refine br_t (nI_le (show a ≤ S e - L e by omega) (by omega)) (nm_e ⟨a + 1, ?_⟩)
  have k := sc_yb50 (S := S) (L := L) (T := T) (yac := yac) (yat := yat) (yrc := yrc) (s := S e - a) he ha (by omega) h a (Nat.le_refl _) ya (fun i h1 h2 => absurd h2 (by omega))
  rw [show S e - a + a = S e by omega, sc_ui] at k
  exact k
theorem sc_y69 {p0 x3 z : Int32} {M : Nat} (hd : d < 4) (hM : M ≤ 8) (val : Nat → Int64)
    (hv : (z = 0 ∧ ∀ i, val i = 0) ∨ (z = 1 ∧ ∃ m : Nat, m ≤ 4 ∧ x3 = nI m ∧ ∀ i, val i = if i < m then ya i else 0))
    (h : ∀ s, (∀ j, j < d * 16 → s j = ce j) → (∀ i, i < M → s (d * 16 + i) = val i) → (z = 0 → post 0 (sc_Y (d + 1) (-1) yat ys (-1) yrt s (sc_u S d M) (sc_u L d M) (upd T d p0) ya)) ∧ (¬ z = 0 → post 1 (sc_Y (d + 1) (-1) yat ys (-1) yrt s (sc_u S d M) (sc_u L d M) (upd T d p0) ya))) :
    wY_enter_69 post p0 (nI M) x3 z (nI d) yac yat ys yrc yrt ce (fun f => nI (S f)) (fun f => nI (L f)) (fun f => (T f).toInt16.toInt32) ya := by
  have hi : vp_in (nI d) 4 := vp_in_nI hd (by decide)
  unfold wY_enter_69
  rw [nI_clamp (n := d) (by omega)]
  refine nm_r (nI_1 d) ⟨hi, nm_r sc_upT ⟨hi, nm_r (sc_upC (by omega)) ⟨hi, nm_r (sc_upC (by omega)) ?_⟩⟩⟩
  refine sc_wl (fun n x s => wY_enter_113 post (nI M) x3 z (nI d) (nI (d + 1)) yac yat ys yrc yrt n x s (fun f => nI (sc_u S d M f)) (fun f => nI (sc_u L d M f)) (fun f => (upd T d p0 f).toInt16.toInt32) ya) (d * 16) M val ce ?_ ?_
  · intro n k s hk hW
    refine br_f (nI_ge hk (by omega)) ?_
    rw [sc_ix, nI_clamp (n := d * 16 + k) (by omega), nI_clamp (n := k) (by omega)]
    have hj : vp_in (nI (d * 16 + k)) 64 := vp_in_nI (by omega) (by decide)
    rcases hv with ⟨z0, v0⟩ | ⟨z1, m, hm, ex, v1⟩
    · rw [v0 k] at hW
      exact br_t z0 ⟨hj, nm_e (nm_r (nI_1 k) hW)⟩
    · have zn : ¬ z = 0 := by
        rw [z1]
        decide
      subst ex
      by_cases q : k < m
      · rw [v1 k, if_pos q] at hW
        exact br_f zn (br_f (nI_ge q (by omega)) ⟨vp_in_nI (by omega) (by decide), hj, nm_e (nm_r (nI_1 k) hW)⟩)
      · rw [v1 k, if_neg q] at hW
        exact br_f zn (br_t (nI_le (by omega) (by omega)) ⟨hj, nm_e (nm_r (nI_1 k) hW)⟩)
  · intro n s h1 h2 _
    exact br_t (nI_le (Nat.le_refl M) (by omega)) (h s h1 h2)
theorem sc_n4 (hd : d < 4) : ¬ nI d = 4 := fun q => by
  have q2 := (nI_eq (b := 4) (by omega) (by decide)).mp q
  omega
theorem sc_yen0 {p0 : Int32} {M : Nat} (hd : d < 4) (hM : M ≤ 8) (hu : sc_sm S d + M < 16) (hc : ¬ yac < 0 → ¬ nI M < yac → ¬ ((p0 ^^^ yat) &&& 65535) = 0)
    (h : ∀ s, (∀ j, j < d * 16 → s j = ce j) → (∀ i, i < M → s (d * 16 + i) = 0) → post 0 (sc_Y (d + 1) (-1) yat ys (-1) yrt s (sc_u S d M) (sc_u L d M) (upd T d p0) ya)) :
    wpY_enter post (sc_Y d yac yat ys yrc yrt ce S L T ya) p0 (nI M) := by
  unfold wpY_enter
  dsimp only
  refine br_f (nI_pos (by omega)) (br_t (nI_le (b := 8) hM (by decide)) (br_f (sc_n4 hd) (sc_yused (by omega) ?_)))
  rw [nI_add]
  have k := fun x3 => sc_y69 (p0 := p0) (x3 := x3) (z := 0) (yac := yac) (yrc := yrc) hd hM (fun _ => 0) (Or.inl ⟨rfl, fun _ => rfl⟩) (fun s h1 h2 => br_t rfl (h s h1 h2))
  exact br_t (nI_lt (b := 16) hu (by decide)) (br_c (fun _ => k yac) fun q1 => br_c (fun _ => k yac) fun q2 => br_f (hc q1 q2) (k yac))
theorem sc_yen1 {p0 : Int32} {M m : Nat} (hd : d < 4) (hM : M ≤ 8) (hu : sc_sm S d + M < 16) (hm : m ≤ M) (hm4 : m ≤ 4) (ht : ((p0 ^^^ yat) &&& 65535) = 0)
    (h : ∀ s, (∀ j, j < d * 16 → s j = ce j) → (∀ i, i < M → s (d * 16 + i) = if i < m then ya i else 0) → post 1 (sc_Y (d + 1) (-1) yat ys (-1) yrt s (sc_u S d M) (sc_u L d M) (upd T d p0) ya)) :
    wpY_enter post (sc_Y d (nI m) yat ys yrc yrt ce S L T ya) p0 (nI M) := by
  unfold wpY_enter
  dsimp only
  refine br_f (nI_pos (by omega)) (br_t (nI_le (b := 8) hM (by decide)) (br_f (sc_n4 hd) (sc_yused (by omega) ?_)))
  rw [nI_add]
  have k := sc_y69 (p0 := p0) (x3 := nI m) (z := 1) (yac := nI m) (yrc := yrc) hd hM (fun i => if i < m then ya i else 0) (Or.inr ⟨rfl, m, hm4, rfl, fun _ => rfl⟩) (fun s h1 h2 => br_f (by decide) (h s h1 h2))
  exact br_t (nI_lt (b := 16) hu (by decide)) (br_f (nI_pos (by omega)) (br_f (nI_nlt hm (by omega)) (br_t ht k)))
theorem sc_yex {c : Nat} (he : e < 4) (hc : c ≤ 2) (hL : L e + c ≤ S e) (hS : S e ≤ 16) (w : Int64) (hw : w = if c = 0 then 0 else ce (e * 16 + (S e - c)))
    (h : (w = 0 → post 0 (sc_Y e (-1) yat w (nI c) (T e).toInt16.toInt32 ce S L T ya)) ∧ (¬ w = 0 → post 1 (sc_Y e (-1) yat w (nI c) (T e).toInt16.toInt32 ce S L T ya))) :
    wpY_exitReturn post (sc_Y (e + 1) yac yat ys yrc yrt ce S L T ya) (nI c) := by
  have hi : vp_in (nI e) 4 := vp_in_nI he (by decide)
  unfold wpY_exitReturn
  dsimp only
  refine br_f (sc_n0 he) (nm_r (nI_pred e) (br_f (nI_pos (by omega)) (br_f (nI_nlt (a := 2) hc (by decide)) ⟨hi, hi, ?_⟩)))
  rw [nI_clamp (n := e) (by omega), pk_sub (show L e ≤ S e by omega)]
  refine br_t (nI_le (show c ≤ S e - L e by omega) (by omega)) ⟨hi, nm_e ?_⟩
  by_cases z : c = 0
  · subst z
    rw [if_pos rfl] at hw
    subst hw
    exact br_t rfl h
  · rw [if_neg z] at hw
    have ei : nI e * 16 + nI (S e) - nI c = nI (e * 16 + (S e - c)) := by
      rw [sc_ix, pk_sub (by omega), Nat.add_sub_assoc (by omega)]
    rw [ei, nI_clamp (n := e * 16 + (S e - c)) (by omega), ← hw]
    exact br_f (nI_ne0 (by omega) (by omega)) ⟨hi, vp_in_nI (by omega) (by decide), h⟩
theorem sc_y60 {z : Int32} {c : Nat} (he : e < 4) (hc : c ≤ 2) (hS : S e + c ≤ 16) (w : Int64) (h0 : z = 0 → w = 0) (h1 : ¬ z = 0 → w = ys)
    (h : (z = 0 → post 2 (sc_Y (e + 1) (-1) yat ys (-1) yrt (sc_acC ce S e w c) (sc_acS S e c) L T ya)) ∧ (¬ z = 0 → post 1 (sc_Y (e + 1) (-1) yat ys (-1) yrt (sc_acC ce S e w c) (sc_acS S e c) L T ya))) :
    wY_afterCall_60 post (nI c) z (nI (e + 1)) yac yat ys yrc yrt ce (fun f => nI (S f)) (fun f => nI (L f)) (fun f => (T f).toInt16.toInt32) ya := by
  unfold wY_afterCall_60
  have hc3 : c = 0 ∨ c = 1 ∨ c = 2 := by omega
  rcases hc3 with q | q | q
  · subst q
    exact br_t (by decide) (br_f (by decide) h)
  · subst q
    have k1 : ∀ v : Int64, v = w → wY_afterCall_78 post (nI 1) z v (nI (e + 1)) yac yat ys yrc yrt ce (fun f => nI (S f)) (fun f => nI (L f)) (fun f => (T f).toInt16.toInt32) ya := by
      intro v ev
      subst ev
      unfold wY_afterCall_78
      exact sc_yput he (by omega) (br_f (by decide) h)
    exact br_f (by decide) (br_c (fun z0 => k1 0 (h0 z0).symm) fun z1 => k1 ys (h1 z1).symm)
  · subst q
    have k1 : ∀ v : Int64, v = w → wY_afterCall_78 post (nI 2) z v (nI (e + 1)) yac yat ys yrc yrt ce (fun f => nI (S f)) (fun f => nI (L f)) (fun f => (T f).toInt16.toInt32) ya := by
      intro v ev
      subst ev
      unfold wY_afterCall_78
      exact sc_yput he (by omega) (br_t rfl (sc_yput (S := sc_u S e (S e + 1)) he (by rw [sc_us]; omega) h))
    exact br_f (by decide) (br_c (fun z0 => k1 0 (h0 z0).symm) fun z1 => k1 ys (h1 z1).symm)
theorem sc_yac {p0 : Int32} {c : Nat} (he : e < 4) (hc : c ≤ 2) (hS : S e + c ≤ 16) (hu : sc_sm S (e + 1) + c ≤ 16) (z : Int32) (hz : (z = 1 ∧ yrc = nI c ∧ ((p0 ^^^ yrt) &&& 65535) = 0) ∨ (z = 0 ∧ (yrc = nI c → ¬ ((p0 ^^^ yrt) &&& 65535) = 0)))
    (w : Int64) (h0 : z = 0 → w = 0) (h1 : ¬ z = 0 → w = ys)
    (h : (z = 0 → post 2 (sc_Y (e + 1) (-1) yat ys (-1) yrt (sc_acC ce S e w c) (sc_acS S e c) L T ya)) ∧ (¬ z = 0 → post 1 (sc_Y (e + 1) (-1) yat ys (-1) yrt (sc_acC ce S e w c) (sc_acS S e c) L T ya))) :
    wpY_afterCall post (sc_Y (e + 1) yac yat ys yrc yrt ce S L T ya) p0 (nI c) := by
  unfold wpY_afterCall
  dsimp only
  refine br_f (sc_n0 he) (br_f (nI_pos (by omega)) (br_t (nI_le (b := 2) hc (by decide)) (sc_yused (by omega) ?_)))
  rw [nI_add]
  refine br_t (nI_le (b := 16) hu (by decide)) ?_
  have k := sc_y60 (yac := yac) (yrc := yrc) he hc hS w h0 h1 h
  rcases hz with ⟨z1, q2, q3⟩ | ⟨z0, q⟩
  · subst z1
    exact br_t q2 (br_t q3 k)
  · subst z0
    exact br_c (fun q2 => br_f (q q2) k) fun _ => k
theorem sc_yun0 {t : Int64} (hd : d ≤ 4) (h : post (nI d - nI 0) (sc_Y 0 (-1) yat ys (-1) yrt ce S L T ya)) : wpY_unwindTo post (sc_Y d yac yat ys yrc yrt ce S L T ya) (nI 0) t := by
  unfold wpY_unwindTo
  dsimp only
  exact br_f (by decide) (br_t (nI_le (by omega) (by omega)) (nm_e (br_t (by decide) h)))
theorem sc_yun1 {t : Int64} (hd : d ≤ 4) (he : e < d) (hL : L e < 16) (h : post (nI d - nI (e + 1)) (sc_Y (e + 1) (-1) yat ys (-1) yrt (vp_updL ce (e * 16 + L e) t) (sc_u S e (L e + 1)) L T ya)) : wpY_unwindTo post (sc_Y d yac yat ys yrc yrt ce S L T ya) (nI (e + 1)) t := by
  unfold wpY_unwindTo
  dsimp only
  have hi : vp_in (nI (e + 1) - 1) 4 := sc_hi (by omega)
  have eu : upd (fun f => nI (S f)) e (vp_nar .char (nI (L e))) = fun f => nI (sc_u S e (L e) f) := by
    rw [sc_nar (by omega), sc_upN]
  rw [sc_cl (by omega)]
  refine br_f (nI_pos (by omega)) (br_t (nI_le he (by omega)) (nm_e (br_f (nI_nle (by omega) (by omega)) ⟨hi, hi, nm_r eu (sc_yput (S := sc_u S e (L e)) (by omega) (by rw [sc_us]; exact hL) ?_)⟩)))
  show post (nI d - nI (e + 1)) (sc_Y (e + 1) (-1) yat ys (-1) yrt (vp_updL ce (e * 16 + sc_u S e (L e) e) t) (sc_u (sc_u S e (L e)) e (sc_u S e (L e) e + 1)) L T ya)
  rw [sc_us, sc_uu]
  exact h
end
end
section
/-! refusals that read a floor, shadowAt, and the store after a call's answer -/
section
variable {d us e : Nat} {B F : Nat → Nat} {T : Nat → Int32} {ap ac tn rp rc rt : Int32} {rs : Int64} {sl ga : Nat → Int64}
theorem sc_xbcE {post : Int32 → SX → Prop} {p0 : Int32} {a : Nat} (he : e < 4) (ha : a ≤ 4) (hF : F e ≤ us) (hu : us ≤ 16) (h3 : us < F e + a) (h : post (-3) (sc_X (e + 1) us ap ac tn rp rs rc rt sl B F T ga)) :
    wpX_beforeCall post (sc_X (e + 1) us ap ac tn rp rs rc rt sl B F T ga) p0 (nI a) := by
  unfold wpX_beforeCall
  dsimp only
  rw [sc_cl he]
  exact br_f (sc_n0 he) ⟨sc_hi he, nm_r (pk_sub hF) (br_f (nI_pos (by omega)) (br_f (nI_nlt (a := 4) ha (by decide)) (br_f (nI_ge (show us - F e < a by omega) (by omega)) h)))⟩
theorem sc_xexE {post : Int32 → SX → Prop} {a : Nat} (he : e < 4) (ha : a ≤ 2) (hF : F e ≤ us) (hu : us ≤ 16) (h3 : us < F e + a) (h : post (-3) (sc_X (e + 1) us ap ac tn rp rs rc rt sl B F T ga)) :
    wpX_exitReturn post (sc_X (e + 1) us ap ac tn rp rs rc rt sl B F T ga) (nI a) := by
  unfold wpX_exitReturn
  dsimp only
  rw [sc_cl he]
  exact br_f (sc_n0 he) ⟨sc_hi he, nm_r (pk_sub hF) (br_f (nI_pos (by omega)) (br_f (nI_nlt (a := 2) ha (by decide)) (br_f (nI_ge (show us - F e < a by omega) (by omega)) h)))⟩
theorem sc_x50 {post : Int64 → Prop} {fd fu : Int32} {ba fl tk : Nat → Int32} {b s i : Nat} (hi : i < 2 ^ 31) (hb : b + s ≤ 16) (h : post (if i < s then sl (b + i) else 0)) :
    wX_shadowAt_50 post (nI i) (nI b) (nI (b + s)) fd fu ap ac tn rp rs rc rt sl ba fl tk ga := by
  unfold wX_shadowAt_50
  rw [pk_sub (show b ≤ b + s by omega), show b + s - b = s by omega, nI_add]
  by_cases z : i < s
  · rw [if_pos z] at h
    rw [nI_clamp (n := b + i) (by omega)]
    exact br_t (nI_lt z (by omega)) ⟨vp_in_nI (by omega) (by decide), h⟩
  · rw [if_neg z] at h
    exact br_f (nI_nlt (by omega) (by omega)) h
theorem sc_xsh {post : Int64 → Prop} {S : Nat → Nat} {f i : Nat} (hd : d ≤ 4) (hf : f < d) (hi : i < 2 ^ 31) (hb : B f + S f ≤ 16) (h1 : f + 1 = d → us = B f + S f) (h2 : f + 1 < d → B (f + 1) = B f + S f) (h : post (if i < S f then sl (B f + i) else 0)) :
    wpX_shadowAt post (sc_X d us ap ac tn rp rs rc rt sl B F T ga) (nI f) (nI i) := by
  unfold wpX_shadowAt
  dsimp only
  rw [nI_clamp (n := f) (by omega), nI_1, nI_clamp (n := f + 1) (by omega)]
  refine br_f (nI_pos (by omega)) (br_f (nI_ge hf (by omega)) (br_t (nI_pos' hi) ⟨vp_in_nI (by omega) (by decide), nm_e ?_⟩))
  by_cases z : f + 1 = d
  · rw [h1 z]
    subst z
    exact br_t (nI_pred f).symm (sc_x50 hi hb h)
  · have n1 : ¬ nI f = nI d - 1 := by
      obtain ⟨e, rfl⟩ : ∃ e, d = e + 1 := ⟨d - 1, by omega⟩
      rw [nI_pred, nI_eq (by omega) (by omega)]
      omega
    rw [h2 (by omega)]
    exact br_f n1 ⟨vp_in_nI (by omega) (by decide), sc_x50 hi hb h⟩
end
section
variable {d us e : Nat} {S L : Nat → Nat} {T : Nat → Int32} {yac yat yrc yrt : Int32} {ys : Int64} {ce ya : Nat → Int64}
theorem sc_ybcE {post : Int32 → SY → Prop} {p0 : Int32} {a : Nat} (he : e < 4) (ha : a ≤ 4) (hL : L e ≤ S e) (hS : S e ≤ 16) (h3 : S e < L e + a) (h : post (-3) (sc_Y (e + 1) yac yat ys yrc yrt ce S L T ya)) :
    wpY_beforeCall post (sc_Y (e + 1) yac yat ys yrc yrt ce S L T ya) p0 (nI a) := by
  have hi : vp_in (nI e) 4 := vp_in_nI he (by decide)
  unfold wpY_beforeCall
  dsimp only
  refine br_f (sc_n0 he) (nm_r (nI_pred e) (br_f (nI_pos (by omega)) (br_f (nI_nlt (a := 4) ha (by decide)) ⟨hi, hi, ?_⟩)))
  rw [nI_clamp (n := e) (by omega), pk_sub hL]
  exact br_f (nI_ge (show S e - L e < a by omega) (by omega)) h
theorem sc_yexE {post : Int32 → SY → Prop} {a : Nat} (he : e < 4) (ha : a ≤ 2) (hL : L e ≤ S e) (hS : S e ≤ 16) (h3 : S e < L e + a) (h : post (-3) (sc_Y (e + 1) yac yat ys yrc yrt ce S L T ya)) :
    wpY_exitReturn post (sc_Y (e + 1) yac yat ys yrc yrt ce S L T ya) (nI a) := by
  have hi : vp_in (nI e) 4 := vp_in_nI he (by decide)
  unfold wpY_exitReturn
  dsimp only
  refine br_f (sc_n0 he) (nm_r (nI_pred e) (br_f (nI_pos (by omega)) (br_f (nI_nlt (a := 2) ha (by decide)) ⟨hi, hi, ?_⟩)))
  rw [nI_clamp (n := e) (by omega), pk_sub hL]
  exact br_f (nI_ge (show S e - L e < a by omega) (by omega)) h
theorem sc_ysh {post : Int64 → Prop} {f i : Nat} (hd : d ≤ 4) (hf : f < d) (hi : i < 2 ^ 31) (hb : S f ≤ 16) (h : post (if i < S f then ce (f * 16 + i) else 0)) :
    wpY_shadowAt post (sc_Y d yac yat ys yrc yrt ce S L T ya) (nI f) (nI i) := by
  unfold wpY_shadowAt
  dsimp only
  rw [nI_clamp (n := f) (by omega), sc_ix]
  refine br_f (nI_pos (by omega)) (br_f (nI_ge hf (by omega)) (br_f (nI_pos hi) ⟨vp_in_nI (by omega) (by decide), ?_⟩))
  by_cases z : i < S f
  · rw [if_pos z] at h
    rw [nI_clamp (n := f * 16 + i) (by omega)]
    exact br_t (nI_lt z (by omega)) ⟨vp_in_nI (by omega) (by decide), h⟩
  · rw [if_neg z] at h
    exact br_f (nI_nlt (by omega) hi) h
end
theorem sc_pAc {e us c : Nat} {B F S L : Nat → Nat} {sl ce : Nat → Int64} (w : Int64) (h : sc_P (e + 1) us B F S L sl ce) (hc : c ≤ 2) (hu : us + c ≤ 16) : sc_P (e + 1) (us + c) B F (sc_acS S e c) L (sc_ac sl us w c) (sc_acC ce S e w c) := by
  have hc3 : c = 0 ∨ c = 1 ∨ c = 2 := by omega
  rcases hc3 with q | q | q
  · subst q
    exact h
  · subst q
    exact sc_pPush w h (by omega)
  · subst q
    exact sc_pPush 0 (sc_pPush w h (by omega)) (by omega)
end
section
/-! the owed statements -/
theorem i_up {k : Nat} {u : SX} {v : SY} (h : i_Rel k u v) : i_Rel (k + 4) u v := h
theorem i_vc0 : wpX_init (fun u => wpY_init (fun v => i_Rel 0 u v)) := by
  have hp : sc_P 0 0 (fun _ => 0) (fun _ => 0) (fun _ => 0) (fun _ => 0) (fun _ => 0) (fun _ => 0) := ⟨by omega, rfl, by omega, fun f hf => absurd hf (Nat.not_lt_zero f)⟩
  exact sc_mk (k := 0) (T := fun _ => 0) (ac := 0) (tn := 0) (rs := 0) (rc := 0) (rt := 0) (ga := fun _ => 0) (yat := 0) (ys := 0) (yrt := 0) (ya := fun _ => 0) hp sc_A0 sc_R0
theorem i_vc_push {k : Nat} {u : SX} {v : SY} (I : i_Rel k u v) (hk : k + 4 ≤ 2048) (a0 : Int64) : wpX_push (fun r u' => wpY_push (fun r' v' => r' = r ∧ i_Rel (k + 4) u' v') v a0) u a0 := by
  refine sc_el (Q := fun u v => wpX_push (fun r u' => wpY_push (fun r' v' => r' = r ∧ i_Rel (k + 4) u' v') v a0) u a0) I ?_
  intro d us B F S L T ap ac tn rp rs rc rt sl ga yac yat ys yrc yrt ce ya hp ha hr
  have J := sc_mk (k := k + 4) (T := T) hp ha hr
  cases d with
  | zero => exact br_t rfl (br_t rfl ⟨rfl, J⟩)
  | succ e =>
    obtain ⟨he, hus, hu16, hF, hL, hF16⟩ := sc_top hp
    have hsm : us = sc_sm S (e + 1) := hp.2.1
    by_cases hu : us < 16
    · refine sc_xpush he hu (sc_ypush he (by omega) (by omega) ⟨?_, sc_mk (sc_pPush a0 hp hu) ha hr⟩)
      rw [pk_sub (by omega)]
      exact congrArg nI (by omega)
    · exact br_f (sc_n0 he) (br_f (nI_nlt (b := 16) (by omega) (by omega)) (br_f (sc_n0 he) (sc_yused (by omega) (br_f (nI_nlt (b := 16) (by omega) (by omega)) ⟨rfl, J⟩))))
theorem i_vc_beforeCall {k : Nat} {u : SX} {v : SY} (I : i_Rel k u v) (hk : k + 4 ≤ 2048) (v1 : Int32) (v2 : Int32) : wpX_beforeCall (fun r u' => wpY_beforeCall (fun r' v' => r' = r ∧ i_Rel (k + 4) u' v') v v1 v2) u v1 v2 := by
  refine sc_el (Q := fun u v => wpX_beforeCall (fun r u' => wpY_beforeCall (fun r' v' => r' = r ∧ i_Rel (k + 4) u' v') v v1 v2) u v1 v2) I ?_
  intro d us B F S L T ap ac tn rp rs rc rt sl ga yac yat ys yrc yrt ce ya hp ha hr
  have J := sc_mk (k := k + 4) (T := T) hp ha hr
  cases d with
  | zero => exact br_t rfl (br_t rfl ⟨rfl, J⟩)
  | succ e =>
    obtain ⟨he, hus, hu16, hF, hL, hF16⟩ := sc_top hp
    by_cases n1 : v2 < 0
    · exact br_f (sc_n0 he) ⟨sc_hi he, nm_e (br_t n1 (br_f (sc_n0 he) (nm_e (br_t n1 ⟨rfl, J⟩))))⟩
    by_cases n2 : 4 < v2
    · exact br_f (sc_n0 he) ⟨sc_hi he, nm_e (br_f n1 (br_t n2 (br_f (sc_n0 he) (nm_e (br_f n1 (br_t n2 ⟨rfl, J⟩))))))⟩
    obtain ⟨a, ha4, rfl⟩ := nI_of2 (M := 4) (n := 4) (by decide) n1 (Int32.not_lt.mp n2)
    by_cases n3 : F e + a ≤ us
    · refine sc_xbc he ha4 n3 hu16 fun s g h1 h2 => sc_ybc he ha4 (by omega) (by omega) fun g' h3 => ⟨?_, ?_⟩
      · rw [pk_sub (by omega)]
        exact congrArg nI (by omega)
      · have hp' := sc_pShr (s := S e - a) (sl' := s) hp (by omega) (by omega) (fun j hj => h1 j (by omega))
        rw [show B e + (S e - a) = us - a by omega] at hp'
        refine sc_mk hp' (Or.inr ⟨a, ha4, rfl, rfl, rfl, rfl, fun i hi => ?_⟩) sc_R0
        rw [h2 i hi, h3 i hi, sc_cell hp (by omega) (by omega)]
        exact congrArg sl (by omega)
    · exact sc_xbcE he ha4 (by omega) hu16 (by omega) (sc_ybcE he ha4 hL (by omega) (by omega) ⟨rfl, J⟩)
theorem i_vc_enter {k : Nat} {u : SX} {v : SY} (I : i_Rel k u v) (hk : k + 4 ≤ 2048) (v1 : Int32) (v2 : Int32) : wpX_enter (fun r u' => wpY_enter (fun r' v' => r' = r ∧ i_Rel (k + 4) u' v') v v1 v2) u v1 v2 := by
  refine sc_el (Q := fun u v => wpX_enter (fun r u' => wpY_enter (fun r' v' => r' = r ∧ i_Rel (k + 4) u' v') v v1 v2) u v1 v2) I ?_
  intro d us B F S L T ap ac tn rp rs rc rt sl ga yac yat ys yrc yrt ce ya hp ha hr
  have J := sc_mk (k := k + 4) (T := T) hp ha hr
  have hd4 : d ≤ 4 := hp.1
  have hsm : us = sc_sm S d := hp.2.1
  have hu16 : us ≤ 16 := hp.2.2.1
  by_cases n1 : v2 < 0
  · exact br_t n1 (br_t n1 ⟨rfl, J⟩)
  by_cases n2 : v2 ≤ 8
  rotate_left
  · exact br_f n1 (br_f n2 (br_f n1 (br_f n2 ⟨rfl, J⟩)))
  obtain ⟨M, hM, rfl⟩ := nI_of2 (M := 8) (n := 8) (by decide) n1 n2
  by_cases hd : d < 4
  rotate_left
  · obtain rfl : d = 4 := by omega
    exact br_f n1 (br_t n2 (br_f (by decide) (br_f n1 (br_t n2 (br_t rfl ⟨rfl, J⟩)))))
  by_cases hu : us + M < 16
  rotate_left
  · have x1 : ¬ nI us + nI M < 16 := by
      rw [nI_add]
      exact nI_nlt (b := 16) (by omega) (by omega)
    have y1 : ¬ nI (sc_sm S d) + nI M < 16 := by
      rw [← hsm]
      exact x1
    exact br_f n1 (br_t n2 (br_t (nI_lt (b := 4) hd (by decide)) (br_f x1 (br_f n1 (br_t n2 (br_f (sc_n4 hd) (sc_yused hd4 (br_f y1 ⟨rfl, J⟩))))))))
  have hu' : sc_sm S d + M < 16 := by omega
  rcases ha with ⟨a1, a2⟩ | ⟨m, hm4, a1, a2, a3, a4, a5⟩
  · subst a1
    subst a2
    exact sc_xen0 hd hM hu (fun q => absurd rfl q) fun s g h1 h2 => sc_yen0 hd hM hu' (fun q => absurd (by decide) q) fun s' h3 h4 => ⟨rfl, sc_mk (sc_pEnt hp hd hu h1 h3 fun i hi => by rw [h4 i hi, h2 i hi]) sc_A0 sc_R0⟩
  · subst a1
    subst a2
    subst a3
    subst a4
    by_cases ht : yat.toInt16.toInt32 = v1.toInt16.toInt32
    · by_cases hm : m ≤ M
      · refine sc_xen1 hd hM hu (by decide) ht hm hm4 fun s g h1 h2 => sc_yen1 hd hM hu' hm hm4 ((sc_tok v1 yat).mpr ht) fun s' h3 h4 => ⟨rfl, sc_mk (sc_pEnt hp hd hu h1 h3 fun i hi => ?_) sc_A0 sc_R0⟩
        rw [h4 i hi, h2 i hi]
        by_cases z : i < m
        · rw [if_pos z, if_pos z, a5 i z]
        · rw [if_neg z, if_neg z]
      · have lt : nI M < nI m := nI_lt (by omega) (by omega)
        exact sc_xen0 hd hM hu (fun _ _ => lt) fun s g h1 h2 => sc_yen0 hd hM hu' (fun _ q => absurd lt q) fun s' h3 h4 => ⟨rfl, sc_mk (sc_pEnt hp hd hu h1 h3 fun i hi => by rw [h4 i hi, h2 i hi]) sc_A0 sc_R0⟩
    · exact sc_xen0 hd hM hu (fun _ q => absurd q ht) fun s g h1 h2 => sc_yen0 hd hM hu' (fun _ _ q => ht ((sc_tok v1 yat).mp q)) fun s' h3 h4 => ⟨rfl, sc_mk (sc_pEnt hp hd hu h1 h3 fun i hi => by rw [h4 i hi, h2 i hi]) sc_A0 sc_R0⟩
theorem i_vc_exitReturn {k : Nat} {u : SX} {v : SY} (I : i_Rel k u v) (hk : k + 4 ≤ 2048) (v1 : Int32) : wpX_exitReturn (fun r u' => wpY_exitReturn (fun r' v' => r' = r ∧ i_Rel (k + 4) u' v') v v1) u v1 := by
  refine sc_el (Q := fun u v => wpX_exitReturn (fun r u' => wpY_exitReturn (fun r' v' => r' = r ∧ i_Rel (k + 4) u' v') v v1) u v1) I ?_
  intro d us B F S L T ap ac tn rp rs rc rt sl ga yac yat ys yrc yrt ce ya hp ha hr
  have J := sc_mk (k := k + 4) (T := T) hp ha hr
  cases d with
  | zero => exact br_t rfl (br_t rfl ⟨rfl, J⟩)
  | succ e =>
    obtain ⟨he, hus, hu16, hF, hL, hF16⟩ := sc_top hp
    by_cases n1 : v1 < 0
    · exact br_f (sc_n0 he) ⟨sc_hi he, nm_e (br_t n1 (br_f (sc_n0 he) (nm_e (br_t n1 ⟨rfl, J⟩))))⟩
    by_cases n2 : 2 < v1
    · exact br_f (sc_n0 he) ⟨sc_hi he, nm_e (br_f n1 (br_t n2 (br_f (sc_n0 he) (nm_e (br_f n1 (br_t n2 ⟨rfl, J⟩))))))⟩
    obtain ⟨c, hc, rfl⟩ := nI_of2 (M := 2) (n := 2) (by decide) n1 (Int32.not_lt.mp n2)
    by_cases n3 : F e + c ≤ us
    · obtain ⟨w, hw⟩ : ∃ w : Int64, w = if c = 0 then 0 else sl (us - c) := ⟨_, rfl⟩
      have hw' : w = if c = 0 then 0 else ce (e * 16 + (S e - c)) := by
        rw [hw]
        by_cases z : c = 0
        · rw [if_pos z, if_pos z]
        · rw [if_neg z, if_neg z, sc_cell hp (by omega) (by omega)]
          exact congrArg sl (by omega)
      refine sc_xex he hc n3 (by omega) hu16 w hw fun s g h1 => ?_
      have K : i_Rel (k + 4) (sc_X e (B e) 0 0 0 1 w (nI c) (T e).toInt16.toInt32 s B F T g) (sc_Y e (-1) yat w (nI c) (T e).toInt16.toInt32 ce S L T ya) := sc_mk (sc_pPop1 hp h1) sc_A0 (Or.inr ⟨rfl, rfl, rfl, (sc_short (T e)).symm⟩)
      exact br_c (fun z => sc_yex he hc (by omega) (by omega) w hw' (br_t z ⟨rfl, K⟩)) fun z => sc_yex he hc (by omega) (by omega) w hw' (br_f z ⟨rfl, K⟩)
    · exact sc_xexE he hc (by omega) hu16 (by omega) (sc_yexE he hc hL (by omega) (by omega) ⟨rfl, J⟩)
theorem i_vc_afterCall {k : Nat} {u : SX} {v : SY} (I : i_Rel k u v) (hk : k + 4 ≤ 2048) (v1 : Int32) (v2 : Int32) : wpX_afterCall (fun r u' => wpY_afterCall (fun r' v' => r' = r ∧ i_Rel (k + 4) u' v') v v1 v2) u v1 v2 := by
  refine sc_el (Q := fun u v => wpX_afterCall (fun r u' => wpY_afterCall (fun r' v' => r' = r ∧ i_Rel (k + 4) u' v') v v1 v2) u v1 v2) I ?_
  intro d us B F S L T ap ac tn rp rs rc rt sl ga yac yat ys yrc yrt ce ya hp ha hr
  have J := sc_mk (k := k + 4) (T := T) hp ha hr
  cases d with
  | zero => exact br_t rfl (br_t rfl ⟨rfl, J⟩)
  | succ e =>
    obtain ⟨he, hus, hu16, hF, hL, hF16⟩ := sc_top hp
    have hsm : us = sc_sm S (e + 1) := hp.2.1
    by_cases n1 : v2 < 0
    · exact br_f (sc_n0 he) (br_t n1 (br_f (sc_n0 he) (br_t n1 ⟨rfl, J⟩)))
    by_cases n2 : v2 ≤ 2
    rotate_left
    · exact br_f (sc_n0 he) (br_f n1 (br_f n2 (br_f (sc_n0 he) (br_f n1 (br_f n2 ⟨rfl, J⟩)))))
    obtain ⟨c, hc, rfl⟩ := nI_of2 (M := 2) (n := 2) (by decide) n1 n2
    by_cases hu : us + c ≤ 16
    rotate_left
    · have x1 : ¬ nI us + nI c ≤ 16 := by
        rw [nI_add]
        exact nI_ge (a := 16) (by omega) (by omega)
      have y1 : ¬ nI (sc_sm S (e + 1)) + nI c ≤ 16 := by
        rw [← hsm]
        exact x1
      exact br_f (sc_n0 he) (br_f n1 (br_t n2 (br_f x1 (br_f (sc_n0 he) (br_f n1 (br_t n2 (sc_yused (by omega) (br_f y1 ⟨rfl, J⟩))))))))
    have main : ∀ (z : Int32) (w : Int64), ((z = 1 ∧ ¬ rp = 0 ∧ rc = nI c ∧ rt = v1.toInt16.toInt32) ∨ (z = 0 ∧ (¬ rp = 0 → rc = nI c → ¬ rt = v1.toInt16.toInt32))) → ((z = 1 ∧ yrc = nI c ∧ ((v1 ^^^ yrt) &&& 65535) = 0) ∨ (z = 0 ∧ (yrc = nI c → ¬ ((v1 ^^^ yrt) &&& 65535) = 0))) → (z = 0 → w = 0) → (¬ z = 0 → w = rs) → (¬ z = 0 → w = ys) → wpX_afterCall (fun r u' => wpY_afterCall (fun r' v' => r' = r ∧ i_Rel (k + 4) u' v') (sc_Y (e + 1) yac yat ys yrc yrt ce S L T ya) v1 (nI c)) (sc_X (e + 1) us ap ac tn rp rs rc rt sl B F T ga) v1 (nI c) := by
      intro z w hx hy h0 h1 h2
      refine sc_xac he hc hu z hx w h0 h1 fun g => ?_
      have K : i_Rel (k + 4) (sc_X (e + 1) (us + c) 0 0 0 0 0 0 0 (sc_ac sl us w c) B F T g) (sc_Y (e + 1) (-1) yat ys (-1) yrt (sc_acC ce S e w c) (sc_acS S e c) L T ya) := sc_mk (sc_pAc w hp hc hu) sc_A0 sc_R0
      exact br_c (fun q => sc_yac he hc (by omega) (by omega) z hy w h0 h2 (br_t q ⟨rfl, K⟩)) fun q => sc_yac he hc (by omega) (by omega) z hy w h0 h2 (br_f q ⟨rfl, K⟩)
    rcases hr with ⟨r1, r2⟩ | ⟨r1, r2, r3, r4⟩
    · refine main 0 0 (Or.inr ⟨rfl, fun q => absurd r1 q⟩) (Or.inr ⟨rfl, fun q => absurd q ?_⟩) (fun _ => rfl) (fun q => absurd rfl q) (fun q => absurd rfl q)
      rw [r2]
      have hc3 : c = 0 ∨ c = 1 ∨ c = 2 := by omega
      rcases hc3 with z | z | z <;> subst z <;> decide
    · have r1' : ¬ rp = 0 := by
        rw [r1]
        decide
      by_cases q1 : yrc = nI c
      · by_cases q2 : yrt.toInt16.toInt32 = v1.toInt16.toInt32
        · exact main 1 ys (Or.inl ⟨rfl, r1', r2.trans q1, r4.trans q2⟩) (Or.inl ⟨rfl, q1, (sc_tok v1 yrt).mpr q2⟩) (fun q => absurd q (by decide)) (fun _ => r3.symm) (fun _ => rfl)
        · exact main 0 0 (Or.inr ⟨rfl, fun _ _ q => q2 (r4.symm.trans q)⟩) (Or.inr ⟨rfl, fun _ q => q2 ((sc_tok v1 yrt).mp q)⟩) (fun _ => rfl) (fun q => absurd rfl q) (fun q => absurd rfl q)
      · exact main 0 0 (Or.inr ⟨rfl, fun _ q => absurd (r2.symm.trans q) q1⟩) (Or.inr ⟨rfl, fun q => absurd q q1⟩) (fun _ => rfl) (fun q => absurd rfl q) (fun q => absurd rfl q)
theorem i_vc_unwindTo {k : Nat} {u : SX} {v : SY} (I : i_Rel k u v) (hk : k + 4 ≤ 2048) (v1 : Int32) (a1 : Int64) : wpX_unwindTo (fun r u' => wpY_unwindTo (fun r' v' => r' = r ∧ i_Rel (k + 4) u' v') v v1 a1) u v1 a1 := by
  refine sc_el (Q := fun u v => wpX_unwindTo (fun r u' => wpY_unwindTo (fun r' v' => r' = r ∧ i_Rel (k + 4) u' v') v v1 a1) u v1 a1) I ?_
  intro d us B F S L T ap ac tn rp rs rc rt sl ga yac yat ys yrc yrt ce ya hp ha hr
  have J := sc_mk (k := k + 4) (T := T) hp ha hr
  have hd4 : d ≤ 4 := hp.1
  have hu16 : us ≤ 16 := hp.2.2.1
  by_cases n1 : v1 < 0
  · exact br_t n1 (br_t n1 ⟨rfl, J⟩)
  obtain ⟨t, ht, rfl⟩ := nI_of n1
  by_cases n2 : t ≤ d
  rotate_left
  · have x1 : ¬ nI t ≤ nI d := nI_ge (by omega) ht
    exact br_f n1 (br_f x1 (br_f n1 (br_f x1 ⟨rfl, J⟩)))
  cases t with
  | zero => exact sc_xun0 hd4 hu16 fun s g => sc_yun0 hd4 ⟨rfl, sc_mk (sc_pPop (d' := 0) (sl' := s) hp (by omega) (fun j hj => absurd hj (Nat.not_lt_zero j))) sc_A0 sc_R0⟩
  | succ e =>
    have hf := sc_fr hp (show e < d from n2)
    exact sc_xun1 hd4 n2 hu16 (by omega) (by omega) fun s g h1 => sc_yun1 hd4 n2 (by omega) ⟨rfl, sc_mk (sc_pUnw a1 hp n2 h1) sc_A0 sc_R0⟩
theorem i_vc_depth {k : Nat} {u : SX} {v : SY} (I : i_Rel k u v) (hk : k + 4 ≤ 2048) : wpX_depth (fun r => wpY_depth (fun r' => r' = r ∧ i_Rel (k + 4) u v) v) u := by
  refine sc_el (Q := fun u v => wpX_depth (fun r => wpY_depth (fun r' => r' = r ∧ i_Rel (k + 4) u v) v) u) I ?_
  intro d us B F S L T ap ac tn rp rs rc rt sl ga yac yat ys yrc yrt ce ya hp ha hr
  exact And.intro rfl (sc_mk (k := k + 4) (T := T) hp ha hr)
theorem i_vc_shadowAt {k : Nat} {u : SX} {v : SY} (I : i_Rel k u v) (hk : k + 4 ≤ 2048) (v1 : Int32) (v2 : Int32) : wpX_shadowAt (fun r => wpY_shadowAt (fun r' => r' = r ∧ i_Rel (k + 4) u v) v v1 v2) u v1 v2 := by
  refine sc_el (Q := fun u v => wpX_shadowAt (fun r => wpY_shadowAt (fun r' => r' = r ∧ i_Rel (k + 4) u v) v v1 v2) u v1 v2) I ?_
  intro d us B F S L T ap ac tn rp rs rc rt sl ga yac yat ys yrc yrt ce ya hp ha hr
  have J := sc_mk (k := k + 4) (T := T) hp ha hr
  have hd4 : d ≤ 4 := hp.1
  have hu16 : us ≤ 16 := hp.2.2.1
  by_cases n1 : v1 < 0
  · exact br_t n1 (br_t n1 ⟨rfl, J⟩)
  obtain ⟨f, hf31, rfl⟩ := nI_of n1
  by_cases n2 : f < d
  rotate_left
  · have x1 : nI d ≤ nI f := nI_le (by omega) hf31
    exact br_f n1 (br_t x1 (br_f n1 (br_t x1 ⟨rfl, J⟩)))
  by_cases n3 : v2 < 0
  · have x1 : ¬ nI d ≤ nI f := nI_ge n2 (by omega)
    exact br_f n1 (br_f x1 (br_f (Int32.not_le.mpr n3) (br_f n1 (br_f x1 (br_t n3 ⟨rfl, J⟩)))))
  obtain ⟨i, hi31, rfl⟩ := nI_of n3
  have hf := sc_fr hp n2
  have he := sc_end hp n2
  refine sc_xsh (S := S) hd4 n2 hi31 (by omega) he.1 he.2 (sc_ysh hd4 n2 hi31 (by omega) ⟨?_, J⟩)
  by_cases z : i < S f
  · rw [if_pos z, if_pos z, sc_cell hp n2 z]
  · rw [if_neg z, if_neg z]
end
