section
/-! sets of columns as numbers below 64 -/
/-- a without b -/
def dq_mi (a b : Nat) : Nat := a &&& (63 ^^^ b)
/-- a within b -/
def dq_su (a b : Nat) : Prop := ∀ c, a.testBit c = true → b.testBit c = true
theorem dq_big {a c : Nat} (ha : a < 64) (hc : 6 ≤ c) : a.testBit c = false := by
  apply Nat.testBit_lt_two_pow
  have h : (2 : Nat) ^ 6 ≤ 2 ^ c := Nat.pow_le_pow_right (by omega) hc
  have e : (2 : Nat) ^ 6 = 64 := by decide
  omega
theorem dq_col {a c : Nat} (ha : a < 64) (h : a.testBit c = true) : c < 6 := by
  rcases Nat.lt_or_ge c 6 with g | g
  · exact g
  · rw [dq_big ha g] at h
    exact absurd h (by decide)
theorem dq_63 (c : Nat) : (63 : Nat).testBit c = decide (c < 6) := Nat.testBit_two_pow_sub_one 6 c
theorem dq_pw (c d : Nat) : (2 ^ c).testBit d = decide (c = d) := Nat.testBit_two_pow
theorem dq_pw_lt {c : Nat} (h : c < 6) : 2 ^ c < 64 := by
  have h1 : (2 : Nat) ^ c < 2 ^ 6 := Nat.pow_lt_pow_right (by omega) h
  have e : (2 : Nat) ^ 6 = 64 := by decide
  omega
theorem dq_and_lt {a : Nat} (b : Nat) (ha : a < 64) : a &&& b < 64 := Nat.lt_of_le_of_lt Nat.and_le_left ha
theorem dq_or_lt {a b : Nat} (ha : a < 64) (hb : b < 64) : a ||| b < 64 := Nat.or_lt_two_pow (n := 6) ha hb
theorem dq_mi_lt {a : Nat} (b : Nat) (ha : a < 64) : dq_mi a b < 64 := dq_and_lt _ ha
theorem dq_mi_bit {a : Nat} (b c : Nat) (ha : a < 64) : (dq_mi a b).testBit c = (a.testBit c && !b.testBit c) := by
  unfold dq_mi
  rw [Nat.testBit_and, Nat.testBit_xor, dq_63]
  rcases Nat.lt_or_ge c 6 with g | g
  · rw [decide_eq_true g]
    cases a.testBit c <;> cases b.testBit c <;> rfl
  · rw [dq_big ha g]
    rfl
theorem dq_ext {a b : Nat} (ha : a < 64) (hb : b < 64) (h : ∀ c, c < 6 → (a.testBit c = true ↔ b.testBit c = true)) : a = b := by
  apply Nat.eq_of_testBit_eq
  intro c
  rcases Nat.lt_or_ge c 6 with g | g
  · have h1 := h c g
    cases ea : a.testBit c <;> cases eb : b.testBit c
    · rfl
    · rw [ea, eb] at h1
      exact absurd (h1.mpr rfl) (by decide)
    · rw [ea, eb] at h1
      exact absurd (h1.mp rfl) (by decide)
    · rfl
  · rw [dq_big ha g, dq_big hb g]
theorem dq_eq {a b : Nat} (h : dq_su a b) (h2 : dq_su b a) : a = b := by
  apply Nat.eq_of_testBit_eq
  intro c
  cases ea : a.testBit c <;> cases eb : b.testBit c
  · rfl
  · exact absurd (h2 c eb) (by rw [ea]; decide)
  · exact absurd (h c ea) (by rw [eb]; decide)
  · rfl
theorem dq_su_r (a : Nat) : dq_su a a := fun _ h => h
theorem dq_su_t {a b c : Nat} (h : dq_su a b) (h2 : dq_su b c) : dq_su a c := fun d hd => h2 d (h d hd)
theorem dq_or_l (a b : Nat) : dq_su a (a ||| b) := fun c h => by rw [Nat.testBit_or, h]; rfl
theorem dq_or_r (a b : Nat) : dq_su b (a ||| b) := fun c h => by rw [Nat.testBit_or, h, Bool.or_true]
theorem dq_or_su {a b c : Nat} (h : dq_su a c) (h2 : dq_su b c) : dq_su (a ||| b) c := fun d hd => by
  rw [Nat.testBit_or, Bool.or_eq_true] at hd
  exact hd.elim (h d) (h2 d)
theorem dq_or_i {a b : Nat} (c : Nat) : (a ||| b).testBit c = true ↔ (a.testBit c = true ∨ b.testBit c = true) := by
  rw [Nat.testBit_or, Bool.or_eq_true]
theorem dq_and_i {a b : Nat} (c : Nat) : (a &&& b).testBit c = true ↔ (a.testBit c = true ∧ b.testBit c = true) := by
  rw [Nat.testBit_and, Bool.and_eq_true]
theorem dq_nf {b : Bool} : b = false ↔ ¬ b = true := by cases b <;> decide
theorem dq_mi_i {a : Nat} (b c : Nat) (ha : a < 64) : (dq_mi a b).testBit c = true ↔ (a.testBit c = true ∧ ¬ b.testBit c = true) := by
  rw [dq_mi_bit b c ha, Bool.and_eq_true, Bool.not_eq_true', dq_nf]
theorem dq_pw_i (c d : Nat) : (2 ^ c).testBit d = true ↔ c = d := by
  rw [dq_pw, decide_eq_true_iff]
theorem dq_63_i (c : Nat) : (63 : Nat).testBit c = true ↔ c < 6 := by
  rw [dq_63, decide_eq_true_iff]
theorem dq_0_i (c : Nat) : ¬ (0 : Nat).testBit c = true := by
  rw [Nat.zero_testBit]
  decide
theorem dq_su63 {a : Nat} (ha : a < 64) : dq_su a 63 := fun c h => (dq_63_i c).mpr (dq_col ha h)
theorem dq_mi0 {a b : Nat} (ha : a < 64) : dq_mi a b = 0 ↔ dq_su a b := by
  constructor
  · intro h c hc
    by_cases e : b.testBit c = true
    · exact e
    · have g := (dq_mi_i b c ha).mpr ⟨hc, e⟩
      rw [h] at g
      exact absurd g (dq_0_i c)
  · intro h
    apply dq_eq
    · intro c hc
      have g := (dq_mi_i b c ha).mp hc
      exact absurd (h c g.1) g.2
    · intro c hc
      exact absurd hc (dq_0_i c)
theorem dq_and0 {a b : Nat} : a &&& b = 0 ↔ ∀ c, a.testBit c = true → ¬ b.testBit c = true := by
  constructor
  · intro h c h1 h2
    have g := (dq_and_i (a := a) (b := b) c).mpr ⟨h1, h2⟩
    rw [h] at g
    exact dq_0_i c g
  · intro h
    apply dq_eq
    · intro c hc
      have g := (dq_and_i c).mp hc
      exact absurd g.2 (h c g.1)
    · intro c hc
      exact absurd hc (dq_0_i c)
theorem dq_andE {a b : Nat} : a &&& b = a ↔ dq_su a b := by
  constructor
  · intro h c hc
    rw [← h] at hc
    exact ((dq_and_i c).mp hc).2
  · intro h
    apply dq_eq
    · intro c hc
      exact ((dq_and_i c).mp hc).1
    · intro c hc
      exact (dq_and_i c).mpr ⟨hc, h c hc⟩
theorem dq_ne0 {a : Nat} (h : a ≠ 0) : ∃ c, a.testBit c = true := Nat.exists_testBit_of_ne_zero h
theorem dq_not0 {a c : Nat} (h : a.testBit c = true) : a ≠ 0 := fun e => by
  rw [e] at h
  exact dq_0_i c h
/-- the set of the columns below n with P -/
noncomputable def dq_mk (P : Nat → Prop) : Nat → Nat
  | 0 => 0
  | n + 1 => dq_mk P n ||| @ite Nat (P n) (Classical.propDecidable _) (2 ^ n) 0
theorem dq_mk_i (P : Nat → Prop) (n c : Nat) : (dq_mk P n).testBit c = true ↔ (c < n ∧ P c) := by
  induction n with
  | zero => exact ⟨fun h => absurd h (dq_0_i c), fun h => absurd h.1 (by omega)⟩
  | succ n ih =>
    unfold dq_mk
    rw [dq_or_i, ih]
    by_cases e : P n
    · rw [if_pos e, dq_pw_i]
      constructor
      · intro h
        rcases h with h | h
        · exact ⟨by omega, h.2⟩
        · subst h
          exact ⟨by omega, e⟩
      · intro h
        by_cases g : c < n
        · exact .inl ⟨g, h.2⟩
        · exact .inr (by omega)
    · rw [if_neg e]
      constructor
      · intro h
        rcases h with h | h
        · exact ⟨by omega, h.2⟩
        · exact absurd h (dq_0_i c)
      · intro h
        by_cases g : c < n
        · exact .inl ⟨g, h.2⟩
        · have e2 : c = n := by omega
          rw [e2] at h
          exact absurd h.2 e
theorem dq_mk_lt (P : Nat → Prop) : dq_mk P 6 < 64 := by
  apply Nat.lt_pow_two_of_testBit (n := 6)
  intro i hi
  apply dq_nf.mpr
  intro h
  have g := (dq_mk_i P 6 i).mp h
  omega
/-! the same in Int32 -/
theorem dq_and (a b : Nat) : nI a &&& nI b = nI (a &&& b) := by
  apply Int32.toBitVec_inj.1
  show BitVec.ofNat 32 a &&& BitVec.ofNat 32 b = BitVec.ofNat 32 (a &&& b)
  apply BitVec.eq_of_getLsbD_eq
  intro i hi
  simp [hi]
theorem dq_or (a b : Nat) : nI a ||| nI b = nI (a ||| b) := by
  apply Int32.toBitVec_inj.1
  show BitVec.ofNat 32 a ||| BitVec.ofNat 32 b = BitVec.ofNat 32 (a ||| b)
  apply BitVec.eq_of_getLsbD_eq
  intro i hi
  simp [hi]
theorem dq_xor (a b : Nat) : nI a ^^^ nI b = nI (a ^^^ b) := by
  apply Int32.toBitVec_inj.1
  show BitVec.ofNat 32 a ^^^ BitVec.ofNat 32 b = BitVec.ofNat 32 (a ^^^ b)
  apply BitVec.eq_of_getLsbD_eq
  intro i hi
  simp [hi]
theorem dq_s : ∀ n, n < 32 → ((nI n &&& 31).toBitVec.smod 32).toNat = n := by decide +kernel
theorem dq_m1 : (-1 : Int32) = nI 4294967295 := by decide +kernel
theorem dq_not {a b : Nat} (ha : a < 64) (hb : b < 64) : nI a &&& (nI b ^^^ (-1)) = nI (dq_mi a b) := by
  rw [dq_m1, dq_xor, dq_and]
  congr 1
  unfold dq_mi
  apply Nat.eq_of_testBit_eq
  intro c
  rw [Nat.testBit_and, Nat.testBit_and, Nat.testBit_xor, Nat.testBit_xor, dq_63, show (4294967295 : Nat) = 2 ^ 32 - 1 from rfl, Nat.testBit_two_pow_sub_one]
  rcases Nat.lt_or_ge c 6 with g | g
  · rw [decide_eq_true g, decide_eq_true (show c < 32 by omega), Bool.xor_comm]
  · rw [dq_big ha g]
    rfl
theorem dq_shl : ∀ c, c < 31 → (1 : Int32) <<< (nI c &&& 31) = nI (2 ^ c) := by decide +kernel
theorem dq_bit {m c : Nat} (hm : m < 2 ^ 31) (hc : c < 32) : (nI m >>> (nI c &&& 31)) &&& 1 = nI (m / 2 ^ c % 2) := by
  rw [pk_shrN hm _ c (dq_s c hc)]
  show nI (m / 2 ^ c) &&& nI 1 = _
  rw [dq_and, Nat.and_one_is_mod]
theorem dq_b1 {m c : Nat} (hm : m < 2 ^ 31) (hc : c < 32) : ((nI m >>> (nI c &&& 31)) &&& 1) = 1 ↔ m.testBit c = true := by
  rw [dq_bit hm hc, show (1 : Int32) = nI 1 from rfl, nI_eq (by omega) (by omega), Nat.testBit_eq_decide_div_mod_eq, decide_eq_true_iff]
theorem dq_b0 {m c : Nat} (hm : m < 2 ^ 31) (hc : c < 32) : ((nI m >>> (nI c &&& 31)) &&& 1) = 0 ↔ ¬ m.testBit c = true := by
  rw [dq_bit hm hc, show (0 : Int32) = nI 0 from rfl, nI_eq (by omega) (by omega), Nat.testBit_eq_decide_div_mod_eq, decide_eq_true_iff]
  generalize m / 2 ^ c = z
  omega
/-- a column asked for: (x >> c & 1) == 1 -/
theorem dq_if1 {A B : Prop} {x y : Int32} (m c : Nat) (f : m.testBit c = true → A) (g : ¬ m.testBit c = true → B) (hx : x = nI m := by rfl) (hy : y = nI c := by rfl) (hm : m < 2 ^ 31 := by omega) (hc : c < 32 := by omega) :
    (((x >>> (y &&& 31)) &&& 1) = 1 → A) ∧ (¬ ((x >>> (y &&& 31)) &&& 1) = 1 → B) := by
  subst hx hy
  exact ek_if (dq_b1 hm hc) f g
/-- a column asked for: (x >> c & 1) == 0 -/
theorem dq_if0 {A B : Prop} {x y : Int32} (m c : Nat) (f : ¬ m.testBit c = true → A) (g : m.testBit c = true → B) (hx : x = nI m := by rfl) (hy : y = nI c := by rfl) (hm : m < 2 ^ 31 := by omega) (hc : c < 32 := by omega) :
    (((x >>> (y &&& 31)) &&& 1) = 0 → A) ∧ (¬ ((x >>> (y &&& 31)) &&& 1) = 0 → B) := by
  subst hx hy
  exact ek_if (dq_b0 hm hc) f (fun h => g (Decidable.byContradiction h))
/-- a value that is 0 or not -/
theorem dq_if00 {A B : Prop} {x : Int32} (m : Nat) (f : m = 0 → A) (g : m ≠ 0 → B) (hx : x = nI m := by rfl) (hm : m < 2 ^ 31 := by omega) : (x = 0 → A) ∧ (¬ x = 0 → B) := pk_eq m 0 f g hx rfl hm (by omega)
theorem dq_within {post : Int32 → Prop} {u : St1} {a b : Nat} (ha : a < 64) (hb : b < 64) (h1 : dq_su a b → post 1) (h0 : ¬ dq_su a b → post 0) : wpX_within post u (nI a) (nI b) := by
  unfold wpX_within
  obtain ⟨c0, cg, bk, sd, sc, kc, pc, ro, a1, a2, a3, a4, a5, a6, a7, a8, a9, a10, a11, a12, a13, a14⟩ := u
  dsimp only
  rw [dq_not ha hb]
  have l := dq_mi_lt b ha
  exact dq_if00 (dq_mi a b) (fun h => h1 ((dq_mi0 ha).mp h)) (fun h => h0 (fun g => h ((dq_mi0 ha).mpr g)))
theorem dq_badSet {post : Int32 → Prop} {u : St1} {a : Nat} (ha : a < 64) (h : post 0) : wpX_badSet post u (nI a) := by
  unfold wpX_badSet
  obtain ⟨c0, cg, bk, sd, sc, kc, pc, ro, a1, a2, a3, a4, a5, a6, a7, a8, a9, a10, a11, a12, a13, a14⟩ := u
  dsimp only
  exact br_f (nI_pos (by omega)) (br_t (nI_le (b := 63) (by omega) (by decide)) h)
theorem dq_nb0 : narrow .boolean (.int 0) = .int 0 := rfl
theorem dq_nb1 : narrow .boolean (.int 1) = .int 1 := rfl
end
section
/-! what follows: plain law over a relation D (v ->> w) and the determined columns T -/
/-- no dependency parts q -/
def dq_un (D : Nat → Nat → Prop) (q : Nat) : Prop := ∀ v w, D v w → q &&& v = 0 → q &&& w = 0 ∨ q &&& w = q
/-- column c follows from x -/
def dq_CL (D : Nat → Nat → Prop) (T : Nat → Prop) (x c : Nat) : Prop := x.testBit c = true ∨ (T c ∧ ∀ q, q < 64 → dq_un D q → q &&& x = 0 → q.testBit c = true → q = 2 ^ c)
noncomputable def dq_cl (D : Nat → Nat → Prop) (T : Nat → Prop) (x : Nat) : Nat := dq_mk (dq_CL D T x) 6
theorem dq_cl_lt (D : Nat → Nat → Prop) (T : Nat → Prop) (x : Nat) : dq_cl D T x < 64 := dq_mk_lt _
theorem dq_cl_i (D : Nat → Nat → Prop) (T : Nat → Prop) (x c : Nat) : (dq_cl D T x).testBit c = true ↔ (c < 6 ∧ dq_CL D T x c) := dq_mk_i _ 6 c
theorem dq_cl_ext {D : Nat → Nat → Prop} {T : Nat → Prop} {x : Nat} (hx : x < 64) : dq_su x (dq_cl D T x) := fun c h => (dq_cl_i D T x c).mpr ⟨dq_col hx h, .inl h⟩
theorem dq_dis {q x y : Nat} (h : dq_su x y) (hq : q &&& y = 0) : q &&& x = 0 := dq_and0.mpr (fun c h1 h2 => dq_and0.mp hq c h1 (h c h2))
theorem dq_cl_mono {D : Nat → Nat → Prop} {T : Nat → Prop} {x y : Nat} (h : dq_su x y) : dq_su (dq_cl D T x) (dq_cl D T y) := by
  intro c hc
  obtain ⟨h6, hC⟩ := (dq_cl_i D T x c).mp hc
  refine (dq_cl_i D T y c).mpr ⟨h6, ?_⟩
  rcases hC with g | ⟨g1, g2⟩
  · exact .inl (h c g)
  · exact .inr ⟨g1, fun q hq hu hy => g2 q hq hu (dq_dis h hy)⟩
/-- an unparted set that has not x but some of what follows is one column -/
theorem dq_one {D : Nat → Nat → Prop} {T : Nat → Prop} {x q d : Nat} (hq : q < 64) (hu : dq_un D q) (h0 : q &&& x = 0) (hd : q.testBit d = true) (h : (dq_cl D T x).testBit d = true) : q = 2 ^ d := by
  obtain ⟨h6, hC⟩ := (dq_cl_i D T x d).mp h
  rcases hC with g | ⟨g1, g2⟩
  · exact absurd g (dq_and0.mp h0 d hd)
  · exact g2 q hq hu h0 hd
theorem dq_cl_idem {D : Nat → Nat → Prop} {T : Nat → Prop} {x : Nat} (hx : x < 64) : dq_cl D T (dq_cl D T x) = dq_cl D T x := by
  apply dq_eq
  · intro c hc
    obtain ⟨h6, hC⟩ := (dq_cl_i D T _ c).mp hc
    rcases hC with g | ⟨g1, g2⟩
    · exact g
    · by_cases e : (dq_cl D T x).testBit c = true
      · exact e
      · refine (dq_cl_i D T x c).mpr ⟨h6, .inr ⟨g1, fun q hq hu h0 hqc => ?_⟩⟩
        refine g2 q hq hu ?_ hqc
        apply dq_and0.mpr
        intro d hd hd2
        have e1 := dq_one hq hu h0 hd hd2
        rw [e1, dq_pw_i] at hqc
        rw [hqc] at hd2
        exact e hd2
  · exact dq_cl_ext (dq_cl_lt D T x)
/-- a single dependency V -> W of D -/
def dq_FD (D : Nat → Nat → Prop) (T : Nat → Prop) (v w : Nat) : Prop := ∀ c, c < 6 → w.testBit c = true → D v (2 ^ c) ∧ (¬ v.testBit c = true → T c)
theorem dq_cl_fd {D : Nat → Nat → Prop} {T : Nat → Prop} {x v w : Nat} (hw : w < 64) (hf : dq_FD D T v w) (hv : dq_su v (dq_cl D T x)) : dq_su w (dq_cl D T x) := by
  intro c hc
  have h6 := dq_col hw hc
  obtain ⟨f1, f2⟩ := hf c h6 hc
  by_cases e : v.testBit c = true
  · exact hv c e
  · refine (dq_cl_i D T x c).mpr ⟨h6, .inr ⟨f2 e, fun q hq hu h0 hqc => ?_⟩⟩
    by_cases g : q &&& v = 0
    · rcases hu v (2 ^ c) f1 g with k | k
      · exact absurd ((dq_pw_i c c).mpr rfl) (dq_and0.mp k c hqc)
      · have k2 := dq_andE.mp k
        apply dq_eq k2
        intro d hd
        rw [dq_pw_i] at hd
        rw [← hd]
        exact hqc
    · obtain ⟨d, hd⟩ := dq_ne0 g
      obtain ⟨d1, d2⟩ := (dq_and_i d).mp hd
      have e1 := dq_one hq hu h0 d1 (hv d d2)
      rw [e1, dq_pw_i] at hqc
      rw [e1, hqc]
/-- all of D comes of single dependencies F, and C is closed under them: then C is closed -/
theorem dq_cl_fix {D : Nat → Nat → Prop} {T : Nat → Prop} {F : Nat → Nat → Prop} {C : Nat} (hC : C < 64)
    (hD : ∀ v w, D v w → ∃ w', F v w' ∧ dq_su w w') (hT : ∀ c, T c → ∃ v w, F v w ∧ v < 64 ∧ w.testBit c = true ∧ ¬ v.testBit c = true)
    (hF : ∀ v w, F v w → dq_su v C → dq_su w C) (hFl : ∀ v w, F v w → v < 64) : dq_cl D T C = C := by
  apply dq_eq
  · intro c hc
    obtain ⟨h6, hCC⟩ := (dq_cl_i D T C c).mp hc
    rcases hCC with g | ⟨g1, g2⟩
    · exact g
    · by_cases e : C.testBit c = true
      · exact e
      · have q1 : (dq_mi 63 C).testBit c = true := (dq_mi_i C c (by decide)).mpr ⟨(dq_63_i c).mpr h6, e⟩
        have hsub : ∀ v, v < 64 → dq_mi 63 C &&& v = 0 → dq_su v C := by
          intro v hv h0 d hd
          by_cases k : C.testBit d = true
          · exact k
          · exact absurd hd (dq_and0.mp h0 d ((dq_mi_i C d (by decide)).mpr ⟨(dq_63_i d).mpr (dq_col hv hd), k⟩))
        have q2 : dq_un D (dq_mi 63 C) := by
          intro v w hvw h0
          obtain ⟨w', f1, f2⟩ := hD v w hvw
          have k := hF v w' f1 (hsub v (hFl v w' f1) h0)
          refine .inl (dq_and0.mpr (fun d d1 d2 => ?_))
          exact ((dq_mi_i C d (by decide)).mp d1).2 (k d (f2 d d2))
        have q3 := g2 (dq_mi 63 C) (dq_mi_lt C (by decide)) q2 (dq_and0.mpr (fun d d1 d2 => ((dq_mi_i C d (by decide)).mp d1).2 d2)) q1
        obtain ⟨v, w, f1, f2, f3, f4⟩ := hT c g1
        have k := hF v w f1 (hsub v f2 (by
          rw [q3]
          apply dq_and0.mpr
          intro d d1 d2
          rw [dq_pw_i] at d1
          rw [← d1] at d2
          exact f4 d2))
        exact k c f3
  · exact dq_cl_ext hC
/-- all of D's blocks: y is made of whole ones -/
def dq_BU (D : Nat → Nat → Prop) (x y : Nat) : Prop := ∀ q, q < 64 → dq_un D q → q &&& x = 0 → q &&& y = 0 ∨ q &&& y = q
theorem dq_BU_fol {D : Nat → Nat → Prop} {T : Nat → Prop} {x y : Nat} (h : dq_su y (dq_cl D T x)) : dq_BU D x y := by
  intro q hq hu h0
  by_cases g : q &&& y = 0
  · exact .inl g
  · obtain ⟨d, hd⟩ := dq_ne0 g
    obtain ⟨d1, d2⟩ := (dq_and_i d).mp hd
    have e := dq_one hq hu h0 d1 (h d d2)
    refine .inr (dq_andE.mpr (fun c hc => ?_))
    rw [e, dq_pw_i] at hc
    rw [← hc]
    exact d2
theorem dq_BU_rest {D : Nat → Nat → Prop} {x z : Nat} (h : dq_BU D x z) : dq_BU D x (dq_mi 63 (x ||| z)) := by
  intro q hq hu h0
  rcases h q hq hu h0 with g | g
  · refine .inr (dq_andE.mpr (fun c hc => (dq_mi_i _ c (by decide)).mpr ⟨(dq_63_i c).mpr (dq_col hq hc), fun k => ?_⟩))
    rcases (dq_or_i c).mp k with k | k
    · exact dq_and0.mp h0 c hc k
    · exact dq_and0.mp g c hc k
  · refine .inl (dq_and0.mpr (fun c hc k => ((dq_mi_i _ c (by decide)).mp k).2 ((dq_or_i c).mpr (.inr (dq_andE.mp g c hc)))))
theorem dq_BU_rest' {D : Nat → Nat → Prop} {x z : Nat} (h : dq_BU D x (dq_mi 63 (x ||| z))) : dq_BU D x z := by
  intro q hq hu h0
  rcases h q hq hu h0 with g | g
  · refine .inr (dq_andE.mpr (fun c hc => ?_))
    by_cases k : z.testBit c = true
    · exact k
    · refine absurd ((dq_mi_i _ c (by decide)).mpr ⟨(dq_63_i c).mpr (dq_col hq hc), fun k2 => ?_⟩) (dq_and0.mp g c hc)
      rcases (dq_or_i c).mp k2 with k2 | k2
      · exact dq_and0.mp h0 c hc k2
      · exact k k2
  · refine .inl (dq_and0.mpr (fun c hc k => ((dq_mi_i _ c (by decide)).mp (dq_andE.mp g c hc)).2 ((dq_or_i c).mpr (.inr k))))
/-! the blocks while they are found -/
def dq_PV (D : Nat → Nat → Prop) (x m : Nat) (b : Nat → Nat) : Prop :=
  (∀ j, j < m → b j < 64 ∧ b j ≠ 0 ∧ b j &&& x = 0) ∧ (∀ i j, i < m → j < m → i ≠ j → b i &&& b j = 0) ∧
  (∀ c, c < 6 → ¬ x.testBit c = true → ∃ j, j < m ∧ (b j).testBit c = true) ∧
  (∀ q, q < 64 → dq_un D q → q &&& x = 0 → ∀ j, j < m → q &&& b j = 0 ∨ q &&& b j = q)
/-- pigeons -/
theorem dq_pig : ∀ (n m : Nat) (f : Nat → Nat), (∀ i, i < m → f i < n) → (∀ i j, i < m → j < m → f i = f j → i = j) → m ≤ n := by
  intro n
  induction n with
  | zero =>
    intro m f h1 _
    rcases Nat.eq_zero_or_pos m with g | g
    · omega
    · exact absurd (h1 0 g) (by omega)
  | succ n ih =>
    intro m f h1 h2
    by_cases e : ∃ i, i < m ∧ f i = n
    · obtain ⟨i, hi, ei⟩ := e
      -- the last one takes the place of i
      have key : m - 1 ≤ n := by
        apply ih (m - 1) (fun j => if j = i then f (m - 1) else f j)
        · intro j hj
          show (if j = i then f (m - 1) else f j) < n
          by_cases ej : j = i
          · rw [if_pos ej]
            have a1 := h1 (m - 1) (by omega)
            have a2 : f (m - 1) ≠ n := fun z => by
              have := h2 (m - 1) i (by omega) hi (by rw [z, ei])
              omega
            omega
          · rw [if_neg ej]
            have a1 := h1 j (by omega)
            have a2 : f j ≠ n := fun z => ej (h2 j i (by omega) hi (by rw [z, ei]))
            omega
        · intro j k hj hk he
          have he' : (if j = i then f (m - 1) else f j) = (if k = i then f (m - 1) else f k) := he
          by_cases ej : j = i
          · by_cases ek : k = i
            · omega
            · rw [if_pos ej, if_neg ek] at he'
              have := h2 (m - 1) k (by omega) (by omega) he'
              omega
          · by_cases ek : k = i
            · rw [if_neg ej, if_pos ek] at he'
              have := h2 j (m - 1) (by omega) (by omega) he'
              omega
            · rw [if_neg ej, if_neg ek] at he'
              exact h2 j k (by omega) (by omega) he'
      omega
    · have key : m ≤ n := by
        apply ih m f
        · intro j hj
          have a1 := h1 j hj
          have a2 : f j ≠ n := fun z => e ⟨j, hj, z⟩
          omega
        · exact h2
      omega
/-- some column of a set -/
noncomputable def dq_some (a : Nat) : Nat := @dite Nat (∃ c, a.testBit c = true) (Classical.propDecidable _) (fun h => Classical.choose h) (fun _ => 0)
theorem dq_some_i {a : Nat} (h : a ≠ 0) : a.testBit (dq_some a) = true := by
  unfold dq_some
  rw [dif_pos (dq_ne0 h)]
  exact Classical.choose_spec (dq_ne0 h)
theorem dq_PV_le {D : Nat → Nat → Prop} {x m : Nat} {b : Nat → Nat} (h : dq_PV D x m b) : m ≤ 6 := by
  apply dq_pig 6 m (fun j => dq_some (b j))
  · intro j hj
    obtain ⟨h1, h2, _⟩ := h.1 j hj
    exact dq_col h1 (dq_some_i h2)
  · intro i j hi hj he
    by_cases e : i = j
    · exact e
    · have he' : dq_some (b i) = dq_some (b j) := he
      have g := h.2.1 i j hi hj e
      refine absurd (dq_some_i (h.1 j hj).2.1) ?_
      rw [← he']
      exact dq_and0.mp g _ (dq_some_i (h.1 i hi).2.1)
/-- block k parted by w -/
def dq_sp (b : Nat → Nat) (k m w : Nat) : Nat → Nat := fun j => if j = k then b k &&& w else if j = m then dq_mi (b k) (b k &&& w) else b j
theorem dq_split {D : Nat → Nat → Prop} {x m k v w : Nat} {b : Nat → Nat} (h : dq_PV D x m b) (hk : k < m) (hD : D v w) (hv : b k &&& v = 0) (h0 : b k &&& w ≠ 0) (h1 : b k &&& w ≠ b k) :
    dq_PV D x (m + 1) (dq_sp b k m w) := by
  obtain ⟨p1, p2, p3, p4⟩ := h
  obtain ⟨b1, b2, b3⟩ := p1 k hk
  have ek : dq_sp b k m w k = b k &&& w := if_pos rfl
  have em : dq_sp b k m w m = dq_mi (b k) (b k &&& w) := by
    unfold dq_sp
    rw [if_neg (by omega), if_pos rfl]
  have eo : ∀ j, j ≠ k → j ≠ m → dq_sp b k m w j = b j := by
    intro j j1 j2
    unfold dq_sp
    rw [if_neg j1, if_neg j2]
  have ik : ∀ c, (dq_sp b k m w k).testBit c = true ↔ ((b k).testBit c = true ∧ w.testBit c = true) := fun c => by rw [ek, dq_and_i]
  have im : ∀ c, (dq_sp b k m w m).testBit c = true ↔ ((b k).testBit c = true ∧ ¬ w.testBit c = true) := fun c => by
    rw [em, dq_mi_i _ c b1, dq_and_i]
    exact ⟨fun z => ⟨z.1, fun y => z.2 ⟨z.1, y⟩⟩, fun z => ⟨z.1, fun y => z.2 y.2⟩⟩
  have wk : ∀ c, (dq_sp b k m w k).testBit c = true → (b k).testBit c = true := fun c z => ((ik c).mp z).1
  have wm : ∀ c, (dq_sp b k m w m).testBit c = true → (b k).testBit c = true := fun c z => ((im c).mp z).1
  -- each new block lies within an old one
  have old : ∀ j, j < m + 1 → ∃ i, i < m ∧ (∀ c, (dq_sp b k m w j).testBit c = true → (b i).testBit c = true) ∧ (j ≠ m → i = j) ∧ (j = m → i = k) := by
    intro j hj
    by_cases e1 : j = k
    · exact ⟨k, hk, by rw [e1]; exact wk, fun _ => e1.symm, fun _ => rfl⟩
    · by_cases e2 : j = m
      · exact ⟨k, hk, by rw [e2]; exact wm, fun z => absurd e2 z, fun _ => rfl⟩
      · exact ⟨j, by omega, by rw [eo j e1 e2]; exact fun _ z => z, fun _ => rfl, fun z => absurd z e2⟩
  have km : ∀ c, (dq_sp b k m w k).testBit c = true → ¬ (dq_sp b k m w m).testBit c = true := fun c z y => ((im c).mp y).2 ((ik c).mp z).2
  refine ⟨fun j hj => ?_, fun i j hi hj hij => ?_, fun c hc hx => ?_, fun q hq hu hx j hj => ?_⟩
  · obtain ⟨i, i1, i2, i3, i4⟩ := old j hj
    obtain ⟨o1, o2, o3⟩ := p1 i i1
    refine ⟨?_, ?_, dq_and0.mpr (fun c hc => dq_and0.mp o3 c (i2 c hc))⟩
    · by_cases e1 : j = k
      · rw [e1, ek]
        exact dq_and_lt _ b1
      · by_cases e2 : j = m
        · rw [e2, em]
          exact dq_mi_lt _ b1
        · rw [eo j e1 e2]
          exact (p1 j (by omega)).1
    · by_cases e1 : j = k
      · rw [e1, ek]
        exact h0
      · by_cases e2 : j = m
        · rw [e2, em]
          intro z
          exact h1 (dq_andE.mpr (fun c hc => ((dq_and_i c).mp ((dq_mi0 b1).mp z c hc)).2))
        · rw [eo j e1 e2]
          exact (p1 j (by omega)).2.1
  · obtain ⟨i', i1, i2, i3, i4⟩ := old i hi
    obtain ⟨j', j1, j2, j3, j4⟩ := old j hj
    apply dq_and0.mpr
    intro c ci cj
    by_cases e : i' = j'
    · by_cases ei : i = m
      · have ej : j = k := by
          have a1 := i4 ei
          have a2 := j3 (by omega)
          omega
        rw [ei] at ci
        rw [ej] at cj
        exact km c cj ci
      · by_cases ej : j = m
        · have ei2 : i = k := by
            have a1 := j4 ej
            have a2 := i3 ei
            omega
          rw [ei2] at ci
          rw [ej] at cj
          exact km c ci cj
        · have a1 := i3 ei
          have a2 := j3 ej
          omega
    · exact dq_and0.mp (p2 i' j' i1 j1 e) c (i2 c ci) (j2 c cj)
  · obtain ⟨j, j1, j2⟩ := p3 c hc hx
    by_cases e : j = k
    · rw [e] at j2
      by_cases g : w.testBit c = true
      · exact ⟨k, by omega, (ik c).mpr ⟨j2, g⟩⟩
      · exact ⟨m, by omega, (im c).mpr ⟨j2, g⟩⟩
    · exact ⟨j, by omega, by rw [eo j e (by omega)]; exact j2⟩
  · by_cases e : j ≠ k ∧ j ≠ m
    · rw [eo j e.1 e.2]
      exact p4 q hq hu hx j (by omega)
    · rcases p4 q hq hu hx k hk with g | g
      · have sub : ∀ c, (dq_sp b k m w j).testBit c = true → (b k).testBit c = true := by
          by_cases e1 : j = k
          · rw [e1]
            exact wk
          · have e2 : j = m := by
              rcases Nat.lt_or_ge j m with z | z
              · exact absurd ⟨e1, by omega⟩ e
              · omega
            rw [e2]
            exact wm
        exact .inl (dq_and0.mpr (fun c c1 c2 => dq_and0.mp g c c1 (sub c c2)))
      · have g2 := dq_andE.mp g
        have qv : q &&& v = 0 := dq_and0.mpr (fun c c1 => dq_and0.mp hv c (g2 c c1))
        rcases hu v w hD qv with y | y
        · by_cases e1 : j = k
          · rw [e1]
            exact .inl (dq_and0.mpr (fun c c1 c2 => dq_and0.mp y c c1 ((ik c).mp c2).2))
          · have e2 : j = m := by
              rcases Nat.lt_or_ge j m with z | z
              · exact absurd ⟨e1, by omega⟩ e
              · omega
            rw [e2]
            exact .inr (dq_andE.mpr (fun c c1 => (im c).mpr ⟨g2 c c1, dq_and0.mp y c c1⟩))
        · have y2 := dq_andE.mp y
          by_cases e1 : j = k
          · rw [e1]
            exact .inr (dq_andE.mpr (fun c c1 => (ik c).mpr ⟨g2 c c1, y2 c c1⟩))
          · have e2 : j = m := by
              rcases Nat.lt_or_ge j m with z | z
              · exact absurd ⟨e1, by omega⟩ e
              · omega
            rw [e2]
            exact .inl (dq_and0.mpr (fun c c1 c2 => ((im c).mp c2).2 (y2 c c1)))
theorem dq_PV_0 {D : Nat → Nat → Prop} {b : Nat → Nat} : dq_PV D 63 0 b :=
  ⟨fun j hj => absurd hj (by omega), fun i j hi => absurd hi (by omega), fun c hc hx => absurd ((dq_63_i c).mpr hc) hx, fun q hq hu hx j hj => absurd hj (by omega)⟩
theorem dq_PV_1 {D : Nat → Nat → Prop} {x : Nat} {b : Nat → Nat} (hx : x < 64) (h : x ≠ 63) (hb : b 0 = dq_mi 63 x) : dq_PV D x 1 b := by
  have z : ∀ j, j < 1 → b j = dq_mi 63 x := fun j hj => by
    rw [show j = 0 by omega, hb]
  refine ⟨fun j hj => ?_, fun i j hi hj hij => absurd hij (by omega), fun c hc hc2 => ⟨0, by omega, ?_⟩, fun q hq hu hqx j hj => ?_⟩
  · rw [z j hj]
    refine ⟨dq_mi_lt x (by decide), fun e => h ?_, dq_and0.mpr (fun c hc => ((dq_mi_i x c (by decide)).mp hc).2)⟩
    exact dq_eq (dq_su63 hx) ((dq_mi0 (by decide)).mp e)
  · rw [hb]
    exact (dq_mi_i x c (by decide)).mpr ⟨(dq_63_i c).mpr hc, hc2⟩
  · rw [z j hj]
    exact .inr (dq_andE.mpr (fun c hc => (dq_mi_i x c (by decide)).mpr ⟨(dq_63_i c).mpr (dq_col hq hc), dq_and0.mp hqx c hc⟩))
/-- the blocks when nothing parts them any more -/
def dq_BA (D : Nat → Nat → Prop) (x m : Nat) (b : Nat → Nat) : Prop := dq_PV D x m b ∧ ∀ j, j < m → dq_un D (b j)
theorem dq_BA_bu {D : Nat → Nat → Prop} {x m : Nat} {b : Nat → Nat} (h : dq_BA D x m b) (y : Nat) : dq_BU D x y ↔ ∀ j, j < m → b j &&& y = 0 ∨ b j &&& y = b j := by
  constructor
  · intro g j hj
    exact g (b j) (h.1.1 j hj).1 (h.2 j hj) (h.1.1 j hj).2.2
  · intro g q hq hu hx
    by_cases e : q &&& y = 0
    · exact .inl e
    · obtain ⟨d, hd⟩ := dq_ne0 e
      obtain ⟨d1, d2⟩ := (dq_and_i d).mp hd
      obtain ⟨j, j1, j2⟩ := h.1.2.2.1 d (dq_col hq d1) (dq_and0.mp hx d d1)
      rcases h.1.2.2.2 q hq hu hx j j1 with k | k
      · exact absurd j2 (dq_and0.mp k d d1)
      · rcases g j j1 with k2 | k2
        · exact absurd d2 (dq_and0.mp k2 d j2)
        · exact .inr (dq_andE.mpr (dq_su_t (dq_andE.mp k) (dq_andE.mp k2)))
/-- what closeSet adds up: the single, determined blocks -/
theorem dq_BA_cl {D : Nat → Nat → Prop} {T : Nat → Prop} {x m : Nat} {b : Nat → Nat} (h : dq_BA D x m b) (c : Nat) (hc : c < 6) :
    dq_CL D T x c ↔ (x.testBit c = true ∨ ∃ j, j < m ∧ b j = 2 ^ c ∧ T c) := by
  constructor
  · intro g
    rcases g with g | ⟨g1, g2⟩
    · exact .inl g
    · by_cases e : x.testBit c = true
      · exact .inl e
      · obtain ⟨j, j1, j2⟩ := h.1.2.2.1 c hc e
        exact .inr ⟨j, j1, g2 (b j) (h.1.1 j j1).1 (h.2 j j1) (h.1.1 j j1).2.2 j2, g1⟩
  · intro g
    rcases g with g | ⟨j, j1, j2, j3⟩
    · exact .inl g
    · refine .inr ⟨j3, fun q hq hu hx hqc => ?_⟩
      rcases h.1.2.2.2 q hq hu hx j j1 with k | k
      · exact absurd (by rw [j2]; exact (dq_pw_i c c).mpr rfl) (dq_and0.mp k c hqc)
      · rw [j2] at k
        apply dq_eq (dq_andE.mp k)
        intro d hd
        rw [dq_pw_i] at hd
        rw [← hd]
        exact hqc
end
section
/-! loops, curried -/
theorem dq_lp0 (W : Nat → Nat → Prop) (I : Nat → Prop) (e i0 : Nat) (hi : i0 ≤ e) (h0 : I i0) (hx : ∀ n, I e → W (n + 1) e)
    (hs : ∀ n i, i < e → I i → (I (i + 1) → W n (i + 1)) → W (n + 1) i) : ∃ n, W n i0 :=
  pk_loop (σ := Unit) (fun n i _ => W n i) (fun i _ => I i) e i0 () hi h0 (fun n _ h => hx n h) (fun n i _ a h hw => hs n i a h (fun g => hw () g))
theorem dq_lp1 {A : Type} (W : Nat → Nat → A → Prop) (I : Nat → A → Prop) (e i0 : Nat) (a : A) (hi : i0 ≤ e) (h0 : I i0 a) (hx : ∀ n a, I e a → W (n + 1) e a)
    (hs : ∀ n i a, i < e → I i a → (∀ a', I (i + 1) a' → W n (i + 1) a') → W (n + 1) i a) : ∃ n, W n i0 a :=
  pk_loop W I e i0 a hi h0 hx hs
theorem dq_lp2 {A B : Type} (W : Nat → Nat → A → B → Prop) (I : Nat → A → B → Prop) (e i0 : Nat) (a : A) (b : B) (hi : i0 ≤ e) (h0 : I i0 a b) (hx : ∀ n a b, I e a b → W (n + 1) e a b)
    (hs : ∀ n i a b, i < e → I i a b → (∀ a' b', I (i + 1) a' b' → W n (i + 1) a' b') → W (n + 1) i a b) : ∃ n, W n i0 a b :=
  pk_loop (σ := A × B) (fun n i s => W n i s.1 s.2) (fun i s => I i s.1 s.2) e i0 (a, b) hi h0 (fun n s h => hx n s.1 s.2 h) (fun n i s h1 h hw => hs n i s.1 s.2 h1 h (fun a' b' g => hw (a', b') g))
theorem dq_lp3 {A B C : Type} (W : Nat → Nat → A → B → C → Prop) (I : Nat → A → B → C → Prop) (e i0 : Nat) (a : A) (b : B) (c : C) (hi : i0 ≤ e) (h0 : I i0 a b c) (hx : ∀ n a b c, I e a b c → W (n + 1) e a b c)
    (hs : ∀ n i a b c, i < e → I i a b c → (∀ a' b' c', I (i + 1) a' b' c' → W n (i + 1) a' b' c') → W (n + 1) i a b c) : ∃ n, W n i0 a b c :=
  pk_loop (σ := A × B × C) (fun n i s => W n i s.1 s.2.1 s.2.2) (fun i s => I i s.1 s.2.1 s.2.2) e i0 (a, b, c) hi h0 (fun n s h => hx n s.1 s.2.1 s.2.2 h) (fun n i s h1 h hw => hs n i s.1 s.2.1 s.2.2 h1 h (fun a' b' c' g => hw (a', b', c') g))
theorem dq_lp4 {A B C D : Type} (W : Nat → Nat → A → B → C → D → Prop) (I : Nat → A → B → C → D → Prop) (e i0 : Nat) (a : A) (b : B) (c : C) (d : D) (hi : i0 ≤ e) (h0 : I i0 a b c d) (hx : ∀ n a b c d, I e a b c d → W (n + 1) e a b c d)
    (hs : ∀ n i a b c d, i < e → I i a b c d → (∀ a' b' c' d', I (i + 1) a' b' c' d' → W n (i + 1) a' b' c' d') → W (n + 1) i a b c d) : ∃ n, W n i0 a b c d :=
  pk_loop (σ := A × B × C × D) (fun n i s => W n i s.1 s.2.1 s.2.2.1 s.2.2.2) (fun i s => I i s.1 s.2.1 s.2.2.1 s.2.2.2) e i0 (a, b, c, d) hi h0 (fun n s h => hx n s.1 s.2.1 s.2.2.1 s.2.2.2 h) (fun n i s h1 h hw => hs n i s.1 s.2.1 s.2.2.1 s.2.2.2 h1 h (fun a' b' c' d' g => hw (a', b', c', d') g))
/-- down: the counter is i - 1, W n 0 leaves -/
theorem dq_ld0 (W : Nat → Nat → Prop) (I : Nat → Prop) (hx : ∀ n, I 0 → W (n + 1) 0)
    (hs : ∀ n i, I (i + 1) → (I i → W n i) → W (n + 1) (i + 1)) (e : Nat) (h0 : I e) : ∃ n, W n e :=
  ⟨e + 1, pk_loopD (σ := Unit) (fun n i _ => W n i) (fun i _ => I i) (fun n _ h => hx n h) (fun n i _ h hw => hs n i h (fun g => hw () g)) e () h0⟩
theorem dq_ld1 {A : Type} (W : Nat → Nat → A → Prop) (I : Nat → A → Prop) (hx : ∀ n a, I 0 a → W (n + 1) 0 a)
    (hs : ∀ n i a, I (i + 1) a → (∀ a', I i a' → W n i a') → W (n + 1) (i + 1) a) (e : Nat) (a : A) (h0 : I e a) : ∃ n, W n e a :=
  ⟨e + 1, pk_loopD W I hx hs e a h0⟩
theorem dq_ld2 {A B : Type} (W : Nat → Nat → A → B → Prop) (I : Nat → A → B → Prop) (hx : ∀ n a b, I 0 a b → W (n + 1) 0 a b)
    (hs : ∀ n i a b, I (i + 1) a b → (∀ a' b', I i a' b' → W n i a' b') → W (n + 1) (i + 1) a b) (e : Nat) (a : A) (b : B) (h0 : I e a b) : ∃ n, W n e a b :=
  ⟨e + 1, pk_loopD (σ := A × B) (fun n i s => W n i s.1 s.2) (fun i s => I i s.1 s.2) (fun n s h => hx n s.1 s.2 h) (fun n i s h hw => hs n i s.1 s.2 h (fun a' b' g => hw (a', b') g)) e (a, b) h0⟩
theorem dq_dn (i : Nat) : nI (i + 1) + (-1) = nI i := pk_m1 i
theorem dq_neg : nI 0 + (-1) < 0 := by decide
theorem dq_cl31 {n : Nat} (h : n < 1000) : (nI n).toNatClampNeg = n := nI_clamp (by omega)
/-! the dependencies -/
def dq_D (k : Nat) (cn : Nat → Prop) (lf rt : Nat → Nat) (a3 : Nat → Int32) (v w : Nat) : Prop :=
  ∃ d, d < k ∧ cn d ∧ v = lf d ∧ ((¬ a3 d = 0 ∧ w = rt d) ∨ (a3 d = 0 ∧ ∃ c, c < 6 ∧ (rt d).testBit c = true ∧ w = 2 ^ c))
def dq_T (k : Nat) (cn : Nat → Prop) (lf rt : Nat → Nat) (a3 : Nat → Int32) (c : Nat) : Prop :=
  ∃ d, d < k ∧ cn d ∧ a3 d = 0 ∧ (rt d).testBit c = true ∧ ¬ (lf d).testBit c = true
def dq_lk (k : Nat) (lf rt : Nat → Nat) (a1 a2 : Nat → Int32) : Prop := ∀ d, d < k → lf d < 64 ∧ rt d < 64 ∧ a1 d = nI (lf d) ∧ a2 d = nI (rt d)
/-- which count -/
def dq_cn (k : Nat) (cn : Nat → Prop) (cg : Int32) : Prop := ∀ d, d < k → (((cg >>> (nI d &&& 31)) &&& 1) = 1 ↔ cn d)
theorem dq_D_fd {k : Nat} {cn : Nat → Prop} {lf rt : Nat → Nat} {a3 : Nat → Int32} {d : Nat} (hd : d < k) (hc : cn d) (h3 : a3 d = 0) : dq_FD (dq_D k cn lf rt a3) (dq_T k cn lf rt a3) (lf d) (rt d) := fun c h6 hb =>
  ⟨⟨d, hd, hc, rfl, .inr ⟨h3, c, h6, hb, rfl⟩⟩, fun hn => ⟨d, hd, hc, h3, hb, hn⟩⟩
/-- only single ones count, and C is closed under them -/
theorem dq_D_fix {k : Nat} {cn : Nat → Prop} {lf rt : Nat → Nat} {a3 : Nat → Int32} {C : Nat} (hC : C < 64) (h3 : ∀ d, d < k → cn d → a3 d = 0) (hl : ∀ d, d < k → lf d < 64)
    (hF : ∀ d, d < k → cn d → dq_su (lf d) C → dq_su (rt d) C) : dq_cl (dq_D k cn lf rt a3) (dq_T k cn lf rt a3) C = C := by
  apply dq_cl_fix (F := fun v w => ∃ d, d < k ∧ cn d ∧ v = lf d ∧ w = rt d) hC
  · rintro v w ⟨d, d1, d2, d3, d4⟩
    refine ⟨rt d, ⟨d, d1, d2, d3, rfl⟩, ?_⟩
    rcases d4 with ⟨z, _⟩ | ⟨_, c, c1, c2, c3⟩
    · exact absurd (h3 d d1 d2) z
    · intro e he
      rw [c3, dq_pw_i] at he
      rw [← he]
      exact c2
  · rintro c ⟨d, d1, d2, d3, d4, d5⟩
    exact ⟨lf d, rt d, ⟨d, d1, d2, rfl, rfl⟩, hl d d1, d4, d5⟩
  · rintro v w ⟨d, d1, d2, rfl, rfl⟩
    exact hF d d1 d2
  · rintro v w ⟨d, d1, d2, rfl, rfl⟩
    exact hl d d1
theorem dq_all1 : ∀ k, k < 11 → ((1 : Int32) <<< (nI k &&& 31)) - 1 = nI (2 ^ k - 1) := by decide +kernel
theorem dq_cn_all {k : Nat} (hk : k < 11) : dq_cn k (fun _ => True) (((1 : Int32) <<< (nI k &&& 31)) - 1) := by
  intro d hd
  rw [dq_all1 k hk]
  have h1 : (2 : Nat) ^ k ≤ 2 ^ 10 := Nat.pow_le_pow_right (by omega) (by omega)
  have h2 : (2 : Nat) ^ 10 = 1024 := by decide
  rw [dq_b1 (by omega) (by omega), Nat.testBit_two_pow_sub_one, decide_eq_true_iff]
  exact ⟨fun _ => trivial, fun _ => hd⟩
end
section
theorem dq_pow2 : ∀ m, m < 64 → m ≠ 0 → ((nI m &&& (nI m - 1)) = 0 ↔ ∃ c, c < 6 ∧ m = 2 ^ c) := by
  have h : ∀ m, m < 64 → m ≠ 0 → ((nI m &&& (nI m - 1)) = 0 ↔ (List.range 6).any (fun c => m == 2 ^ c) = true) := by decide +kernel
  intro m hm h0
  rw [h m hm h0, List.any_eq_true]
  constructor
  · rintro ⟨c, c1, c2⟩
    exact ⟨c, List.mem_range.mp c1, eq_of_beq c2⟩
  · rintro ⟨c, c1, c2⟩
    exact ⟨c, List.mem_range.mpr c1, beq_iff_eq.mpr c2⟩
theorem dq_31 : ∀ m, m < 64 → ∀ c, c < 6 → (((nI m >>> (nI c &&& 31)) <<< ((31 : Int32) &&& 31)) = 0 ↔ ¬ m.testBit c = true) := by decide +kernel
theorem dq_lowestOf {post : Int32 → Prop} {u : St1} {c : Nat} (hc : c < 6) (h : post (nI c)) : wpX_lowestOf post u (nI (2 ^ c)) := by
  obtain ⟨c0, cg, bk, sd, sc, kc, pc, ro, a1, a2, a3, a4, a5, a6, a7, a8, a9, a10, a11, a12, a13, a14⟩ := u
  have hp := dq_pw_lt hc
  have h5 : (5 : Int32) = nI 6 + (-1) := by decide
  have key : ∃ n, wX_lowestOf_4 post (nI (2 ^ c)) c0 cg bk sd sc kc pc ro a1 a2 a3 a4 a5 a6 a7 a8 a9 a10 a11 a12 a13 a14 n 0 (nI 6 + (-1)) := by
    refine dq_ld1 (fun n i a => wX_lowestOf_4 post (nI (2 ^ c)) c0 cg bk sd sc kc pc ro a1 a2 a3 a4 a5 a6 a7 a8 a9 a10 a11 a12 a13 a14 n a (nI i + (-1))) (fun i a => i ≤ 6 ∧ ((i ≤ c ∧ a = nI c) ∨ (c < i))) ?_ ?_ 6 0 ⟨by omega, .inr (by omega)⟩
    · rintro n a ⟨_, h2⟩
      rcases h2 with ⟨_, rfl⟩ | h2
      · exact br_t dq_neg h
      · omega
    · rintro n i a ⟨h1, h2⟩ hw
      rw [dq_dn]
      refine br_f (nI_pos (by omega)) (dq_if1 (2 ^ c) i (fun g => nm_e ?_) (fun g => nm_e ?_))
      · rw [dq_pw_i] at g
        exact hw (nI i) ⟨by omega, .inl ⟨by omega, by rw [g]⟩⟩
      · rw [dq_pw_i] at g
        refine hw a ⟨by omega, ?_⟩
        rcases h2 with ⟨z1, z2⟩ | z
        · exact .inl ⟨by omega, z2⟩
        · exact .inr (by omega)
  rw [← h5] at key
  exact key
theorem dq_isDet {post : Int32 → Prop} {cg bk sd sc kc pc ro : Int32} {a1 a2 a3 a4 a5 a6 a7 a8 a9 a10 a11 a12 a13 a14 : Nat → Int32} {k : Nat} {cn : Nat → Prop} {lf rt : Nat → Nat} {c : Nat} (hk : k ≤ 10) (hl : dq_lk k lf rt a1 a2) (hcn : dq_cn k cn cg) (hc : c < 6)
    (H1 : dq_T k cn lf rt a3 c → post 1) (H0 : ¬ dq_T k cn lf rt a3 c → post 0) : wpX_isDetermined post (nI k, cg, bk, sd, sc, kc, pc, ro, a1, a2, a3, a4, a5, a6, a7, a8, a9, a10, a11, a12, a13, a14) (nI c) := by
  refine dq_lp1 (fun n i a => wX_isDetermined_4 post (nI c) (nI k) cg bk sd sc kc pc ro a1 a2 a3 a4 a5 a6 a7 a8 a9 a10 a11 a12 a13 a14 n a (nI i))
    (fun i a => (a = 1 ∧ dq_T k cn lf rt a3 c) ∨ (a = 0 ∧ ∀ d, d < i → ¬ (cn d ∧ a3 d = 0 ∧ (rt d).testBit c = true ∧ ¬ (lf d).testBit c = true))) k 0 0 (by omega) (.inr ⟨rfl, fun d hd => absurd hd (by omega)⟩) ?_ ?_
  · rintro n a (⟨rfl, h⟩ | ⟨rfl, h⟩)
    · exact pk_le k k (fun _ => ⟨dq_nb1, H1 h⟩) (fun z => absurd z (by omega))
    · exact pk_le k k (fun _ => ⟨dq_nb0, H0 (fun ⟨d, d1, d2, d3, d4, d5⟩ => h d d1 ⟨d2, d3, d4, d5⟩)⟩) (fun z => absurd z (by omega))
  · intro n i a hi h hw
    obtain ⟨l1, l2, l3, l4⟩ := hl i hi
    have ci : (nI i).toNatClampNeg = i := nI_clamp (by omega)
    refine pk_le k i (fun z => absurd z (by omega)) (fun _ => ⟨pk_in i 10 (by omega), pk_in i 10 (by omega), ?_⟩)
    rw [ci, l3, l4, dq_not l2 l1]
    have hm := dq_mi_lt (lf i) l2
    refine ek_if (dq_31 _ hm c hc) (fun g => ?_) (fun g => ?_)
    · rw [dq_mi_i _ c l2] at g
      rcases h with ⟨rfl, h⟩ | ⟨rfl, h⟩
      · exact br_f (by decide) (nm_r (nI_1 i) (hw 1 (.inl ⟨rfl, h⟩)))
      · have hn : ∀ d, d < i + 1 → ¬ (cn d ∧ a3 d = 0 ∧ (rt d).testBit c = true ∧ ¬ (lf d).testBit c = true) := lt_s h (fun z => g ⟨z.2.2.1, z.2.2.2⟩)
        refine br_t rfl (ek_if (hcn i hi) (fun _ => ⟨pk_in i 10 (by omega), ?_⟩) (fun _ => nm_r (nI_1 i) (hw 0 (.inr ⟨rfl, hn⟩))))
        exact br_c (fun _ => br_t rfl (nm_r (nI_1 i) (hw 0 (.inr ⟨rfl, hn⟩)))) (fun _ => nm_r (nI_1 i) (hw 0 (.inr ⟨rfl, hn⟩)))
    · have g2 := (dq_mi_i _ c l2).mp (Decidable.byContradiction g)
      rcases h with ⟨rfl, h⟩ | ⟨rfl, h⟩
      · exact br_f (by decide) (nm_r (nI_1 i) (hw 1 (.inl ⟨rfl, h⟩)))
      · refine br_t rfl (ek_if (hcn i hi) (fun g1 => ⟨pk_in i 10 (by omega), ?_⟩) (fun g1 => nm_r (nI_1 i) (hw 0 (.inr ⟨rfl, lt_s h (fun z => g1 z.1)⟩))))
        rw [ci]
        refine br_c (fun g3 => br_f (by decide) (nm_r (nI_1 i) (hw 1 (.inl ⟨rfl, i, hi, g1, g3, g2.1, g2.2⟩)))) (fun g3 => nm_r (nI_1 i) (hw 0 (.inr ⟨rfl, lt_s h (fun z => g3 z.2.1)⟩)))
end
section
theorem dq_splitBlock {post : Int32 → St1 → Prop} {c0 cg sd sc kc pc ro : Int32} {a1 a2 a3 a4 a5 a6 a7 a8 a9 a10 a11 a12 a13 a14 : Nat → Int32} {D : Nat → Nat → Prop} {x m k v w : Nat} {b : Nat → Nat} (h : dq_PV D x m b) (ha : ∀ j, j < m → a4 j = nI (b j)) (hk : k < m) (hD : D v w) (hv : b k &&& v = 0)
    (H0 : (b k &&& w = 0 ∨ b k &&& w = b k) → post 0 (c0, cg, nI m, sd, sc, kc, pc, ro, a1, a2, a3, a4, a5, a6, a7, a8, a9, a10, a11, a12, a13, a14))
    (H1 : ∀ (a : Nat → Int32) (b' : Nat → Nat), dq_PV D x (m + 1) b' → (∀ j, j < m + 1 → a j = nI (b' j)) → post 1 (c0, cg, nI (m + 1), sd, sc, kc, pc, ro, a1, a2, a3, a, a5, a6, a7, a8, a9, a10, a11, a12, a13, a14)) :
    wpX_splitBlock post (c0, cg, nI m, sd, sc, kc, pc, ro, a1, a2, a3, a4, a5, a6, a7, a8, a9, a10, a11, a12, a13, a14) (nI k) (nI w) := by
  have hm := dq_PV_le h
  have b1 := (h.1 k hk).1
  have l1 := dq_and_lt w b1
  have ak := ha k hk
  have ck : (nI k).toNatClampNeg = k := nI_clamp (by omega)
  have cm : (nI m).toNatClampNeg = m := nI_clamp (by omega)
  unfold wpX_splitBlock
  dsimp only
  rw [ck, ak, cm, dq_and]
  refine ⟨pk_in k 6 (by omega), nm_e ?_⟩
  refine pk_eq (b k &&& w) 0 (fun e => H0 (.inl e)) (fun e0 => ⟨pk_in k 6 (by omega), ?_⟩)
  refine pk_eq (b k &&& w) (b k) (fun e => H0 (.inr e)) (fun e1 => ⟨pk_in k 6 (by omega), ?_⟩)
  have hs := dq_split h hk hD hv e0 e1
  have hm' := dq_PV_le hs
  refine ⟨pk_in m 6 (by omega), nm_e ⟨pk_in k 6 (by omega), nm_e (nm_r (nI_1 m) (H1 _ (dq_sp b k m w) hs (fun j hj => ?_)))⟩⟩
  rw [dq_not b1 l1]
  unfold dq_sp
  by_cases e : j = k
  · rw [e, pk_us, if_pos rfl]
  · rw [pk_un e, if_neg e]
    by_cases e2 : j = m
    · rw [e2, pk_us, if_pos rfl]
    · rw [pk_un e2, if_neg e2]
      exact ha j (by omega)
theorem dq_splitBy {post : Int32 → St1 → Prop} {c0 cg sd sc kc pc ro : Int32} {a1 a2 a3 a4 a5 a6 a7 a8 a9 a10 a11 a12 a13 a14 : Nat → Int32} {D : Nat → Nat → Prop} {x m v w : Nat} {b : Nat → Nat} (h : dq_PV D x m b) (ha : ∀ j, j < m → a4 j = nI (b j)) (hD : D v w)
    (H0 : (∀ j, j < m → b j &&& v = 0 → b j &&& w = 0 ∨ b j &&& w = b j) → post 0 (c0, cg, nI m, sd, sc, kc, pc, ro, a1, a2, a3, a4, a5, a6, a7, a8, a9, a10, a11, a12, a13, a14))
    (H1 : ∀ (m' : Nat) (a : Nat → Int32) (b' : Nat → Nat), m + 1 ≤ m' → 1 ≤ m → dq_PV D x m' b' → (∀ j, j < m' → a j = nI (b' j)) → post 1 (c0, cg, nI m', sd, sc, kc, pc, ro, a1, a2, a3, a, a5, a6, a7, a8, a9, a10, a11, a12, a13, a14)) :
    wpX_splitBy post (c0, cg, nI m, sd, sc, kc, pc, ro, a1, a2, a3, a4, a5, a6, a7, a8, a9, a10, a11, a12, a13, a14) (nI v) (nI w) := by
  have hm := dq_PV_le h
  refine dq_lp3 (fun n i s1 s2 s3 => wX_splitBy_11 post (nI v) (nI w) (nI m) n s1 (nI i) c0 cg s2 sd sc kc pc ro a1 a2 a3 s3 a5 a6 a7 a8 a9 a10 a11 a12 a13 a14)
    (fun i s1 s2 s3 => (s1 = 0 ∧ s2 = nI m ∧ s3 = a4 ∧ ∀ j, j < i → b j &&& v = 0 → b j &&& w = 0 ∨ b j &&& w = b j) ∨ (s1 = 1 ∧ 1 ≤ m ∧ ∃ m' b', m + 1 ≤ m' ∧ dq_PV D x m' b' ∧ s2 = nI m' ∧ ∀ j, j < m' → s3 j = nI (b' j)))
    m 0 0 (nI m) a4 (by omega) (.inl ⟨rfl, rfl, rfl, fun j hj => absurd hj (by omega)⟩) ?_ ?_
  · rintro n s1 s2 s3 (⟨rfl, rfl, rfl, h4⟩ | ⟨rfl, h1, m', b', h2, h3, rfl, h4⟩)
    · exact pk_le m m (fun _ => ⟨dq_nb0, H0 h4⟩) (fun z => absurd z (by omega))
    · exact pk_le m m (fun _ => ⟨dq_nb1, H1 m' s3 b' h2 h1 h3 h4⟩) (fun z => absurd z (by omega))
  · rintro n i s1 s2 s3 hi (⟨rfl, rfl, rfl, h4⟩ | ⟨rfl, h1, m', b', h2, h3, rfl, h4⟩) hw
    · refine pk_le m i (fun z => absurd z (by omega)) (fun _ => ⟨pk_in i 6 (by omega), ?_⟩)
      rw [nI_clamp (show i < 2 ^ 31 by omega), ha i hi, dq_and]
      have l1 := dq_and_lt v (h.1 i hi).1
      refine dq_if00 (b i &&& v) (fun g => ?_) (fun g => nm_r (nI_1 i) (hw 0 (nI m) _ (.inl ⟨rfl, rfl, rfl, lt_s h4 (fun z => absurd z g)⟩)))
      refine dq_splitBlock h ha hi hD g (fun e => br_t rfl (br_t rfl (nm_r (nI_1 i) (hw 0 (nI m) _ (.inl ⟨rfl, rfl, rfl, lt_s h4 (fun _ => e)⟩))))) (fun a b' e1 e2 => ?_)
      exact br_t rfl (br_f (by decide) (nm_r (nI_1 i) (hw 1 (nI (m + 1)) a (.inr ⟨rfl, by omega, m + 1, b', by omega, e1, rfl, e2⟩))))
    · have hm' := dq_PV_le h3
      have hi' : i < m' := by omega
      refine pk_le m i (fun z => absurd z (by omega)) (fun _ => ⟨pk_in i 6 (by omega), ?_⟩)
      rw [nI_clamp (show i < 2 ^ 31 by omega), h4 i hi', dq_and]
      have l1 := dq_and_lt v (h3.1 i hi').1
      refine dq_if00 (b' i &&& v) (fun g => ?_) (fun g => nm_r (nI_1 i) (hw 1 (nI m') s3 (.inr ⟨rfl, h1, m', b', h2, h3, rfl, h4⟩)))
      refine dq_splitBlock h3 h4 hi' hD g (fun e => br_f (by decide) (nm_r (nI_1 i) (hw 1 (nI m') s3 (.inr ⟨rfl, h1, m', b', h2, h3, rfl, h4⟩)))) (fun a b2 e1 e2 => ?_)
      exact br_f (by decide) (nm_r (nI_1 i) (hw 1 (nI (m' + 1)) a (.inr ⟨rfl, by omega, m' + 1, b2, by omega, e1, rfl, e2⟩)))
theorem dq_splitByGiven {post : Int32 → St1 → Prop} {c0 cg sd sc kc pc ro : Int32} {a1 a2 a3 a4 a5 a6 a7 a8 a9 a10 a11 a12 a13 a14 : Nat → Int32} {k : Nat} {cn : Nat → Prop} {lf rt : Nat → Nat} {x m d : Nat} {b : Nat → Nat} (hk : k ≤ 10) (hl : dq_lk k lf rt a1 a2) (hd : d < k) (hc : cn d)
    (h : dq_PV (dq_D k cn lf rt a3) x m b) (ha : ∀ j, j < m → a4 j = nI (b j))
    (H0 : (∀ w, ((¬ a3 d = 0 ∧ w = rt d) ∨ (a3 d = 0 ∧ ∃ c, c < 6 ∧ (rt d).testBit c = true ∧ w = 2 ^ c)) → ∀ j, j < m → b j &&& lf d = 0 → b j &&& w = 0 ∨ b j &&& w = b j) → post 0 (c0, cg, nI m, sd, sc, kc, pc, ro, a1, a2, a3, a4, a5, a6, a7, a8, a9, a10, a11, a12, a13, a14))
    (H1 : ∀ (m' : Nat) (a : Nat → Int32) (b' : Nat → Nat), m + 1 ≤ m' → 1 ≤ m → dq_PV (dq_D k cn lf rt a3) x m' b' → (∀ j, j < m' → a j = nI (b' j)) → post 1 (c0, cg, nI m', sd, sc, kc, pc, ro, a1, a2, a3, a, a5, a6, a7, a8, a9, a10, a11, a12, a13, a14)) :
    wpX_splitByGiven post (c0, cg, nI m, sd, sc, kc, pc, ro, a1, a2, a3, a4, a5, a6, a7, a8, a9, a10, a11, a12, a13, a14) (nI d) := by
  obtain ⟨l1, l2, l3, l4⟩ := hl d hd
  have cd : (nI d).toNatClampNeg = d := nI_clamp (by omega)
  unfold wpX_splitByGiven
  dsimp only
  rw [cd, l3, l4]
  refine ⟨pk_in d 10 (by omega), br_c (fun g => ?_) (fun g => ⟨pk_in d 10 (by omega), pk_in d 10 (by omega), ?_⟩)⟩
  · refine dq_lp3 (fun n i s1 s2 s3 => wX_splitByGiven_30 post (nI d) n s1 (nI i) c0 cg s2 sd sc kc pc ro a1 a2 a3 s3 a5 a6 a7 a8 a9 a10 a11 a12 a13 a14)
      (fun i s1 s2 s3 => (s1 = 0 ∧ s2 = nI m ∧ s3 = a4 ∧ ∀ c, c < i → (rt d).testBit c = true → ∀ j, j < m → b j &&& lf d = 0 → b j &&& 2 ^ c = 0 ∨ b j &&& 2 ^ c = b j) ∨ (s1 = 1 ∧ 1 ≤ m ∧ ∃ m' b', m + 1 ≤ m' ∧ dq_PV (dq_D k cn lf rt a3) x m' b' ∧ s2 = nI m' ∧ ∀ j, j < m' → s3 j = nI (b' j)))
      6 0 0 (nI m) a4 (by omega) (.inl ⟨rfl, rfl, rfl, fun j hj => absurd hj (by omega)⟩) ?_ ?_
    · rintro n s1 s2 s3 (⟨rfl, rfl, rfl, h4⟩ | ⟨rfl, h1, m', b', h2, h3, rfl, h4⟩)
      · refine pk_le 6 6 (fun _ => ⟨dq_nb0, H0 ?_⟩) (fun z => absurd z (by omega))
        rintro w (⟨z, _⟩ | ⟨_, c, c1, c2, rfl⟩)
        · exact absurd g z
        · exact h4 c c1 c2
      · exact pk_le 6 6 (fun _ => ⟨dq_nb1, H1 m' s3 b' h2 h1 h3 h4⟩) (fun z => absurd z (by omega))
    · intro n i s1 s2 s3 hi hI hw
      refine pk_le 6 i (fun z => absurd z (by omega)) (fun _ => ⟨pk_in d 10 (by omega), ?_⟩)
      rw [cd, l3, l4]
      refine dq_if1 (rt d) i (fun g2 => ⟨pk_in d 10 (by omega), ?_⟩) (fun g2 => nm_r (nI_1 i) ?_)
      · rw [dq_shl i (by omega)]
        have hD : dq_D k cn lf rt a3 (lf d) (2 ^ i) := ⟨d, hd, hc, rfl, .inr ⟨g, i, hi, g2, rfl⟩⟩
        rcases hI with ⟨rfl, rfl, rfl, h4⟩ | ⟨rfl, h1, m', b', h2, h3, rfl, h4⟩
        · refine dq_splitBy h ha hD (fun e => br_t rfl (br_t rfl (nm_r (nI_1 i) (hw 0 (nI m) _ (.inl ⟨rfl, rfl, rfl, lt_s h4 (fun _ => e)⟩))))) (fun m' a b' e1 e2 e3 e4 => ?_)
          exact br_t rfl (br_f (by decide) (nm_r (nI_1 i) (hw 1 (nI m') a (.inr ⟨rfl, e2, m', b', e1, e3, rfl, e4⟩))))
        · refine dq_splitBy h3 h4 hD (fun e => br_f (by decide) (nm_r (nI_1 i) (hw 1 (nI m') s3 (.inr ⟨rfl, h1, m', b', h2, h3, rfl, h4⟩)))) (fun m2 a b2 e1 e2 e3 e4 => ?_)
          exact br_f (by decide) (nm_r (nI_1 i) (hw 1 (nI m2) a (.inr ⟨rfl, h1, m2, b2, by omega, e3, rfl, e4⟩)))
      · rcases hI with ⟨rfl, rfl, rfl, h4⟩ | ⟨rfl, h1, m', b', h2, h3, rfl, h4⟩
        · exact hw 0 (nI m) _ (.inl ⟨rfl, rfl, rfl, lt_s h4 (fun z => absurd z g2)⟩)
        · exact hw 1 (nI m') s3 (.inr ⟨rfl, h1, m', b', h2, h3, rfl, h4⟩)
  · have hD : dq_D k cn lf rt a3 (lf d) (rt d) := ⟨d, hd, hc, rfl, .inl ⟨g, rfl⟩⟩
    refine dq_splitBy h ha hD (fun e => ⟨dq_nb0, H0 ?_⟩) (fun m' a b' e1 e2 e3 e4 => ⟨dq_nb1, H1 m' a b' e1 e2 e3 e4⟩)
    rintro w (⟨_, rfl⟩ | ⟨z, _⟩)
    · exact e
    · exact absurd z g
theorem dq_fb47 {post : St1 → Prop} {J : Int32 → Int32 → Int32 → Int32 → Int32 → Int32 → Int32 → Int32 → Int32 → Int32 → (Nat → Int32) → (Nat → Int32) → (Nat → Int32) → (Nat → Int32) → (Nat → Int32) → (Nat → Int32) → (Nat → Int32) → (Nat → Int32) → (Nat → Int32) → (Nat → Int32) → (Nat → Int32) → (Nat → Int32) → (Nat → Int32) → (Nat → Int32) → Prop} {cg sd sc kc pc ro : Int32} {a1 a2 a3 a4 a5 a6 a7 a8 a9 a10 a11 a12 a13 a14 : Nat → Int32} {k : Nat} {cn : Nat → Prop} {lf rt : Nat → Nat} {x m r : Nat} {b : Nat → Nat} (hk : k ≤ 10) (hl : dq_lk k lf rt a1 a2) (hcn : dq_cn k cn cg)
    (h : dq_PV (dq_D k cn lf rt a3) x m b) (ha : ∀ j, j < m → a4 j = nI (b j))
    (H0 : (∀ j, j < m → dq_un (dq_D k cn lf rt a3) (b j)) → J 0 (nI (r + 1)) (nI k) cg (nI m) sd sc kc pc ro a1 a2 a3 a4 a5 a6 a7 a8 a9 a10 a11 a12 a13 a14)
    (H1 : ∀ (m' : Nat) (a : Nat → Int32) (b' : Nat → Nat), m + 1 ≤ m' → 1 ≤ m → dq_PV (dq_D k cn lf rt a3) x m' b' → (∀ j, j < m' → a j = nI (b' j)) → J 1 (nI (r + 1)) (nI k) cg (nI m') sd sc kc pc ro a1 a2 a3 a a5 a6 a7 a8 a9 a10 a11 a12 a13 a14) :
    ∃ n, wX_findBasis_47 post J (nI r) n 0 0 (nI k) cg (nI m) sd sc kc pc ro a1 a2 a3 a4 a5 a6 a7 a8 a9 a10 a11 a12 a13 a14 := by
  refine dq_lp3 (fun n i s1 s2 s3 => wX_findBasis_47 post J (nI r) n s1 (nI i) (nI k) cg s2 sd sc kc pc ro a1 a2 a3 s3 a5 a6 a7 a8 a9 a10 a11 a12 a13 a14)
    (fun i s1 s2 s3 => (s1 = 0 ∧ s2 = nI m ∧ s3 = a4 ∧ ∀ d, d < i → cn d → ∀ w, ((¬ a3 d = 0 ∧ w = rt d) ∨ (a3 d = 0 ∧ ∃ c, c < 6 ∧ (rt d).testBit c = true ∧ w = 2 ^ c)) → ∀ j, j < m → b j &&& lf d = 0 → b j &&& w = 0 ∨ b j &&& w = b j) ∨ (s1 = 1 ∧ 1 ≤ m ∧ ∃ m' b', m + 1 ≤ m' ∧ dq_PV (dq_D k cn lf rt a3) x m' b' ∧ s2 = nI m' ∧ ∀ j, j < m' → s3 j = nI (b' j)))
    k 0 0 (nI m) a4 (by omega) (.inl ⟨rfl, rfl, rfl, fun j hj => absurd hj (by omega)⟩) ?_ ?_
  · rintro n s1 s2 s3 (⟨rfl, rfl, rfl, h4⟩ | ⟨rfl, h1, m', b', h2, h3, rfl, h4⟩)
    · refine pk_le k k (fun _ => nm_r (nI_1 r) (H0 ?_)) (fun z => absurd z (by omega))
      rintro j hj v w ⟨d, d1, d2, rfl, d4⟩ h0
      exact h4 d d1 d2 w d4 j hj h0
    · exact pk_le k k (fun _ => nm_r (nI_1 r) (H1 m' s3 b' h2 h1 h3 h4)) (fun z => absurd z (by omega))
  · intro n i s1 s2 s3 hi hI hw
    refine pk_le k i (fun z => absurd z (by omega)) (fun _ => ek_if (hcn i hi) (fun hc => ?_) (fun hc => nm_r (nI_1 i) ?_))
    · rcases hI with ⟨rfl, rfl, rfl, h4⟩ | ⟨rfl, h1, m', b', h2, h3, rfl, h4⟩
      · refine dq_splitByGiven hk hl hi hc h ha (fun e => br_t rfl (br_t rfl (nm_r (nI_1 i) (hw 0 (nI m) _ (.inl ⟨rfl, rfl, rfl, lt_s h4 (fun _ => e)⟩))))) (fun m' a b' e1 e2 e3 e4 => ?_)
        exact br_t rfl (br_f (by decide) (nm_r (nI_1 i) (hw 1 (nI m') a (.inr ⟨rfl, e2, m', b', e1, e3, rfl, e4⟩))))
      · refine dq_splitByGiven hk hl hi hc h3 h4 (fun e => br_f (by decide) (nm_r (nI_1 i) (hw 1 (nI m') s3 (.inr ⟨rfl, h1, m', b', h2, h3, rfl, h4⟩)))) (fun m2 a b2 e1 e2 e3 e4 => ?_)
        exact br_f (by decide) (nm_r (nI_1 i) (hw 1 (nI m2) a (.inr ⟨rfl, h1, m2, b2, by omega, e3, rfl, e4⟩)))
    · rcases hI with ⟨rfl, rfl, rfl, h4⟩ | ⟨rfl, h1, m', b', h2, h3, rfl, h4⟩
      · exact hw 0 (nI m) _ (.inl ⟨rfl, rfl, rfl, lt_s h4 (fun z => absurd z hc)⟩)
      · exact hw 1 (nI m') s3 (.inr ⟨rfl, h1, m', b', h2, h3, rfl, h4⟩)
theorem dq_fb32 {post : St1 → Prop} {cg sd sc kc pc ro : Int32} {a1 a2 a3 a4 a5 a6 a7 a8 a9 a10 a11 a12 a13 a14 : Nat → Int32} {k : Nat} {cn : Nat → Prop} {lf rt : Nat → Nat} {x m : Nat} {b : Nat → Nat} (hk : k ≤ 10) (hl : dq_lk k lf rt a1 a2) (hcn : dq_cn k cn cg)
    (h : dq_PV (dq_D k cn lf rt a3) x m b) (ha : ∀ j, j < m → a4 j = nI (b j))
    (H : ∀ (m' : Nat) (a : Nat → Int32) (b' : Nat → Nat), dq_BA (dq_D k cn lf rt a3) x m' b' → (∀ j, j < m' → a j = nI (b' j)) → post (nI k, cg, nI m', sd, sc, kc, pc, ro, a1, a2, a3, a, a5, a6, a7, a8, a9, a10, a11, a12, a13, a14)) :
    ∃ n, wX_findBasis_32 post n 1 0 (nI k) cg (nI m) sd sc kc pc ro a1 a2 a3 a4 a5 a6 a7 a8 a9 a10 a11 a12 a13 a14 := by
  refine dq_lp3 (fun n i s1 s2 s3 => wX_findBasis_32 post n s1 (nI i) (nI k) cg s2 sd sc kc pc ro a1 a2 a3 s3 a5 a6 a7 a8 a9 a10 a11 a12 a13 a14)
    (fun i s1 s2 s3 => ∃ m b, dq_PV (dq_D k cn lf rt a3) x m b ∧ s2 = nI m ∧ (∀ j, j < m → s3 j = nI (b j)) ∧ ((s1 = 0 ∧ ∀ j, j < m → dq_un (dq_D k cn lf rt a3) (b j)) ∨ (s1 = 1 ∧ (i = 0 ∨ i + 1 ≤ m))))
    6 0 1 (nI m) a4 (by omega) ⟨m, b, h, rfl, ha, .inr ⟨rfl, .inl rfl⟩⟩ ?_ ?_
  · rintro n s1 s2 s3 ⟨m, b, h1, rfl, h3, ⟨rfl, h4⟩ | ⟨rfl, h4⟩⟩
    · exact pk_le 6 6 (fun _ => H m s3 b ⟨h1, h4⟩ h3) (fun z => absurd z (by omega))
    · have := dq_PV_le h1
      omega
  · rintro n i s1 s2 s3 hi ⟨m, b, h1, rfl, h3, ⟨rfl, h4⟩ | ⟨rfl, h4⟩⟩ hw
    · exact pk_le 6 i (fun z => absurd z (by omega)) (fun _ => br_t rfl (H m s3 b ⟨h1, h4⟩ h3))
    · refine pk_le 6 i (fun z => absurd z (by omega)) (fun _ => br_f (by decide) (dq_fb47 hk hl hcn h1 h3 (fun e => ?_) (fun m' a b' e1 e2 e3 e4 => ?_)))
      · exact hw 0 (nI m) s3 ⟨m, b, h1, rfl, h3, .inl ⟨rfl, e⟩⟩
      · exact hw 1 (nI m') a ⟨m', b', e3, rfl, e4, .inr ⟨rfl, .inr (by omega)⟩⟩
theorem dq_findBasis {post : St1 → Prop} {cg bk sd sc kc pc ro : Int32} {a1 a2 a3 a4 a5 a6 a7 a8 a9 a10 a11 a12 a13 a14 : Nat → Int32} {k : Nat} {cn : Nat → Prop} {lf rt : Nat → Nat} {x : Nat} (hk : k ≤ 10) (hl : dq_lk k lf rt a1 a2) (hcn : dq_cn k cn cg) (hx : x < 64)
    (H : ∀ (m' : Nat) (a : Nat → Int32) (b' : Nat → Nat), dq_BA (dq_D k cn lf rt a3) x m' b' → (∀ j, j < m' → a j = nI (b' j)) → post (nI k, cg, nI m', sd, sc, kc, pc, ro, a1, a2, a3, a, a5, a6, a7, a8, a9, a10, a11, a12, a13, a14)) :
    wpX_findBasis post (nI k, cg, bk, sd, sc, kc, pc, ro, a1, a2, a3, a4, a5, a6, a7, a8, a9, a10, a11, a12, a13, a14) (nI x) := by
  refine pk_eq x 63 (fun e => ?_) (fun e => nm_e ?_)
  · subst e
    exact dq_fb32 (m := 0) (b := fun _ => 0) hk hl hcn dq_PV_0 (fun j hj => absurd hj (by omega)) H
  · refine dq_fb32 (m := 1) (b := fun _ => dq_mi 63 x) hk hl hcn (dq_PV_1 hx e rfl) (fun j hj => ?_) H
    have e0 : j = 0 := by omega
    rw [e0, pk_us]
    exact dq_not (a := 63) (by decide) hx
theorem dq_closeSet {post : Int32 → St1 → Prop} {cg bk sd sc kc pc ro : Int32} {a1 a2 a3 a4 a5 a6 a7 a8 a9 a10 a11 a12 a13 a14 : Nat → Int32} {k : Nat} {cn : Nat → Prop} {lf rt : Nat → Nat} {x : Nat} (hk : k ≤ 10) (hl : dq_lk k lf rt a1 a2) (hcn : dq_cn k cn cg) (hx : x < 64)
    (H : ∀ (m' : Int32) (a : Nat → Int32), post (nI (dq_cl (dq_D k cn lf rt a3) (dq_T k cn lf rt a3) x)) (nI k, cg, m', sd, sc, kc, pc, ro, a1, a2, a3, a, a5, a6, a7, a8, a9, a10, a11, a12, a13, a14)) :
    wpX_closeSet post (nI k, cg, bk, sd, sc, kc, pc, ro, a1, a2, a3, a4, a5, a6, a7, a8, a9, a10, a11, a12, a13, a14) (nI x) := by
  refine dq_findBasis (bk := bk) hk hl hcn hx (fun m a b hb ha => ?_)
  have hm := dq_PV_le hb.1
  have G : ∀ (o : Nat), (∀ c, c < 6 → (o.testBit c = true ↔ (x.testBit c = true ∨ ∃ j, j < m ∧ b j = 2 ^ c ∧ dq_T k cn lf rt a3 c))) → o < 64 → post (nI o) (nI k, cg, nI m, sd, sc, kc, pc, ro, a1, a2, a3, a, a5, a6, a7, a8, a9, a10, a11, a12, a13, a14) := by
    intro o ho ol
    have e : o = dq_cl (dq_D k cn lf rt a3) (dq_T k cn lf rt a3) x := by
      apply dq_ext ol (dq_cl_lt _ _ _)
      intro c hc
      rw [ho c hc, dq_cl_i, dq_BA_cl hb c hc]
      exact ⟨fun z => ⟨hc, z⟩, fun z => z.2⟩
    rw [e]
    exact H _ _
  refine dq_lp1 (fun n i s => wX_closeSet_9 post (nI k) cg (nI m) sd sc kc pc ro a1 a2 a3 a a5 a6 a7 a8 a9 a10 a11 a12 a13 a14 n s (nI i))
    (fun i s => ∃ o, s = nI o ∧ o < 64 ∧ ∀ c, c < 6 → (o.testBit c = true ↔ (x.testBit c = true ∨ ∃ j, j < i ∧ b j = 2 ^ c ∧ dq_T k cn lf rt a3 c))) m 0 (nI x) (by omega)
    ⟨x, rfl, hx, fun c hc => ⟨.inl, fun z => z.elim id (fun ⟨j, hj, _⟩ => absurd hj (by omega))⟩⟩ ?_ ?_
  · rintro n s ⟨o, rfl, h1, h2⟩
    exact pk_le m m (fun _ => G o h2 h1) (fun z => absurd z (by omega))
  · rintro n i s hi ⟨o, rfl, h1, h2⟩ hw
    obtain ⟨b1, b2, b3⟩ := hb.1.1 i hi
    have ci : (nI i).toNatClampNeg = i := nI_clamp (by omega)
    refine pk_le m i (fun z => absurd z (by omega)) (fun _ => ⟨pk_in i 6 (by omega), pk_in i 6 (by omega), ?_⟩)
    have skip : (∀ c, c < 6 → ¬ (b i = 2 ^ c ∧ dq_T k cn lf rt a3 c)) → ∀ c, c < 6 → (o.testBit c = true ↔ (x.testBit c = true ∨ ∃ j, j < i + 1 ∧ b j = 2 ^ c ∧ dq_T k cn lf rt a3 c)) := by
      intro hn c hc
      rw [h2 c hc]
      constructor
      · rintro (z | ⟨j, j1, j2⟩)
        · exact .inl z
        · exact .inr ⟨j, by omega, j2⟩
      · rintro (z | ⟨j, j1, j2⟩)
        · exact .inl z
        · by_cases e : j = i
          · rw [e] at j2
            exact absurd j2 (hn c hc)
          · exact .inr ⟨j, by omega, j2⟩
    rw [ci, ha i hi]
    refine ek_if (dq_pow2 (b i) b1 b2) (fun g => ?_) (fun g => ?_)
    · obtain ⟨c, hc, ec⟩ := g
      refine br_f (by decide) ⟨pk_in i 6 (by omega), ?_⟩
      rw [ci, ha i hi, ec]
      refine dq_lowestOf hc (dq_isDet hk hl hcn hc (fun t => ?_) (fun t => ?_))
      · refine br_f (by decide) ⟨pk_in i 6 (by omega), nm_r (dq_or o (2 ^ c)) (nm_r (nI_1 i) (hw _ ⟨o ||| 2 ^ c, rfl, dq_or_lt h1 (dq_pw_lt hc), fun c' hc' => ?_⟩))⟩
        rw [dq_or_i, h2 c' hc', dq_pw_i]
        constructor
        · rintro ((z | ⟨j, j1, j2⟩) | z)
          · exact .inl z
          · exact .inr ⟨j, by omega, j2⟩
          · subst z
            exact .inr ⟨i, by omega, ec, t⟩
        · rintro (z | ⟨j, j1, j2⟩)
          · exact .inl (.inl z)
          · by_cases e : j = i
            · rw [e, ec] at j2
              refine .inr ?_
              have := (dq_pw_i c' c).mp (by rw [← j2.1]; exact (dq_pw_i c c).mpr rfl)
              exact this.symm
            · exact .inl (.inr ⟨j, by omega, j2⟩)
      · refine br_t rfl (nm_r (nI_1 i) (hw _ ⟨o, rfl, h1, skip (fun c' hc' z => t ?_)⟩))
        have := (dq_pw_i c' c).mp (by rw [← z.1, ec]; exact (dq_pw_i c c).mpr rfl)
        rw [← this]
        exact z.2
    · exact br_t rfl (nm_r (nI_1 i) (hw _ ⟨o, rfl, h1, skip (fun c' hc' z => g ⟨c', hc', z.1⟩)⟩))
end
section
theorem dq_splitBlock_v2 {post : Int32 → St1 → Prop} {c0 cg sd sc kc pc ro : Int32} {a1 a2 a3 a4 a5 a6 a7 a8 a9 a10 a11 a12 a13 a14 : Nat → Int32} {D : Nat → Nat → Prop} {x m k v w : Nat} {b : Nat → Nat} (h : dq_PV D x m b) (ha : ∀ j, j < m → a4 j = nI (b j)) (hk : k < m) (hD : D v w) (hv : b k &&& v = 0)
    (H0 : (b k &&& w = 0 ∨ b k &&& w = b k) → post 0 (c0, cg, nI m, sd, sc, kc, pc, ro, a1, a2, a3, a4, a5, a6, a7, a8, a9, a10, a11, a12, a13, a14))
    (H1 : ∀ (a : Nat → Int32) (b' : Nat → Nat), dq_PV D x (m + 1) b' → (∀ j, j < m + 1 → a j = nI (b' j)) → post 1 (c0, cg, nI (m + 1), sd, sc, kc, pc, ro, a1, a2, a3, a, a5, a6, a7, a8, a9, a10, a11, a12, a13, a14)) :
    wpX_splitBlock_2 post (c0, cg, nI m, sd, sc, kc, pc, ro, a1, a2, a3, a4, a5, a6, a7, a8, a9, a10, a11, a12, a13, a14) (nI k) (nI w) := by
  have hm := dq_PV_le h
  have b1 := (h.1 k hk).1
  have l1 := dq_and_lt w b1
  have ak := ha k hk
  have ck : (nI k).toNatClampNeg = k := nI_clamp (by omega)
  have cm : (nI m).toNatClampNeg = m := nI_clamp (by omega)
  unfold wpX_splitBlock_2
  dsimp only
  rw [ck, ak, cm, dq_and]
  refine ⟨pk_in k 6 (by omega), nm_e ?_⟩
  refine pk_eq (b k &&& w) 0 (fun e => H0 (.inl e)) (fun e0 => ⟨pk_in k 6 (by omega), ?_⟩)
  refine pk_eq (b k &&& w) (b k) (fun e => H0 (.inr e)) (fun e1 => ⟨pk_in k 6 (by omega), ?_⟩)
  have hs := dq_split h hk hD hv e0 e1
  have hm' := dq_PV_le hs
  refine ⟨pk_in m 6 (by omega), nm_e ⟨pk_in k 6 (by omega), nm_e (nm_r (nI_1 m) (H1 _ (dq_sp b k m w) hs (fun j hj => ?_)))⟩⟩
  rw [dq_not b1 l1]
  unfold dq_sp
  by_cases e : j = k
  · rw [e, pk_us, if_pos rfl]
  · rw [pk_un e, if_neg e]
    by_cases e2 : j = m
    · rw [e2, pk_us, if_pos rfl]
    · rw [pk_un e2, if_neg e2]
      exact ha j (by omega)
theorem dq_splitBy_v2 {post : Int32 → St1 → Prop} {c0 cg sd sc kc pc ro : Int32} {a1 a2 a3 a4 a5 a6 a7 a8 a9 a10 a11 a12 a13 a14 : Nat → Int32} {D : Nat → Nat → Prop} {x m v w : Nat} {b : Nat → Nat} (h : dq_PV D x m b) (ha : ∀ j, j < m → a4 j = nI (b j)) (hD : D v w)
    (H0 : (∀ j, j < m → b j &&& v = 0 → b j &&& w = 0 ∨ b j &&& w = b j) → post 0 (c0, cg, nI m, sd, sc, kc, pc, ro, a1, a2, a3, a4, a5, a6, a7, a8, a9, a10, a11, a12, a13, a14))
    (H1 : ∀ (m' : Nat) (a : Nat → Int32) (b' : Nat → Nat), m + 1 ≤ m' → 1 ≤ m → dq_PV D x m' b' → (∀ j, j < m' → a j = nI (b' j)) → post 1 (c0, cg, nI m', sd, sc, kc, pc, ro, a1, a2, a3, a, a5, a6, a7, a8, a9, a10, a11, a12, a13, a14)) :
    wpX_splitBy_2 post (c0, cg, nI m, sd, sc, kc, pc, ro, a1, a2, a3, a4, a5, a6, a7, a8, a9, a10, a11, a12, a13, a14) (nI v) (nI w) := by
  have hm := dq_PV_le h
  refine dq_lp3 (fun n i s1 s2 s3 => wX_splitBy_2_11 post (nI v) (nI w) (nI m) n s1 (nI i) c0 cg s2 sd sc kc pc ro a1 a2 a3 s3 a5 a6 a7 a8 a9 a10 a11 a12 a13 a14)
    (fun i s1 s2 s3 => (s1 = 0 ∧ s2 = nI m ∧ s3 = a4 ∧ ∀ j, j < i → b j &&& v = 0 → b j &&& w = 0 ∨ b j &&& w = b j) ∨ (s1 = 1 ∧ 1 ≤ m ∧ ∃ m' b', m + 1 ≤ m' ∧ dq_PV D x m' b' ∧ s2 = nI m' ∧ ∀ j, j < m' → s3 j = nI (b' j)))
    m 0 0 (nI m) a4 (by omega) (.inl ⟨rfl, rfl, rfl, fun j hj => absurd hj (by omega)⟩) ?_ ?_
  · rintro n s1 s2 s3 (⟨rfl, rfl, rfl, h4⟩ | ⟨rfl, h1, m', b', h2, h3, rfl, h4⟩)
    · exact pk_le m m (fun _ => ⟨dq_nb0, H0 h4⟩) (fun z => absurd z (by omega))
    · exact pk_le m m (fun _ => ⟨dq_nb1, H1 m' s3 b' h2 h1 h3 h4⟩) (fun z => absurd z (by omega))
  · rintro n i s1 s2 s3 hi (⟨rfl, rfl, rfl, h4⟩ | ⟨rfl, h1, m', b', h2, h3, rfl, h4⟩) hw
    · refine pk_le m i (fun z => absurd z (by omega)) (fun _ => ⟨pk_in i 6 (by omega), ?_⟩)
      rw [nI_clamp (show i < 2 ^ 31 by omega), ha i hi, dq_and]
      have l1 := dq_and_lt v (h.1 i hi).1
      refine dq_if00 (b i &&& v) (fun g => ?_) (fun g => nm_r (nI_1 i) (hw 0 (nI m) _ (.inl ⟨rfl, rfl, rfl, lt_s h4 (fun z => absurd z g)⟩)))
      refine dq_splitBlock_v2 h ha hi hD g (fun e => br_t rfl (br_t rfl (nm_r (nI_1 i) (hw 0 (nI m) _ (.inl ⟨rfl, rfl, rfl, lt_s h4 (fun _ => e)⟩))))) (fun a b' e1 e2 => ?_)
      exact br_t rfl (br_f (by decide) (nm_r (nI_1 i) (hw 1 (nI (m + 1)) a (.inr ⟨rfl, by omega, m + 1, b', by omega, e1, rfl, e2⟩))))
    · have hm' := dq_PV_le h3
      have hi' : i < m' := by omega
      refine pk_le m i (fun z => absurd z (by omega)) (fun _ => ⟨pk_in i 6 (by omega), ?_⟩)
      rw [nI_clamp (show i < 2 ^ 31 by omega), h4 i hi', dq_and]
      have l1 := dq_and_lt v (h3.1 i hi').1
      refine dq_if00 (b' i &&& v) (fun g => ?_) (fun g => nm_r (nI_1 i) (hw 1 (nI m') s3 (.inr ⟨rfl, h1, m', b', h2, h3, rfl, h4⟩)))
      refine dq_splitBlock_v2 h3 h4 hi' hD g (fun e => br_f (by decide) (nm_r (nI_1 i) (hw 1 (nI m') s3 (.inr ⟨rfl, h1, m', b', h2, h3, rfl, h4⟩)))) (fun a b2 e1 e2 => ?_)
      exact br_f (by decide) (nm_r (nI_1 i) (hw 1 (nI (m' + 1)) a (.inr ⟨rfl, by omega, m' + 1, b2, by omega, e1, rfl, e2⟩)))
theorem dq_splitByGiven_v2 {post : Int32 → St1 → Prop} {c0 cg sd sc kc pc ro : Int32} {a1 a2 a3 a4 a5 a6 a7 a8 a9 a10 a11 a12 a13 a14 : Nat → Int32} {k : Nat} {cn : Nat → Prop} {lf rt : Nat → Nat} {x m d : Nat} {b : Nat → Nat} (hk : k ≤ 10) (hl : dq_lk k lf rt a1 a2) (hd : d < k) (hc : cn d)
    (h : dq_PV (dq_D k cn lf rt a3) x m b) (ha : ∀ j, j < m → a4 j = nI (b j))
    (H0 : (∀ w, ((¬ a3 d = 0 ∧ w = rt d) ∨ (a3 d = 0 ∧ ∃ c, c < 6 ∧ (rt d).testBit c = true ∧ w = 2 ^ c)) → ∀ j, j < m → b j &&& lf d = 0 → b j &&& w = 0 ∨ b j &&& w = b j) → post 0 (c0, cg, nI m, sd, sc, kc, pc, ro, a1, a2, a3, a4, a5, a6, a7, a8, a9, a10, a11, a12, a13, a14))
    (H1 : ∀ (m' : Nat) (a : Nat → Int32) (b' : Nat → Nat), m + 1 ≤ m' → 1 ≤ m → dq_PV (dq_D k cn lf rt a3) x m' b' → (∀ j, j < m' → a j = nI (b' j)) → post 1 (c0, cg, nI m', sd, sc, kc, pc, ro, a1, a2, a3, a, a5, a6, a7, a8, a9, a10, a11, a12, a13, a14)) :
    wpX_splitByGiven_2 post (c0, cg, nI m, sd, sc, kc, pc, ro, a1, a2, a3, a4, a5, a6, a7, a8, a9, a10, a11, a12, a13, a14) (nI d) := by
  obtain ⟨l1, l2, l3, l4⟩ := hl d hd
  have cd : (nI d).toNatClampNeg = d := nI_clamp (by omega)
  unfold wpX_splitByGiven_2
  dsimp only
  rw [cd, l3, l4]
  refine ⟨pk_in d 10 (by omega), br_c (fun g => ?_) (fun g => ⟨pk_in d 10 (by omega), pk_in d 10 (by omega), ?_⟩)⟩
  · refine dq_lp3 (fun n i s1 s2 s3 => wX_splitByGiven_2_30 post (nI d) n s1 (nI i) c0 cg s2 sd sc kc pc ro a1 a2 a3 s3 a5 a6 a7 a8 a9 a10 a11 a12 a13 a14)
      (fun i s1 s2 s3 => (s1 = 0 ∧ s2 = nI m ∧ s3 = a4 ∧ ∀ c, c < i → (rt d).testBit c = true → ∀ j, j < m → b j &&& lf d = 0 → b j &&& 2 ^ c = 0 ∨ b j &&& 2 ^ c = b j) ∨ (s1 = 1 ∧ 1 ≤ m ∧ ∃ m' b', m + 1 ≤ m' ∧ dq_PV (dq_D k cn lf rt a3) x m' b' ∧ s2 = nI m' ∧ ∀ j, j < m' → s3 j = nI (b' j)))
      6 0 0 (nI m) a4 (by omega) (.inl ⟨rfl, rfl, rfl, fun j hj => absurd hj (by omega)⟩) ?_ ?_
    · rintro n s1 s2 s3 (⟨rfl, rfl, rfl, h4⟩ | ⟨rfl, h1, m', b', h2, h3, rfl, h4⟩)
      · refine pk_le 6 6 (fun _ => ⟨dq_nb0, H0 ?_⟩) (fun z => absurd z (by omega))
        rintro w (⟨z, _⟩ | ⟨_, c, c1, c2, rfl⟩)
        · exact absurd g z
        · exact h4 c c1 c2
      · exact pk_le 6 6 (fun _ => ⟨dq_nb1, H1 m' s3 b' h2 h1 h3 h4⟩) (fun z => absurd z (by omega))
    · intro n i s1 s2 s3 hi hI hw
      refine pk_le 6 i (fun z => absurd z (by omega)) (fun _ => ⟨pk_in d 10 (by omega), ?_⟩)
      rw [cd, l3, l4]
      refine dq_if1 (rt d) i (fun g2 => ⟨pk_in d 10 (by omega), ?_⟩) (fun g2 => nm_r (nI_1 i) ?_)
      · rw [dq_shl i (by omega)]
        have hD : dq_D k cn lf rt a3 (lf d) (2 ^ i) := ⟨d, hd, hc, rfl, .inr ⟨g, i, hi, g2, rfl⟩⟩
        rcases hI with ⟨rfl, rfl, rfl, h4⟩ | ⟨rfl, h1, m', b', h2, h3, rfl, h4⟩
        · refine dq_splitBy_v2 h ha hD (fun e => br_t rfl (br_t rfl (nm_r (nI_1 i) (hw 0 (nI m) _ (.inl ⟨rfl, rfl, rfl, lt_s h4 (fun _ => e)⟩))))) (fun m' a b' e1 e2 e3 e4 => ?_)
          exact br_t rfl (br_f (by decide) (nm_r (nI_1 i) (hw 1 (nI m') a (.inr ⟨rfl, e2, m', b', e1, e3, rfl, e4⟩))))
        · refine dq_splitBy_v2 h3 h4 hD (fun e => br_f (by decide) (nm_r (nI_1 i) (hw 1 (nI m') s3 (.inr ⟨rfl, h1, m', b', h2, h3, rfl, h4⟩)))) (fun m2 a b2 e1 e2 e3 e4 => ?_)
          exact br_f (by decide) (nm_r (nI_1 i) (hw 1 (nI m2) a (.inr ⟨rfl, h1, m2, b2, by omega, e3, rfl, e4⟩)))
      · rcases hI with ⟨rfl, rfl, rfl, h4⟩ | ⟨rfl, h1, m', b', h2, h3, rfl, h4⟩
        · exact hw 0 (nI m) _ (.inl ⟨rfl, rfl, rfl, lt_s h4 (fun z => absurd z g2)⟩)
        · exact hw 1 (nI m') s3 (.inr ⟨rfl, h1, m', b', h2, h3, rfl, h4⟩)
  · have hD : dq_D k cn lf rt a3 (lf d) (rt d) := ⟨d, hd, hc, rfl, .inl ⟨g, rfl⟩⟩
    refine dq_splitBy_v2 h ha hD (fun e => ⟨dq_nb0, H0 ?_⟩) (fun m' a b' e1 e2 e3 e4 => ⟨dq_nb1, H1 m' a b' e1 e2 e3 e4⟩)
    rintro w (⟨_, rfl⟩ | ⟨z, _⟩)
    · exact e
    · exact absurd z g
theorem dq_fb47_v2 {post : St1 → Prop} {J : Int32 → Int32 → Int32 → Int32 → Int32 → Int32 → Int32 → Int32 → Int32 → Int32 → (Nat → Int32) → (Nat → Int32) → (Nat → Int32) → (Nat → Int32) → (Nat → Int32) → (Nat → Int32) → (Nat → Int32) → (Nat → Int32) → (Nat → Int32) → (Nat → Int32) → (Nat → Int32) → (Nat → Int32) → (Nat → Int32) → (Nat → Int32) → Prop} {cg sd sc kc pc ro : Int32} {a1 a2 a3 a4 a5 a6 a7 a8 a9 a10 a11 a12 a13 a14 : Nat → Int32} {k : Nat} {cn : Nat → Prop} {lf rt : Nat → Nat} {x m r : Nat} {b : Nat → Nat} (hk : k ≤ 10) (hl : dq_lk k lf rt a1 a2) (hcn : dq_cn k cn cg)
    (h : dq_PV (dq_D k cn lf rt a3) x m b) (ha : ∀ j, j < m → a4 j = nI (b j))
    (H0 : (∀ j, j < m → dq_un (dq_D k cn lf rt a3) (b j)) → J 0 (nI (r + 1)) (nI k) cg (nI m) sd sc kc pc ro a1 a2 a3 a4 a5 a6 a7 a8 a9 a10 a11 a12 a13 a14)
    (H1 : ∀ (m' : Nat) (a : Nat → Int32) (b' : Nat → Nat), m + 1 ≤ m' → 1 ≤ m → dq_PV (dq_D k cn lf rt a3) x m' b' → (∀ j, j < m' → a j = nI (b' j)) → J 1 (nI (r + 1)) (nI k) cg (nI m') sd sc kc pc ro a1 a2 a3 a a5 a6 a7 a8 a9 a10 a11 a12 a13 a14) :
    ∃ n, wX_findBasis_2_47 post J (nI r) n 0 0 (nI k) cg (nI m) sd sc kc pc ro a1 a2 a3 a4 a5 a6 a7 a8 a9 a10 a11 a12 a13 a14 := by
  refine dq_lp3 (fun n i s1 s2 s3 => wX_findBasis_2_47 post J (nI r) n s1 (nI i) (nI k) cg s2 sd sc kc pc ro a1 a2 a3 s3 a5 a6 a7 a8 a9 a10 a11 a12 a13 a14)
    (fun i s1 s2 s3 => (s1 = 0 ∧ s2 = nI m ∧ s3 = a4 ∧ ∀ d, d < i → cn d → ∀ w, ((¬ a3 d = 0 ∧ w = rt d) ∨ (a3 d = 0 ∧ ∃ c, c < 6 ∧ (rt d).testBit c = true ∧ w = 2 ^ c)) → ∀ j, j < m → b j &&& lf d = 0 → b j &&& w = 0 ∨ b j &&& w = b j) ∨ (s1 = 1 ∧ 1 ≤ m ∧ ∃ m' b', m + 1 ≤ m' ∧ dq_PV (dq_D k cn lf rt a3) x m' b' ∧ s2 = nI m' ∧ ∀ j, j < m' → s3 j = nI (b' j)))
    k 0 0 (nI m) a4 (by omega) (.inl ⟨rfl, rfl, rfl, fun j hj => absurd hj (by omega)⟩) ?_ ?_
  · rintro n s1 s2 s3 (⟨rfl, rfl, rfl, h4⟩ | ⟨rfl, h1, m', b', h2, h3, rfl, h4⟩)
    · refine pk_le k k (fun _ => nm_r (nI_1 r) (H0 ?_)) (fun z => absurd z (by omega))
      rintro j hj v w ⟨d, d1, d2, rfl, d4⟩ h0
      exact h4 d d1 d2 w d4 j hj h0
    · exact pk_le k k (fun _ => nm_r (nI_1 r) (H1 m' s3 b' h2 h1 h3 h4)) (fun z => absurd z (by omega))
  · intro n i s1 s2 s3 hi hI hw
    refine pk_le k i (fun z => absurd z (by omega)) (fun _ => ek_if (hcn i hi) (fun hc => ?_) (fun hc => nm_r (nI_1 i) ?_))
    · rcases hI with ⟨rfl, rfl, rfl, h4⟩ | ⟨rfl, h1, m', b', h2, h3, rfl, h4⟩
      · refine dq_splitByGiven_v2 hk hl hi hc h ha (fun e => br_t rfl (br_t rfl (nm_r (nI_1 i) (hw 0 (nI m) _ (.inl ⟨rfl, rfl, rfl, lt_s h4 (fun _ => e)⟩))))) (fun m' a b' e1 e2 e3 e4 => ?_)
        exact br_t rfl (br_f (by decide) (nm_r (nI_1 i) (hw 1 (nI m') a (.inr ⟨rfl, e2, m', b', e1, e3, rfl, e4⟩))))
      · refine dq_splitByGiven_v2 hk hl hi hc h3 h4 (fun e => br_f (by decide) (nm_r (nI_1 i) (hw 1 (nI m') s3 (.inr ⟨rfl, h1, m', b', h2, h3, rfl, h4⟩)))) (fun m2 a b2 e1 e2 e3 e4 => ?_)
        exact br_f (by decide) (nm_r (nI_1 i) (hw 1 (nI m2) a (.inr ⟨rfl, h1, m2, b2, by omega, e3, rfl, e4⟩)))
    · rcases hI with ⟨rfl, rfl, rfl, h4⟩ | ⟨rfl, h1, m', b', h2, h3, rfl, h4⟩
      · exact hw 0 (nI m) _ (.inl ⟨rfl, rfl, rfl, lt_s h4 (fun z => absurd z hc)⟩)
      · exact hw 1 (nI m') s3 (.inr ⟨rfl, h1, m', b', h2, h3, rfl, h4⟩)
theorem dq_fb32_v2 {post : St1 → Prop} {cg sd sc kc pc ro : Int32} {a1 a2 a3 a4 a5 a6 a7 a8 a9 a10 a11 a12 a13 a14 : Nat → Int32} {k : Nat} {cn : Nat → Prop} {lf rt : Nat → Nat} {x m : Nat} {b : Nat → Nat} (hk : k ≤ 10) (hl : dq_lk k lf rt a1 a2) (hcn : dq_cn k cn cg)
    (h : dq_PV (dq_D k cn lf rt a3) x m b) (ha : ∀ j, j < m → a4 j = nI (b j))
    (H : ∀ (m' : Nat) (a : Nat → Int32) (b' : Nat → Nat), dq_BA (dq_D k cn lf rt a3) x m' b' → (∀ j, j < m' → a j = nI (b' j)) → post (nI k, cg, nI m', sd, sc, kc, pc, ro, a1, a2, a3, a, a5, a6, a7, a8, a9, a10, a11, a12, a13, a14)) :
    ∃ n, wX_findBasis_2_32 post n 1 0 (nI k) cg (nI m) sd sc kc pc ro a1 a2 a3 a4 a5 a6 a7 a8 a9 a10 a11 a12 a13 a14 := by
  refine dq_lp3 (fun n i s1 s2 s3 => wX_findBasis_2_32 post n s1 (nI i) (nI k) cg s2 sd sc kc pc ro a1 a2 a3 s3 a5 a6 a7 a8 a9 a10 a11 a12 a13 a14)
    (fun i s1 s2 s3 => ∃ m b, dq_PV (dq_D k cn lf rt a3) x m b ∧ s2 = nI m ∧ (∀ j, j < m → s3 j = nI (b j)) ∧ ((s1 = 0 ∧ ∀ j, j < m → dq_un (dq_D k cn lf rt a3) (b j)) ∨ (s1 = 1 ∧ (i = 0 ∨ i + 1 ≤ m))))
    6 0 1 (nI m) a4 (by omega) ⟨m, b, h, rfl, ha, .inr ⟨rfl, .inl rfl⟩⟩ ?_ ?_
  · rintro n s1 s2 s3 ⟨m, b, h1, rfl, h3, ⟨rfl, h4⟩ | ⟨rfl, h4⟩⟩
    · exact pk_le 6 6 (fun _ => H m s3 b ⟨h1, h4⟩ h3) (fun z => absurd z (by omega))
    · have := dq_PV_le h1
      omega
  · rintro n i s1 s2 s3 hi ⟨m, b, h1, rfl, h3, ⟨rfl, h4⟩ | ⟨rfl, h4⟩⟩ hw
    · exact pk_le 6 i (fun z => absurd z (by omega)) (fun _ => br_t rfl (H m s3 b ⟨h1, h4⟩ h3))
    · refine pk_le 6 i (fun z => absurd z (by omega)) (fun _ => br_f (by decide) (dq_fb47_v2 hk hl hcn h1 h3 (fun e => ?_) (fun m' a b' e1 e2 e3 e4 => ?_)))
      · exact hw 0 (nI m) s3 ⟨m, b, h1, rfl, h3, .inl ⟨rfl, e⟩⟩
      · exact hw 1 (nI m') a ⟨m', b', e3, rfl, e4, .inr ⟨rfl, .inr (by omega)⟩⟩
theorem dq_findBasis_v2 {post : St1 → Prop} {cg bk sd sc kc pc ro : Int32} {a1 a2 a3 a4 a5 a6 a7 a8 a9 a10 a11 a12 a13 a14 : Nat → Int32} {k : Nat} {cn : Nat → Prop} {lf rt : Nat → Nat} {x : Nat} (hk : k ≤ 10) (hl : dq_lk k lf rt a1 a2) (hcn : dq_cn k cn cg) (hx : x < 64)
    (H : ∀ (m' : Nat) (a : Nat → Int32) (b' : Nat → Nat), dq_BA (dq_D k cn lf rt a3) x m' b' → (∀ j, j < m' → a j = nI (b' j)) → post (nI k, cg, nI m', sd, sc, kc, pc, ro, a1, a2, a3, a, a5, a6, a7, a8, a9, a10, a11, a12, a13, a14)) :
    wpX_findBasis_2 post (nI k, cg, bk, sd, sc, kc, pc, ro, a1, a2, a3, a4, a5, a6, a7, a8, a9, a10, a11, a12, a13, a14) (nI x) := by
  refine pk_eq x 63 (fun e => ?_) (fun e => nm_e ?_)
  · subst e
    exact dq_fb32_v2 (m := 0) (b := fun _ => 0) hk hl hcn dq_PV_0 (fun j hj => absurd hj (by omega)) H
  · refine dq_fb32_v2 (m := 1) (b := fun _ => dq_mi 63 x) hk hl hcn (dq_PV_1 hx e rfl) (fun j hj => ?_) H
    have e0 : j = 0 := by omega
    rw [e0, pk_us]
    exact dq_not (a := 63) (by decide) hx
theorem dq_closeSet_v2 {post : Int32 → St1 → Prop} {cg bk sd sc kc pc ro : Int32} {a1 a2 a3 a4 a5 a6 a7 a8 a9 a10 a11 a12 a13 a14 : Nat → Int32} {k : Nat} {cn : Nat → Prop} {lf rt : Nat → Nat} {x : Nat} (hk : k ≤ 10) (hl : dq_lk k lf rt a1 a2) (hcn : dq_cn k cn cg) (hx : x < 64)
    (H : ∀ (m' : Int32) (a : Nat → Int32), post (nI (dq_cl (dq_D k cn lf rt a3) (dq_T k cn lf rt a3) x)) (nI k, cg, m', sd, sc, kc, pc, ro, a1, a2, a3, a, a5, a6, a7, a8, a9, a10, a11, a12, a13, a14)) :
    wpX_closeSet_2 post (nI k, cg, bk, sd, sc, kc, pc, ro, a1, a2, a3, a4, a5, a6, a7, a8, a9, a10, a11, a12, a13, a14) (nI x) := by
  refine dq_findBasis_v2 (bk := bk) hk hl hcn hx (fun m a b hb ha => ?_)
  have hm := dq_PV_le hb.1
  have G : ∀ (o : Nat), (∀ c, c < 6 → (o.testBit c = true ↔ (x.testBit c = true ∨ ∃ j, j < m ∧ b j = 2 ^ c ∧ dq_T k cn lf rt a3 c))) → o < 64 → post (nI o) (nI k, cg, nI m, sd, sc, kc, pc, ro, a1, a2, a3, a, a5, a6, a7, a8, a9, a10, a11, a12, a13, a14) := by
    intro o ho ol
    have e : o = dq_cl (dq_D k cn lf rt a3) (dq_T k cn lf rt a3) x := by
      apply dq_ext ol (dq_cl_lt _ _ _)
      intro c hc
      rw [ho c hc, dq_cl_i, dq_BA_cl hb c hc]
      exact ⟨fun z => ⟨hc, z⟩, fun z => z.2⟩
    rw [e]
    exact H _ _
  refine dq_lp1 (fun n i s => wX_closeSet_2_9 post (nI k) cg (nI m) sd sc kc pc ro a1 a2 a3 a a5 a6 a7 a8 a9 a10 a11 a12 a13 a14 n s (nI i))
    (fun i s => ∃ o, s = nI o ∧ o < 64 ∧ ∀ c, c < 6 → (o.testBit c = true ↔ (x.testBit c = true ∨ ∃ j, j < i ∧ b j = 2 ^ c ∧ dq_T k cn lf rt a3 c))) m 0 (nI x) (by omega)
    ⟨x, rfl, hx, fun c hc => ⟨.inl, fun z => z.elim id (fun ⟨j, hj, _⟩ => absurd hj (by omega))⟩⟩ ?_ ?_
  · rintro n s ⟨o, rfl, h1, h2⟩
    exact pk_le m m (fun _ => G o h2 h1) (fun z => absurd z (by omega))
  · rintro n i s hi ⟨o, rfl, h1, h2⟩ hw
    obtain ⟨b1, b2, b3⟩ := hb.1.1 i hi
    have ci : (nI i).toNatClampNeg = i := nI_clamp (by omega)
    refine pk_le m i (fun z => absurd z (by omega)) (fun _ => ⟨pk_in i 6 (by omega), pk_in i 6 (by omega), ?_⟩)
    have skip : (∀ c, c < 6 → ¬ (b i = 2 ^ c ∧ dq_T k cn lf rt a3 c)) → ∀ c, c < 6 → (o.testBit c = true ↔ (x.testBit c = true ∨ ∃ j, j < i + 1 ∧ b j = 2 ^ c ∧ dq_T k cn lf rt a3 c)) := by
      intro hn c hc
      rw [h2 c hc]
      constructor
      · rintro (z | ⟨j, j1, j2⟩)
        · exact .inl z
        · exact .inr ⟨j, by omega, j2⟩
      · rintro (z | ⟨j, j1, j2⟩)
        · exact .inl z
        · by_cases e : j = i
          · rw [e] at j2
            exact absurd j2 (hn c hc)
          · exact .inr ⟨j, by omega, j2⟩
    rw [ci, ha i hi]
    refine ek_if (dq_pow2 (b i) b1 b2) (fun g => ?_) (fun g => ?_)
    · obtain ⟨c, hc, ec⟩ := g
      refine br_f (by decide) ⟨pk_in i 6 (by omega), ?_⟩
      rw [ci, ha i hi, ec]
      refine dq_lowestOf hc (dq_isDet hk hl hcn hc (fun t => ?_) (fun t => ?_))
      · refine br_f (by decide) ⟨pk_in i 6 (by omega), nm_r (dq_or o (2 ^ c)) (nm_r (nI_1 i) (hw _ ⟨o ||| 2 ^ c, rfl, dq_or_lt h1 (dq_pw_lt hc), fun c' hc' => ?_⟩))⟩
        rw [dq_or_i, h2 c' hc', dq_pw_i]
        constructor
        · rintro ((z | ⟨j, j1, j2⟩) | z)
          · exact .inl z
          · exact .inr ⟨j, by omega, j2⟩
          · subst z
            exact .inr ⟨i, by omega, ec, t⟩
        · rintro (z | ⟨j, j1, j2⟩)
          · exact .inl (.inl z)
          · by_cases e : j = i
            · rw [e, ec] at j2
              refine .inr ?_
              have := (dq_pw_i c' c).mp (by rw [← j2.1]; exact (dq_pw_i c c).mpr rfl)
              exact this.symm
            · exact .inl (.inr ⟨j, by omega, j2⟩)
      · refine br_t rfl (nm_r (nI_1 i) (hw _ ⟨o, rfl, h1, skip (fun c' hc' z => t ?_)⟩))
        have := (dq_pw_i c' c).mp (by rw [← z.1, ec]; exact (dq_pw_i c c).mpr rfl)
        rw [← this]
        exact z.2
    · exact br_t rfl (nm_r (nI_1 i) (hw _ ⟨o, rfl, h1, skip (fun c' hc' z => g ⟨c', hc', z.1⟩)⟩))
end
section
/-! counting -/
noncomputable def dq_ct (P : Nat → Prop) : Nat → Nat
  | 0 => 0
  | n + 1 => dq_ct P n + @ite Nat (P n) (Classical.propDecidable _) 1 0
theorem dq_ct_t {P : Nat → Prop} {n : Nat} (h : P n) : dq_ct P (n + 1) = dq_ct P n + 1 := by
  show dq_ct P n + @ite Nat (P n) (Classical.propDecidable _) 1 0 = _
  rw [if_pos h]
theorem dq_ct_f {P : Nat → Prop} {n : Nat} (h : ¬ P n) : dq_ct P (n + 1) = dq_ct P n := by
  show dq_ct P n + @ite Nat (P n) (Classical.propDecidable _) 1 0 = _
  rw [if_neg h]
  omega
theorem dq_ct_s (P : Nat → Prop) (n : Nat) : dq_ct P n ≤ dq_ct P (n + 1) ∧ dq_ct P (n + 1) ≤ dq_ct P n + 1 := by
  by_cases h : P n
  · rw [dq_ct_t h]
    omega
  · rw [dq_ct_f h]
    omega
theorem dq_ct_le (P : Nat → Prop) (n : Nat) : dq_ct P n ≤ n := by
  induction n with
  | zero => exact Nat.le_refl 0
  | succ n ih =>
    have := dq_ct_s P n
    omega
theorem dq_ct_mono (P : Nat → Prop) {m n : Nat} (h : m ≤ n) : dq_ct P m ≤ dq_ct P n := by
  induction n with
  | zero =>
    have e : m = 0 := by omega
    rw [e]
    exact Nat.le_refl _
  | succ n ih =>
    by_cases e : m = n + 1
    · rw [e]
      exact Nat.le_refl _
    · have := dq_ct_s P n
      have := ih (by omega)
      omega
theorem dq_ct_c {P Q : Nat → Prop} {n : Nat} (h : ∀ j, j < n → (P j ↔ Q j)) : dq_ct P n = dq_ct Q n := by
  induction n with
  | zero => rfl
  | succ n ih =>
    have e := ih (fun j hj => h j (by omega))
    by_cases g : P n
    · rw [dq_ct_t g, dq_ct_t ((h n (by omega)).mp g), e]
    · rw [dq_ct_f g, dq_ct_f (fun z => g ((h n (by omega)).mpr z)), e]
theorem dq_ct_0 {P : Nat → Prop} {n : Nat} (h : ∀ j, j < n → ¬ P j) : dq_ct P n = 0 := by
  induction n with
  | zero => rfl
  | succ n ih => rw [dq_ct_f (h n (by omega)), ih (fun j hj => h j (by omega))]
theorem dq_ct_add {P Q : Nat → Prop} {n x : Nat} (hx : x < n) (h1 : ¬ P x) (h2 : Q x) (h : ∀ j, j < n → j ≠ x → (P j ↔ Q j)) : dq_ct Q n = dq_ct P n + 1 := by
  induction n with
  | zero => omega
  | succ n ih =>
    by_cases e : x = n
    · rw [e] at h1 h2
      rw [dq_ct_f h1, dq_ct_t h2, dq_ct_c (P := P) (Q := Q) (fun j hj => h j (by omega) (by omega))]
    · have k := ih (by omega) (fun j hj hj2 => h j (by omega) hj2)
      by_cases g : P n
      · rw [dq_ct_t g, dq_ct_t ((h n (by omega) (by omega)).mp g), k]
      · rw [dq_ct_f g, dq_ct_f (fun z => g ((h n (by omega) (by omega)).mpr z)), k]
/-! the order in which higher columns count less -/
def dq_rv (x : Nat) : Nat := x % 2 * 32 + x / 2 % 2 * 16 + x / 4 % 2 * 8 + x / 8 % 2 * 4 + x / 16 % 2 * 2 + x / 32 % 2
theorem dq_rv_64 (x : Nat) : dq_rv x < 64 := by
  unfold dq_rv
  omega
theorem dq_rv_630 : ∀ x, x < 64 → x ≠ 63 → dq_rv x < dq_rv 63 := by decide +kernel
theorem dq_rv_63 {x : Nat} (hx : x < 64) (h : x ≠ 63) : dq_rv x < dq_rv 63 := dq_rv_630 x hx h
theorem dq_rv_inj0 : ∀ x, x < 64 → ∀ y, y < 64 → dq_rv x = dq_rv y → x = y := by decide +kernel
theorem dq_rv_inj {x y : Nat} (hx : x < 64) (hy : y < 64) (h : dq_rv x = dq_rv y) : x = y := dq_rv_inj0 x hx y hy h
theorem dq_rv_ex : ∀ x, x < 64 → ∀ y, y < 64 → dq_rv x < dq_rv y → ∃ c, c < 6 ∧ (y.testBit c = true ∧ ¬ x.testBit c = true ∧ x % 2 ^ c = y % 2 ^ c) := by
  have h : ∀ x, x < 64 → ∀ y, y < 64 → dq_rv x < dq_rv y → (List.range 6).any (fun c => y.testBit c && !x.testBit c && decide (x % 2 ^ c = y % 2 ^ c)) = true := by decide +kernel
  intro x hx y hy hr
  have g := h x hx y hy hr
  rw [List.any_eq_true] at g
  obtain ⟨c, c1, c2⟩ := g
  rw [List.mem_range] at c1
  rw [Bool.and_eq_true, Bool.and_eq_true, decide_eq_true_iff, Bool.not_eq_true', dq_nf] at c2
  exact ⟨c, c1, c2.1.1, c2.1.2, c2.2⟩
theorem dq_rv_of0 : ∀ x, x < 64 → ∀ y, y < 64 → (List.range 6).all (fun c => !(y.testBit c && !x.testBit c && decide (x % 2 ^ c = y % 2 ^ c)) || decide (dq_rv x < dq_rv y)) = true := by decide +kernel
theorem dq_rv_of (x : Nat) (hx : x < 64) (y : Nat) (hy : y < 64) (c : Nat) (hc : c < 6) (h1 : y.testBit c = true) (h2 : ¬ x.testBit c = true) (h3 : x % 2 ^ c = y % 2 ^ c) : dq_rv x < dq_rv y := by
  have g := dq_rv_of0 x hx y hy
  rw [List.all_eq_true] at g
  have k := g c (List.mem_range.mpr hc)
  rw [h1, dq_nf.mpr h2, decide_eq_true h3] at k
  exact of_decide_eq_true k
theorem dq_rv_su0 : ∀ x, x < 64 → ∀ y, y < 64 → dq_mi x y = 0 → dq_rv x ≤ dq_rv y := by decide +kernel
theorem dq_rv_su {x y : Nat} (hx : x < 64) (hy : y < 64) (h : dq_su x y) : dq_rv x ≤ dq_rv y := dq_rv_su0 x hx y hy ((dq_mi0 hx).mpr h)
theorem dq_md {x y i : Nat} : x % 2 ^ i = y % 2 ^ i ↔ ∀ d, d < i → (x.testBit d = true ↔ y.testBit d = true) := by
  constructor
  · intro h d hd
    have e : (x % 2 ^ i).testBit d = (y % 2 ^ i).testBit d := by rw [h]
    rw [Nat.testBit_mod_two_pow, Nat.testBit_mod_two_pow, decide_eq_true hd, Bool.true_and, Bool.true_and] at e
    rw [e]
  · intro h
    apply Nat.eq_of_testBit_eq
    intro d
    rw [Nat.testBit_mod_two_pow, Nat.testBit_mod_two_pow]
    by_cases hd : d < i
    · have := h d hd
      rw [decide_eq_true hd, Bool.true_and, Bool.true_and]
      cases ex : x.testBit d <;> cases ey : y.testBit d
      · rfl
      · rw [ex, ey] at this
        exact absurd (this.mpr rfl) (by decide)
      · rw [ex, ey] at this
        exact absurd (this.mp rfl) (by decide)
      · rfl
    · rw [decide_eq_false hd]
      rfl
/-! stems -/
/-- S has what each stem found, that is a smaller subset, gives -/
def dq_qc (K g : Nat → Nat) (s S : Nat) : Prop := ∀ j, j < s → dq_su (g j) S → g j ≠ S → dq_su (K (g j)) S
theorem dq_closedByStems {post : Int32 → Prop} {c0 cg bk sd kc pc ro : Int32} {a1 a2 a3 a4 a5 a6 a7 a8 a9 a10 a11 a12 a13 a14 : Nat → Int32} {K g : Nat → Nat} {s x : Nat} (hs : s ≤ 64) (h5 : ∀ j, j < 64 → a5 j = nI (K j)) (hK : ∀ j, j < 64 → K j < 64) (h6 : ∀ j, j < s → g j < 64 ∧ a6 j = nI (g j)) (hx : x < 64)
    (H : ∀ o, o < 64 → dq_su x o → (∀ S, S < 64 → dq_qc K g s S → dq_su x S → dq_su o S) → post (nI o)) : wpX_closedByStems post (c0, cg, bk, sd, nI s, kc, pc, ro, a1, a2, a3, a4, a5, a6, a7, a8, a9, a10, a11, a12, a13, a14) (nI x) := by
  refine dq_lp2 (fun n i s2 s3 => wX_closedByStems_7 post c0 cg bk sd (nI s) kc pc ro a1 a2 a3 a4 a5 a6 a7 a8 a9 a10 a11 a12 a13 a14 n s2 s3 (nI i))
    (fun i s2 s3 => ∃ o, s2 = nI o ∧ o < 64 ∧ dq_su x o ∧ ∀ S, S < 64 → dq_qc K g s S → dq_su x S → dq_su o S) 7 0 (nI x) 1 (by omega) ⟨x, rfl, hx, dq_su_r x, fun _ _ _ h => h⟩ ?_ ?_
  · rintro n s2 s3 ⟨o, rfl, o1, o2, o3⟩
    exact pk_le 7 7 (fun _ => H o o1 o2 o3) (fun z => absurd z (by omega))
  · rintro n i s2 s3 hi ⟨o, rfl, o1, o2, o3⟩ hw
    refine pk_le 7 i (fun z => absurd z (by omega)) (fun _ => br_c (fun _ => H o o1 o2 o3) (fun _ => ?_))
    refine dq_lp1 (fun n' j s2 => wX_closedByStems_24 post (wX_closedByStems_7 post c0 cg bk sd (nI s) kc pc ro a1 a2 a3 a4 a5 a6 a7 a8 a9 a10 a11 a12 a13 a14 n) (nI i) (nI o) c0 cg bk sd (nI s) kc pc ro a1 a2 a3 a4 a5 a6 a7 a8 a9 a10 a11 a12 a13 a14 n' s2 (nI j))
      (fun j s2 => ∃ o, s2 = nI o ∧ o < 64 ∧ dq_su x o ∧ ∀ S, S < 64 → dq_qc K g s S → dq_su x S → dq_su o S) s 0 (nI o) (by omega) ⟨o, rfl, o1, o2, o3⟩ ?_ ?_
    · rintro n' s2 ⟨o', rfl, p1, p2, p3⟩
      refine pk_le s s (fun _ => br_c (fun _ => nm_r (nI_1 i) (hw _ _ ⟨o', rfl, p1, p2, p3⟩)) (fun _ => nm_r (nI_1 i) (hw _ _ ⟨o', rfl, p1, p2, p3⟩))) (fun z => absurd z (by omega))
    · rintro n' j s2 hj ⟨o', rfl, p1, p2, p3⟩ hw2
      obtain ⟨g1, g2⟩ := h6 j hj
      have cj : (nI j).toNatClampNeg = j := nI_clamp (by omega)
      have cg' : (nI (g j)).toNatClampNeg = g j := nI_clamp (by omega)
      have same : wX_closedByStems_63 post (wX_closedByStems_7 post c0 cg bk sd (nI s) kc pc ro a1 a2 a3 a4 a5 a6 a7 a8 a9 a10 a11 a12 a13 a14 n) (wX_closedByStems_24 post (wX_closedByStems_7 post c0 cg bk sd (nI s) kc pc ro a1 a2 a3 a4 a5 a6 a7 a8 a9 a10 a11 a12 a13 a14 n) (nI i) (nI o) c0 cg bk sd (nI s) kc pc ro a1 a2 a3 a4 a5 a6 a7 a8 a9 a10 a11 a12 a13 a14 n') (nI o') (nI i) (nI o) (nI j) c0 cg bk sd (nI s) kc pc ro a1 a2 a3 a4 a5 a6 a7 a8 a9 a10 a11 a12 a13 a14 :=
        br_t rfl (nm_r (nI_1 j) (hw2 _ ⟨o', rfl, p1, p2, p3⟩))
      refine pk_le s j (fun z => absurd z (by omega)) (fun _ => ⟨pk_in j 64 (by omega), ?_⟩)
      rw [cj, g2]
      refine dq_within g1 p1 (fun e1 => br_f (by decide) ⟨pk_in j 64 (by omega), ?_⟩) (fun _ => br_t rfl same)
      refine pk_eq (g j) o' (fun _ => same) (fun e2 => ?_)
      refine br_f (by decide) ⟨pk_in j 64 (by omega), ?_⟩
      rw [cj, g2, cg', h5 _ g1]
      refine ⟨pk_in (g j) 64 g1, nm_r (dq_or o' (K (g j))) (nm_r (nI_1 j) (hw2 _ ⟨o' ||| K (g j), rfl, dq_or_lt p1 (hK _ g1), dq_su_t p2 (dq_or_l _ _), fun S S1 S2 S3 => ?_⟩))⟩
      have k := p3 S S1 S2 S3
      refine dq_or_su k (S2 j hj (dq_su_t e1 k) (fun z => e2 ?_))
      rw [z] at e1 ⊢
      exact dq_eq e1 k
theorem dq_nextSet {post : Int32 → Prop} {c0 cg bk sd kc pc ro : Int32} {a1 a2 a3 a4 a5 a6 a7 a8 a9 a10 a11 a12 a13 a14 : Nat → Int32} {K g : Nat → Nat} {s x : Nat} (hs : s ≤ 64) (h5 : ∀ j, j < 64 → a5 j = nI (K j)) (hK : ∀ j, j < 64 → K j < 64) (h6 : ∀ j, j < s → g j < 64 ∧ a6 j = nI (g j)) (hx : x < 64)
    (HN : (∀ S, S < 64 → dq_qc K g s S → ¬ dq_rv x < dq_rv S) → post (-1))
    (HS : ∀ o, o < 64 → dq_rv x < dq_rv o → (∀ S, S < 64 → dq_qc K g s S → dq_rv x < dq_rv S → ¬ dq_rv S < dq_rv o) → post (nI o)) : wpX_nextSet post (c0, cg, bk, sd, nI s, kc, pc, ro, a1, a2, a3, a4, a5, a6, a7, a8, a9, a10, a11, a12, a13, a14) (nI x) := by
  have key : ∃ n, wX_nextSet_2 post (nI x) c0 cg bk sd (nI s) kc pc ro a1 a2 a3 a4 a5 a6 a7 a8 a9 a10 a11 a12 a13 a14 n (nI 6 + (-1)) := by
    refine dq_ld0 (fun n i => wX_nextSet_2 post (nI x) c0 cg bk sd (nI s) kc pc ro a1 a2 a3 a4 a5 a6 a7 a8 a9 a10 a11 a12 a13 a14 n (nI i + (-1))) (fun i => i ≤ 6 ∧ ∀ S, S < 64 → dq_qc K g s S → ∀ c, i ≤ c → c < 6 → S.testBit c = true → ¬ x.testBit c = true → ¬ x % 2 ^ c = S % 2 ^ c) ?_ ?_ 6 ⟨by omega, fun _ _ _ c c1 c2 => by omega⟩
    · rintro n ⟨_, h⟩
      refine br_t dq_neg (HN (fun S S1 S2 S3 => ?_))
      obtain ⟨c, c1, c2, c3, c4⟩ := dq_rv_ex x hx S S1 S3
      exact h S S1 S2 c (by omega) c1 c2 c3 c4
    · rintro n i ⟨hi, h⟩ hw
      rw [dq_dn]
      refine br_f (nI_pos (by omega)) (dq_if0 x i (fun g0 => nm_e ?_) (fun g1 => nm_e (hw ⟨by omega, fun S S1 S2 c c1 c2 c3 c4 => ?_⟩)))
      · have hp := dq_pw_lt (c := i) (by omega)
        rw [dq_all1 i (by omega), dq_shl i (by omega), dq_and, dq_or, Nat.and_two_pow_sub_one_eq_mod]
        have hm : x % 2 ^ i < 64 := Nat.lt_of_le_of_lt (Nat.mod_le _ _) hx
        have hin : ∀ d, (x % 2 ^ i ||| 2 ^ i).testBit d = true ↔ ((d < i ∧ x.testBit d = true) ∨ i = d) := by
          intro d
          rw [dq_or_i, Nat.testBit_mod_two_pow, Bool.and_eq_true, decide_eq_true_iff, dq_pw_i]
        refine dq_closedByStems hs h5 hK h6 (dq_or_lt hm hp) (fun o o1 o2 o3 => ?_)
        rw [dq_and, Nat.and_two_pow_sub_one_eq_mod]
        have lo : o % 2 ^ i < 64 := Nat.lt_of_le_of_lt (Nat.mod_le _ _) o1
        -- what S must be that first differs from x at i
        have up : ∀ S, S < 64 → dq_qc K g s S → S.testBit i = true → x % 2 ^ i = S % 2 ^ i → dq_su o S := by
          intro S S1 S2 S3 S4
          refine o3 S S1 S2 (fun d hd => ?_)
          rcases (hin d).mp hd with ⟨z1, z2⟩ | z
          · exact (dq_md.mp S4 d z1).mp z2
          · rw [← z]
            exact S3
        refine pk_eq (o % 2 ^ i) (x % 2 ^ i) (fun e => HS o o1 ?_ ?_) (fun e => nm_e (hw ⟨by omega, fun S S1 S2 c c1 c2 c3 c4 c5 => ?_⟩))
        · exact dq_rv_of x hx o o1 i (by omega) (o2 i ((hin i).mpr (.inr rfl))) g0 e.symm
        · intro S S1 S2 S3
          obtain ⟨c, c1, c2, c3, c4⟩ := dq_rv_ex x hx S S1 S3
          by_cases ci : c = i
          · rw [ci] at c2 c4
            have := dq_rv_su o1 S1 (up S S1 S2 c2 c4)
            omega
          · by_cases ci2 : i + 1 ≤ c
            · exact absurd c4 (h S S1 S2 c ci2 c1 c2 c3)
            · have eo := dq_md.mp e
              have := dq_rv_of o o1 S S1 c c1 c2 (fun z => c3 ((eo c (by omega)).mp z)) (by
                rw [← c4]
                exact dq_md.mpr (fun d hd => eo d (by omega)))
              omega
        · by_cases ci : c = i
          · rw [ci] at c3 c5
            have u := up S S1 S2 c3 c5
            refine e (dq_md.mpr (fun d hd => ⟨fun z => ?_, fun z => o2 d ((hin d).mpr (.inl ⟨hd, z⟩))⟩))
            exact (dq_md.mp c5 d hd).mpr (u d z)
          · exact h S S1 S2 c (by omega) c2 c3 c4 c5
      · by_cases ci : c = i
        · rw [ci] at c4
          exact absurd g1 c4
        · exact h S S1 S2 c (by omega) c2 c3 c4
  rw [show nI 6 + (-1) = (5 : Int32) by decide] at key
  exact key
/-- the stems found, and what they are good for -/
def dq_ST (K g : Nat → Nat) (s : Nat) (a6 a7 : Nat → Int32) : Prop :=
  (∀ j, j < s → g j < 64 ∧ a6 j = nI (g j)) ∧ (∀ j, j < 64 → a7 j = 0 ∨ a7 j = 1) ∧ (∀ j, j < s → a7 (g j) = 1) ∧ (∀ q, q < 64 → a7 q = 1 → ∃ j, j < s ∧ g j = q) ∧ dq_ct (fun j => ¬ a7 j = 0) 64 = s
def dq_FS (K : Nat → Nat) (s : Nat) (a7 : Nat → Int32) : Prop :=
  s ≤ 64 ∧ (∀ j, j < 64 → a7 j = 0 ∨ a7 j = 1) ∧ dq_ct (fun j => ¬ a7 j = 0) 64 = s ∧ ∀ S, S < 64 → (∀ q, q < 64 → a7 q = 1 → dq_su q S → q ≠ S → dq_su (K q) S) → K S = S ∨ a7 S = 1
def dq_SI (K : Nat → Nat) (i : Nat) (x1 sc : Int32) (a6 a7 : Nat → Int32) : Prop :=
  ∃ s g, sc = nI s ∧ s ≤ i ∧ i ≤ 64 ∧ dq_ST K g s a6 a7 ∧ ((x1 = -1 ∧ ∀ S, S < 64 → dq_qc K g s S → K S = S ∨ a7 S = 1) ∨
    ∃ x, x < 64 ∧ x1 = nI x ∧ i ≤ dq_rv x ∧ (∀ q, q < 64 → a7 q = 1 → dq_rv q < dq_rv x) ∧ ∀ S, S < 64 → dq_rv S < dq_rv x → dq_qc K g s S → K S = S ∨ a7 S = 1)
theorem dq_SI_fin {K : Nat → Nat} {i : Nat} {sc : Int32} {a6 a7 : Nat → Int32} (h : dq_SI K i (-1) sc a6 a7) : ∃ s, sc = nI s ∧ dq_FS K s a7 := by
  obtain ⟨s, g, e1, e2, e3, ⟨t1, t2, t3, t4, t5⟩, e5⟩ := h
  refine ⟨s, e1, by omega, t2, t5, fun S S1 S2 => ?_⟩
  rcases e5 with ⟨_, e5⟩ | ⟨x, x1, x2, _⟩
  · exact e5 S S1 (fun j j1 j2 j3 => S2 (g j) (t1 j j1).1 (t3 j j1) j2 j3)
  · exfalso
    have : nI x = -1 := x2.symm
    exact nI_pos (show x < 2 ^ 31 by omega) (by rw [this]; decide)
theorem dq_fs82 {post : St1 → Prop} {J : Int32 → Int32 → Int32 → (Nat → Int32) → (Nat → Int32) → (Nat → Int32) → (Nat → Int32) → (Nat → Int32) → (Nat → Int32) → (Nat → Int32) → (Nat → Int32) → (Nat → Int32) → (Nat → Int32) → (Nat → Int32) → (Nat → Int32) → (Nat → Int32) → (Nat → Int32) → Prop}
    {c0 cg bk sd kc pc ro : Int32} {a1 a2 a3 a4 a5 a6 a7 a8 a9 a10 a11 a12 a13 a14 : Nat → Int32} {K g : Nat → Nat} {s x i : Nat} (h5 : ∀ j, j < 64 → a5 j = nI (K j)) (hK : ∀ j, j < 64 → K j < 64) (hx : x < 64) (hi : i < 64) (hs : s ≤ i + 1) (hir : i ≤ dq_rv x)
    (hst : dq_ST K g s a6 a7) (hq : ∀ q, q < 64 → a7 q = 1 → dq_rv q ≤ dq_rv x) (hS : ∀ S, S < 64 → dq_rv S ≤ dq_rv x → dq_qc K g s S → K S = S ∨ a7 S = 1)
    (H : ∀ x1, dq_SI K (i + 1) x1 (nI s) a6 a7 → J x1 (nI (i + 1)) (nI s) a1 a2 a3 a4 a5 a6 a7 a8 a9 a10 a11 a12 a13 a14) : wX_findStems_82 post J (nI x) (nI i) c0 cg bk sd (nI s) kc pc ro a1 a2 a3 a4 a5 a6 a7 a8 a9 a10 a11 a12 a13 a14 := by
  refine pk_eq x 63 (fun e => nm_r (nI_1 i) (H _ ?_)) (fun e => ?_)
  · refine ⟨s, g, rfl, hs, by omega, hst, .inl ⟨rfl, fun S S1 S2 => hS S S1 ?_ S2⟩⟩
    by_cases e2 : S = 63
    · rw [e, e2]
      exact Nat.le_refl _
    · rw [e]
      exact Nat.le_of_lt (dq_rv_63 S1 e2)
  · refine dq_nextSet (by omega) h5 hK hst.1 hx (fun hn => nm_r (nI_1 i) (H _ ?_)) (fun o o1 o2 o3 => nm_r (nI_1 i) (H _ ?_))
    · refine ⟨s, g, rfl, hs, by omega, hst, .inl ⟨rfl, fun S S1 S2 => hS S S1 ?_ S2⟩⟩
      have := hn S S1 S2
      omega
    · refine ⟨s, g, rfl, hs, by omega, hst, .inr ⟨o, o1, rfl, by omega, fun q q1 q2 => ?_, fun S S1 S2 S3 => ?_⟩⟩
      · have := hq q q1 q2
        omega
      · by_cases e2 : dq_rv x < dq_rv S
        · exact absurd S2 (o3 S S1 S3 e2)
        · exact hS S S1 (by omega) S3
theorem dq_findStems {post : St1 → Prop} {c0 cg bk sd sc kc pc ro : Int32} {a1 a2 a3 a4 a5 a6 a7 a8 a9 a10 a11 a12 a13 a14 : Nat → Int32} {K : Nat → Nat} (h5 : ∀ j, j < 64 → a5 j = nI (K j)) (hK : ∀ j, j < 64 → K j < 64)
    (H : ∀ (s : Nat) (a6' a7' : Nat → Int32), dq_FS K s a7' → post (c0, cg, bk, sd, nI s, kc, pc, ro, a1, a2, a3, a4, a5, a6', a7', a8, a9, a10, a11, a12, a13, a14)) : wpX_findStems post (c0, cg, bk, sd, sc, kc, pc, ro, a1, a2, a3, a4, a5, a6, a7, a8, a9, a10, a11, a12, a13, a14) := by
  refine dq_lp1 (fun n i a => wX_findStems_7 post c0 cg bk sd 0 kc pc ro n (nI i) a1 a2 a3 a4 a5 a6 a a8 a9 a10 a11 a12 a13 a14) (fun i a => ∀ j, j < i → a j = 0) 64 0 a7 (by omega) (fun j hj => absurd hj (by omega)) ?_ ?_
  · intro n a ha
    refine pk_le 64 64 (fun _ => ?_) (fun z => absurd z (by omega))
    refine dq_closedByStems (s := 0) (g := fun _ => 0) (x := 0) (by omega) h5 hK (fun j hj => absurd hj (by omega)) (by omega) (fun o o1 o2 o3 => ?_)
    have hst : dq_ST K (fun _ => 0) 0 a6 a := ⟨fun j hj => absurd hj (by omega), fun j hj => .inl (ha j hj), fun j hj => absurd hj (by omega), fun q q1 q2 => absurd (by rw [← q2, ha q q1]) (show ¬ (1 : Int32) = 0 by decide), dq_ct_0 (fun j hj z => z (ha j hj))⟩
    refine dq_lp4 (fun n i s1 s2 s3 s4 => wX_findStems_34 post c0 cg bk sd kc pc ro n s1 (nI i) s2 a1 a2 a3 a4 a5 s3 s4 a8 a9 a10 a11 a12 a13 a14) (fun i s1 s2 s3 s4 => dq_SI K i s1 s2 s3 s4) 64 0 (nI o) (nI 0) a6 a (by omega) ?_ ?_ ?_
    · refine ⟨0, fun _ => 0, rfl, by omega, by omega, hst, .inr ⟨o, o1, rfl, by omega, fun q q1 q2 => absurd (by rw [← q2, ha q q1]) (show ¬ (1 : Int32) = 0 by decide), fun S S1 S2 S3 => ?_⟩⟩
      have k := dq_rv_su o1 S1 (o3 S S1 (fun j hj => absurd hj (by omega)) (fun c hc => absurd hc (dq_0_i c)))
      omega
    · intro n s1 s2 s3 s4 hI
      have e : s1 = -1 := by
        obtain ⟨s, g, e1, e2, e3, _, ⟨e5, _⟩ | ⟨x, x1, x2, x3, _⟩⟩ := hI
        · exact e5
        · have := dq_rv_64 x
          omega
      rw [e] at hI
      obtain ⟨s, e1, e2⟩ := dq_SI_fin hI
      subst e1
      exact pk_le 64 64 (fun _ => H s s3 s4 e2) (fun z => absurd z (by omega))
    · intro n i s1 s2 s3 s4 hi hI hw
      refine pk_le 64 i (fun z => absurd z (by omega)) (fun _ => br_c (fun e => ?_) (fun e => ?_))
      · rw [e] at hI
        obtain ⟨s, e1, e2⟩ := dq_SI_fin hI
        subst e1
        exact H s s3 s4 e2
      · obtain ⟨s, g, rfl, e2, e3, hst2, ⟨e5, _⟩ | ⟨x, x1, rfl, x3, x4, x5⟩⟩ := hI
        · exact absurd e5 e
        · have cx : (nI x).toNatClampNeg = x := nI_clamp (by omega)
          have hKx := hK x x1
          have csx : (nI s).toNatClampNeg = s := nI_clamp (by omega)
          refine ⟨pk_in x 64 x1, ?_⟩
          rw [cx, h5 x x1]
          refine pk_eq (K x) x (fun g1 => ?_) (fun g1 => ⟨pk_in x 64 x1, nm_e ?_⟩)
          · refine dq_fs82 h5 hK x1 hi (by omega) x3 hst2 (fun q q1 q2 => Nat.le_of_lt (x4 q q1 q2)) (fun S S1 S2 S3 => ?_) (fun x1 hx1 => hw _ _ _ _ hx1)
            by_cases e6 : dq_rv S < dq_rv x
            · exact x5 S S1 e6 S3
            · have e7 := dq_rv_inj S1 x1 (by omega)
              rw [e7]
              exact .inl g1
          · refine ⟨pk_in s 64 (by omega), nm_e (nm_r (nI_1 s) ?_)⟩
            rw [csx]
            obtain ⟨t1, t2, t3, t4, t5⟩ := hst2
            have hx0 : ¬ s4 x = 1 := fun z => by
              have := x4 x x1 z
              omega
            have hx00 : s4 x = 0 := (t2 x x1).elim id (fun z => absurd z hx0)
            have gs : ∀ j, j < s → g j ≠ x := fun j hj z => hx0 (by rw [← z]; exact t3 j hj)
            refine dq_fs82 (g := fun j => if j = s then x else g j) (s := s + 1) h5 hK x1 hi (by omega) x3 ⟨fun j hj => ?_, fun j hj => ?_, fun j hj => ?_, fun q q1 q2 => ?_, ?_⟩ (fun q q1 q2 => ?_) (fun S S1 S2 S3 => ?_) (fun x1 hx1 => hw _ _ _ _ hx1)
            · show (if j = s then x else g j) < 64 ∧ upd s3 s (nI x) j = nI (if j = s then x else g j)
              by_cases ej : j = s
              · rw [if_pos ej, ej, pk_us]
                exact ⟨x1, rfl⟩
              · rw [if_neg ej, pk_un ej]
                exact t1 j (by omega)
            · by_cases ej : j = x
              · rw [ej, pk_us]
                exact .inr rfl
              · rw [pk_un ej]
                exact t2 j hj
            · show upd s4 x 1 (if j = s then x else g j) = 1
              by_cases ej : j = s
              · rw [if_pos ej, pk_us]
              · rw [if_neg ej, pk_un (gs j (by omega))]
                exact t3 j (by omega)
            · by_cases ej : q = x
              · exact ⟨s, by omega, by rw [ej]; exact if_pos rfl⟩
              · rw [pk_un ej] at q2
                obtain ⟨j, j1, j2⟩ := t4 q q1 q2
                exact ⟨j, by omega, by rw [← j2]; exact if_neg (by omega)⟩
            · rw [← t5]
              refine dq_ct_add x1 (fun z => z hx00) (by show ¬ upd s4 x 1 x = 0; rw [pk_us]; decide) (fun j hj ej => ?_)
              show ¬ s4 j = 0 ↔ ¬ upd s4 x 1 j = 0
              rw [pk_un ej]
            · by_cases ej : q = x
              · rw [ej]
                exact Nat.le_refl _
              · rw [pk_un ej] at q2
                exact Nat.le_of_lt (x4 q q1 q2)
            · by_cases e6 : dq_rv S < dq_rv x
              · have k := x5 S S1 e6 (fun j hj z1 z2 => by
                  have this : dq_su (if j = s then x else g j) S → (if j = s then x else g j) ≠ S → dq_su (K (if j = s then x else g j)) S := S3 j (by omega)
                  rw [if_neg (show j ≠ s by omega)] at this
                  exact this z1 z2)
                rcases k with k | k
                · exact .inl k
                · refine .inr ?_
                  rw [pk_un (fun z => by rw [z] at e6; omega)]
                  exact k
              · have e7 := dq_rv_inj S1 x1 (by omega)
                rw [e7, pk_us]
                exact .inr rfl
  · intro n i a hi ha hw
    refine pk_le 64 i (fun z => absurd z (by omega)) (fun _ => ⟨pk_in i 64 hi, nm_e (nm_r (nI_1 i) (hw _ ?_))⟩)
    rw [nI_clamp (show i < 2 ^ 31 by omega)]
    intro j hj
    by_cases e : j = i
    · rw [e, pk_us]
    · rw [pk_un e]
      exact ha j (by omega)
end
section
/-! at most 20 sets, none within another -/
def dq_ch (a : Nat) : Nat := [0, 0, 1, 0, 2, 2, 1, 0, 3, 3, 4, 3, 5, 2, 1, 0, 6, 6, 7, 6, 8, 8, 7, 6, 9, 9, 4, 3, 5, 2, 1, 0, 10, 10, 11, 10, 12, 12, 11, 10, 13, 13, 14, 13, 15, 12, 11, 10, 16, 16, 17, 16, 18, 8, 7, 6, 19, 9, 4, 3, 5, 2, 1, 0].getD a 0
theorem dq_ch_lt : ∀ a, a < 64 → dq_ch a < 20 := by decide +kernel
theorem dq_ch_su : ∀ a, a < 64 → ∀ b, b < 64 → dq_ch a = dq_ch b → (dq_mi a b = 0 ∨ dq_mi b a = 0) := by decide +kernel
theorem dq_anti {m : Nat} {f : Nat → Nat} (h1 : ∀ i, i < m → f i < 64) (h2 : ∀ i j, i < m → j < m → dq_su (f i) (f j) → i = j) : m ≤ 20 := by
  apply dq_pig 20 m (fun j => dq_ch (f j))
  · intro j hj
    exact dq_ch_lt _ (h1 j hj)
  · intro i j hi hj he
    rcases dq_ch_su _ (h1 i hi) _ (h1 j hj) he with g | g
    · exact h2 i j hi hj ((dq_mi0 (h1 i hi)).mp g)
    · exact (h2 j i hj hi ((dq_mi0 (h1 j hj)).mp g)).symm
/-- a closure operator -/
def dq_KO (K : Nat → Nat) : Prop := (∀ x, x < 64 → K x < 64) ∧ (∀ x, x < 64 → dq_su x (K x)) ∧ (∀ x y, x < 64 → y < 64 → dq_su x y → dq_su (K x) (K y)) ∧ (∀ x, x < 64 → K (K x) = K x)
theorem dq_KO_cl (D : Nat → Nat → Prop) (T : Nat → Prop) : dq_KO (dq_cl D T) := ⟨fun x _ => dq_cl_lt D T x, fun x hx => dq_cl_ext hx, fun x y _ _ h => dq_cl_mono h, fun x hx => dq_cl_idem hx⟩
theorem dq_KO_63 {K : Nat → Nat} (h : dq_KO K) {x y : Nat} (hx : x < 64) (hy : y < 64) (s : dq_su x y) (e : K x = 63) : K y = 63 := by
  have k := h.2.2.1 x y hx hy s
  rw [e] at k
  exact dq_eq (dq_su63 (h.1 y hy)) k
/-- a least set that gives all -/
def dq_mn (K : Nat → Nat) (o : Nat) : Prop := o < 64 ∧ K o = 63 ∧ ∀ c, o.testBit c = true → ¬ K (dq_mi o (2 ^ c)) = 63
theorem dq_mn_eq {K : Nat → Nat} (h : dq_KO K) {o p : Nat} (ho : dq_mn K o) (hp : p < 64) (e : K p = 63) (s : dq_su p o) : p = o := by
  apply dq_eq s
  intro c hc
  by_cases g : p.testBit c = true
  · exact g
  · refine absurd (dq_KO_63 h hp (dq_mi_lt _ ho.1) (fun d hd => (dq_mi_i _ d ho.1).mpr ⟨s d hd, fun z => ?_⟩) e) (ho.2.2 c hc)
    rw [dq_pw_i] at z
    rw [← z] at hd
    exact g hd
theorem dq_notb {o i : Nat} (ho : o < 64) (hi : i < 6) : nI o &&& (((1 : Int32) <<< (nI i &&& 31)) ^^^ (-1)) = nI (dq_mi o (2 ^ i)) := by
  rw [dq_shl i (by omega)]
  exact dq_not ho (dq_pw_lt hi)
theorem dq_reduced {post : Int32 → Prop} {c0 cg bk sd sc kc pc ro : Int32} {a1 a2 a3 a4 a5 a6 a7 a8 a9 a10 a11 a12 a13 a14 : Nat → Int32} {K : Nat → Nat} {x : Nat} (h5 : ∀ j, j < 64 → a5 j = nI (K j)) (hK : dq_KO K) (hx : x < 64) (e : K x = 63)
    (H : ∀ o, dq_mn K o → dq_su o x → post (nI o)) : wpX_reduced post (c0, cg, bk, sd, sc, kc, pc, ro, a1, a2, a3, a4, a5, a6, a7, a8, a9, a10, a11, a12, a13, a14) (nI x) := by
  have key : ∃ n, wX_reduced_4 post c0 cg bk sd sc kc pc ro a1 a2 a3 a4 a5 a6 a7 a8 a9 a10 a11 a12 a13 a14 n (nI x) (nI 6 + (-1)) := by
    refine dq_ld1 (fun n i a => wX_reduced_4 post c0 cg bk sd sc kc pc ro a1 a2 a3 a4 a5 a6 a7 a8 a9 a10 a11 a12 a13 a14 n a (nI i + (-1))) (fun i a => i ≤ 6 ∧ ∃ o, a = nI o ∧ o < 64 ∧ K o = 63 ∧ dq_su o x ∧ ∀ c, i ≤ c → o.testBit c = true → ¬ K (dq_mi o (2 ^ c)) = 63) ?_ ?_ 6 (nI x)
      ⟨by omega, x, rfl, hx, e, dq_su_r x, fun c hc hb => by
        have := dq_col hx hb
        omega⟩
    · rintro n a ⟨_, o, rfl, o1, o2, o3, o4⟩
      exact br_t dq_neg (H o ⟨o1, o2, fun c hc => o4 c (by omega) hc⟩ o3)
    · rintro n i a ⟨hi, o, rfl, o1, o2, o3, o4⟩ hw
      have hp := dq_pw_lt (c := i) (by omega)
      have hm := dq_mi_lt (2 ^ i) o1
      have hKm := hK.1 _ hm
      rw [dq_dn]
      refine br_f (nI_pos (by omega)) (nm_r (dq_notb o1 (show i < 6 by omega)) ⟨pk_in (dq_mi o (2 ^ i)) 64 hm, ?_⟩)
      rw [nI_clamp (show dq_mi o (2 ^ i) < 2 ^ 31 by omega), h5 _ hm]
      refine pk_eq (K (dq_mi o (2 ^ i))) 63 (fun g => nm_e (hw _ ⟨by omega, dq_mi o (2 ^ i), rfl, hm, g, dq_su_t (fun c hc => ((dq_mi_i _ c o1).mp hc).1) o3, fun c hc hb => ?_⟩)) (fun g => nm_e (hw _ ⟨by omega, o, rfl, o1, o2, o3, fun c hc hb => ?_⟩))
      · obtain ⟨b1, b2⟩ := (dq_mi_i _ c o1).mp hb
        rw [dq_pw_i] at b2
        intro z
        refine o4 c (by omega) b1 (dq_KO_63 hK (dq_mi_lt _ hm) (dq_mi_lt _ o1) (fun d hd => ?_) z)
        obtain ⟨d1, d2⟩ := (dq_mi_i _ d hm).mp hd
        exact (dq_mi_i _ d o1).mpr ⟨((dq_mi_i _ d o1).mp d1).1, d2⟩
      · by_cases ec : c = i
        · rw [ec]
          exact g
        · exact o4 c (by omega) hb
  rw [show nI 6 + (-1) = (5 : Int32) by decide] at key
  exact key
theorem dq_hasKey {post : Int32 → Prop} {c0 cg bk sd sc pc ro : Int32} {a1 a2 a3 a4 a5 a6 a7 a8 a9 a10 a11 a12 a13 a14 : Nat → Int32} {n x : Nat} {ky : Nat → Nat} (hn : n ≤ 20) (h8 : ∀ j, j < n → ky j < 64 ∧ a8 j = nI (ky j)) (hx : x < 64)
    (H1 : (∃ j, j < n ∧ dq_su (ky j) x) → post 1) (H0 : (∀ j, j < n → ¬ dq_su (ky j) x) → post 0) : wpX_hasKeyWithin post (c0, cg, bk, sd, sc, nI n, pc, ro, a1, a2, a3, a4, a5, a6, a7, a8, a9, a10, a11, a12, a13, a14) (nI x) := by
  refine dq_lp1 (fun f i a => wX_hasKeyWithin_4 post (nI x) c0 cg bk sd sc (nI n) pc ro a1 a2 a3 a4 a5 a6 a7 a8 a9 a10 a11 a12 a13 a14 f a (nI i)) (fun i a => (a = 1 ∧ ∃ j, j < n ∧ dq_su (ky j) x) ∨ (a = 0 ∧ ∀ j, j < i → ¬ dq_su (ky j) x)) n 0 0 (by omega) (.inr ⟨rfl, fun j hj => absurd hj (by omega)⟩) ?_ ?_
  · rintro f a (⟨rfl, h⟩ | ⟨rfl, h⟩)
    · exact pk_le n n (fun _ => ⟨dq_nb1, H1 h⟩) (fun z => absurd z (by omega))
    · exact pk_le n n (fun _ => ⟨dq_nb0, H0 h⟩) (fun z => absurd z (by omega))
  · rintro f i a hi (⟨rfl, h⟩ | ⟨rfl, h⟩) hw
    · exact pk_le n i (fun z => absurd z (by omega)) (fun _ => br_f (by decide) (nm_r (nI_1 i) (hw _ (.inl ⟨rfl, h⟩))))
    · obtain ⟨k1, k2⟩ := h8 i hi
      refine pk_le n i (fun z => absurd z (by omega)) (fun _ => br_t rfl ⟨pk_in i 20 (by omega), ?_⟩)
      rw [nI_clamp (show i < 2 ^ 31 by omega), k2]
      exact dq_within k1 hx (fun g => br_f (by decide) (nm_r (nI_1 i) (hw _ (.inl ⟨rfl, i, hi, g⟩)))) (fun g => br_t rfl (nm_r (nI_1 i) (hw _ (.inr ⟨rfl, lt_s h g⟩))))
/-- the key x put in at place p -/
def dq_ins (ky : Nat → Nat) (p x : Nat) : Nat → Nat := fun j => if j < p then ky j else if j = p then x else ky (j - 1)
theorem dq_addKey {post : St1 → Prop} {c0 cg bk sd sc pc ro : Int32} {a1 a2 a3 a4 a5 a6 a7 a8 a9 a10 a11 a12 a13 a14 : Nat → Int32} {n x : Nat} {ky : Nat → Nat} (hn : n < 20) (h8 : ∀ j, j < n → ky j < 64 ∧ a8 j = nI (ky j)) (hs : ∀ i j, i < j → j < n → ky i < ky j) (hne : ∀ j, j < n → ky j ≠ x) (hx : x < 64)
    (H : ∀ (p : Nat) (a : Nat → Int32), p ≤ n → (∀ j, j < n + 1 → a j = nI (dq_ins ky p x j)) → (∀ i j, i < j → j < n + 1 → dq_ins ky p x i < dq_ins ky p x j) → post (c0, cg, bk, sd, sc, nI (n + 1), pc, ro, a1, a2, a3, a4, a5, a6, a7, a, a9, a10, a11, a12, a13, a14)) : wpX_addKey post (c0, cg, bk, sd, sc, nI n, pc, ro, a1, a2, a3, a4, a5, a6, a7, a8, a9, a10, a11, a12, a13, a14) (nI x) := by
  have G : ∀ (p : Nat) (a : Nat → Int32), p ≤ n → (∀ j, j < p → a j = nI (ky j)) → (∀ j, p < j → j ≤ n → a j = nI (ky (j - 1))) → (∀ j, j < p → ky j < x) → (∀ j, p ≤ j → j < n → x < ky j) → wX_addKey_50 post (nI x) (nI p) c0 cg bk sd sc (nI n) pc ro a1 a2 a3 a4 a5 a6 a7 a a9 a10 a11 a12 a13 a14 := by
    intro p a hp h1 h2 h3 h4
    refine And.intro (pk_in p 20 (by omega)) (nm_e (nm_r (nI_1 n) (H p _ hp ?_ ?_)))
    · intro j hj
      rw [nI_clamp (show p < 2 ^ 31 by omega)]
      unfold dq_ins
      by_cases e1 : j < p
      · rw [if_pos e1, pk_un (by omega)]
        exact h1 j e1
      · rw [if_neg e1]
        by_cases e2 : j = p
        · rw [if_pos e2, e2, pk_us]
        · rw [if_neg e2, pk_un e2]
          exact h2 j (by omega) (by omega)
    · intro i j hij hj
      unfold dq_ins
      by_cases e1 : j < p
      · rw [if_pos e1, if_pos (show i < p by omega)]
        exact hs i j hij (by omega)
      · rw [if_neg e1]
        by_cases e2 : j = p
        · rw [if_pos e2, if_pos (show i < p by omega)]
          exact h3 i (by omega)
        · rw [if_neg e2]
          by_cases e3 : i < p
          · rw [if_pos e3]
            by_cases e4 : i = j - 1
            · omega
            · exact hs i (j - 1) (by omega) (by omega)
          · rw [if_neg e3]
            by_cases e4 : i = p
            · rw [if_pos e4]
              exact h4 (j - 1) (by omega) (by omega)
            · rw [if_neg e4]
              exact hs (i - 1) (j - 1) (by omega) (by omega)
  refine dq_ld1 (fun f i a => wX_addKey_10 post (nI x) c0 cg bk sd sc (nI n) pc ro f (nI i) (nI i) a1 a2 a3 a4 a5 a6 a7 a a9 a10 a11 a12 a13 a14) (fun i a => i ≤ n ∧ (∀ j, j < i → a j = nI (ky j)) ∧ (∀ j, i < j → j ≤ n → a j = nI (ky (j - 1))) ∧ (∀ j, i ≤ j → j < n → x < ky j)) ?_ ?_ n a8
    ⟨by omega, fun j hj => (h8 j hj).2, fun j h1 h2 => by omega, fun j h1 h2 => by omega⟩
  · rintro f a ⟨_, h1, h2, h3⟩
    exact pk_le 0 0 (fun _ => G 0 a (by omega) h1 h2 (fun j hj => absurd hj (by omega)) h3) (fun z => absurd z (by omega))
  · rintro f i a ⟨hi, h1, h2, h3⟩ hw
    have ki := (h8 i (by omega)).1
    refine pk_le (i + 1) 0 (fun z => absurd z (by omega)) (fun _ => ?_)
    rw [nI_pred]
    refine ⟨pk_in i 20 (by omega), ?_⟩
    rw [nI_clamp (show i < 2 ^ 31 by omega), nI_clamp (show i + 1 < 2 ^ 31 by omega), h1 i (by omega)]
    refine pk_le (ky i) x (fun g => ?_) (fun g => ⟨pk_in i 20 (by omega), pk_in (i + 1) 20 (by omega), nm_e (nm_e (nm_r (pk_m1 i) (hw _ ⟨by omega, ?_, ?_, ?_⟩)))⟩)
    · refine G (i + 1) a hi h1 h2 (fun j hj => ?_) h3
      have e0 := hne i (by omega)
      by_cases e : j = i
      · rw [e]
        omega
      · have := hs j i (by omega) (by omega)
        omega
    · intro j hj
      rw [pk_un (by omega)]
      exact h1 j (by omega)
    · intro j h4 h6
      by_cases e : j = i + 1
      · rw [e, pk_us]
        rfl
      · rw [pk_un e]
        exact h2 j (by omega) h6
    · intro j h4 h6
      by_cases e : j = i
      · rw [e]
        exact g
      · exact h3 j (by omega) h6
/-- the keys: least sets that give all, rising -/
def dq_KY (K : Nat → Nat) (n : Nat) (a8 : Nat → Int32) : Prop := 1 ≤ n ∧ n ≤ 20 ∧ ∃ ky : Nat → Nat, (∀ j, j < n → dq_mn K (ky j) ∧ a8 j = nI (ky j)) ∧ (∀ i j, i < j → j < n → ky i < ky j)
theorem dq_inj {n : Nat} {ky : Nat → Nat} (hs : ∀ i j, i < j → j < n → ky i < ky j) {i j : Nat} (hi : i < n) (hj : j < n) (e : ky i = ky j) : i = j := by
  rcases Nat.lt_trichotomy i j with g | g | g
  · have := hs i j g hj
    omega
  · exact g
  · have := hs j i g hi
    omega
/-- one more key: there is room for it -/
theorem dq_room {K : Nat → Nat} (hK : dq_KO K) {n o : Nat} {ky : Nat → Nat} (h1 : ∀ j, j < n → dq_mn K (ky j)) (hs : ∀ i j, i < j → j < n → ky i < ky j) (ho : dq_mn K o) (hne : ∀ j, j < n → ky j ≠ o) : n < 20 := by
  have h := dq_anti (m := n + 1) (f := fun j => if j = n then o else ky j) ?_ ?_
  · omega
  · intro i hi
    show (if i = n then o else ky i) < 64
    by_cases e : i = n
    · rw [if_pos e]
      exact ho.1
    · rw [if_neg e]
      exact (h1 i (by omega)).1
  · intro i j hi hj hsu
    have hsu' : dq_su (if i = n then o else ky i) (if j = n then o else ky j) := hsu
    by_cases e : i = n
    · by_cases e2 : j = n
      · omega
      · rw [if_pos e, if_neg e2] at hsu'
        exact absurd (dq_mn_eq hK (h1 j (by omega)) ho.1 ho.2.1 hsu').symm (hne j (by omega))
    · by_cases e2 : j = n
      · rw [if_neg e, if_pos e2] at hsu'
        exact absurd (dq_mn_eq hK ho (h1 i (by omega)).1 (h1 i (by omega)).2.1 hsu') (hne i (by omega))
      · rw [if_neg e, if_neg e2] at hsu'
        exact dq_inj hs (by omega) (by omega) (dq_mn_eq hK (h1 j (by omega)) (h1 i (by omega)).1 (h1 i (by omega)).2.1 hsu')
theorem dq_ins_mn {K : Nat → Nat} {n o p : Nat} {ky : Nat → Nat} {a : Nat → Int32} (hp : p ≤ n) (h1 : ∀ j, j < n → dq_mn K (ky j)) (ho : dq_mn K o) (ha : ∀ j, j < n + 1 → a j = nI (dq_ins ky p o j)) : ∀ j, j < n + 1 → dq_mn K (dq_ins ky p o j) ∧ a j = nI (dq_ins ky p o j) := by
  intro j hj
  refine ⟨?_, ha j hj⟩
  unfold dq_ins
  by_cases e1 : j < p
  · rw [if_pos e1]
    exact h1 j (by omega)
  · rw [if_neg e1]
    by_cases e2 : j = p
    · rw [if_pos e2]
      exact ho
    · rw [if_neg e2]
      exact h1 (j - 1) (by omega)
theorem dq_findKeys {post : St1 → Prop} {c0 cg bk sd sc kc pc ro : Int32} {a1 a2 a3 a4 a5 a6 a7 a8 a9 a10 a11 a12 a13 a14 : Nat → Int32} {K : Nat → Nat} (h5 : ∀ j, j < 64 → a5 j = nI (K j)) (hK : dq_KO K)
    (H : ∀ (n : Nat) (a : Nat → Int32), dq_KY K n a → post (c0, cg, bk, sd, sc, nI n, pc, ro, a1, a2, a3, a4, a5, a6, a7, a, a9, a10, a11, a12, a13, a14)) : wpX_findKeys post (c0, cg, bk, sd, sc, kc, pc, ro, a1, a2, a3, a4, a5, a6, a7, a8, a9, a10, a11, a12, a13, a14) := by
  have e63 : K 63 = 63 := dq_eq (dq_su63 (hK.1 63 (by omega))) (hK.2.1 63 (by omega))
  refine dq_reduced (x := 63) h5 hK (by omega) e63 (fun o o1 o2 => ?_)
  refine dq_addKey (n := 0) (ky := fun _ => 0) (by omega) (fun j hj => absurd hj (by omega)) (fun i j _ hj => absurd hj (by omega)) (fun j hj => absurd hj (by omega)) o1.1 (fun p a p1 p2 p3 => ?_)
  have start : dq_KY K 1 a := ⟨by omega, by omega, dq_ins (fun _ => 0) p o, dq_ins_mn p1 (fun j hj => absurd hj (by omega)) o1 p2, p3⟩
  have key : ∃ f, wX_findKeys_20 post f (nI 64 + (-1)) c0 cg bk sd sc (nI (0 + 1)) pc ro a1 a2 a3 a4 a5 a6 a7 a a9 a10 a11 a12 a13 a14 := by
    refine dq_ld2 (fun f i s1 s2 => wX_findKeys_20 post f (nI i + (-1)) c0 cg bk sd sc s1 pc ro a1 a2 a3 a4 a5 a6 a7 s2 a9 a10 a11 a12 a13 a14) (fun i s1 s2 => i ≤ 64 ∧ ∃ n, s1 = nI n ∧ dq_KY K n s2) ?_ ?_ 64 (nI (0 + 1)) a ⟨by omega, 1, rfl, start⟩
    · rintro f s1 s2 ⟨_, n, rfl, h⟩
      exact br_t dq_neg (H n s2 h)
    · rintro f i s1 s2 ⟨hi, n, rfl, h⟩ hw
      have hKi := hK.1 i (by omega)
      rw [dq_dn]
      refine br_f (nI_pos (by omega)) ⟨pk_in i 64 (by omega), ?_⟩
      rw [nI_clamp (show i < 2 ^ 31 by omega), h5 i (by omega)]
      refine pk_eq (K i) 63 (fun e => ?_) (fun e => nm_e (hw _ _ ⟨by omega, n, rfl, h⟩))
      obtain ⟨n1, n2, ky, k1, k2⟩ := h
      refine dq_hasKey (ky := ky) n2 (fun j hj => ⟨(k1 j hj).1.1, (k1 j hj).2⟩) (show i < 64 by omega) (fun _ => br_f (by decide) (nm_e (hw _ _ ⟨by omega, n, rfl, n1, n2, ky, k1, k2⟩))) (fun hno => br_t rfl ?_)
      refine dq_reduced h5 hK (show i < 64 by omega) e (fun q q1 q2 => ?_)
      have hne : ∀ j, j < n → ky j ≠ q := fun j hj z => hno j hj (by rw [z]; exact q2)
      have room := dq_room hK (fun j hj => (k1 j hj).1) k2 q1 hne
      refine dq_addKey (ky := ky) room (fun j hj => ⟨(k1 j hj).1.1, (k1 j hj).2⟩) k2 hne q1.1 (fun p' a' r1 r2 r3 => ?_)
      exact nm_e (hw _ _ ⟨by omega, n + 1, rfl, by omega, by omega, dq_ins ky p' q, dq_ins_mn r1 (fun j hj => (k1 j hj).1) q1 r2, r3⟩)
  rw [show nI 64 + (-1) = (63 : Int32) by decide] at key
  exact key
end
section
/-- the closure by all dependencies given -/
noncomputable def dq_K (k : Nat) (lf rt : Nat → Nat) (a3 : Nat → Int32) : Nat → Nat := dq_cl (dq_D k (fun _ => True) lf rt a3) (dq_T k (fun _ => True) lf rt a3)
theorem dq_K_o (k : Nat) (lf rt : Nat → Nat) (a3 : Nat → Int32) : dq_KO (dq_K k lf rt a3) := dq_KO_cl _ _
/-- what study leaves -/
def dq_SD (K : Nat → Nat) (s n : Nat) (a5 a7 a8 : Nat → Int32) : Prop := (∀ j, j < 64 → a5 j = nI (K j)) ∧ dq_FS K s a7 ∧ dq_KY K n a8
theorem dq_study1 {post : St1 → Prop} {c0 cg bk sc kc pc ro : Int32} {a1 a2 a3 a4 a5 a6 a7 a8 a9 a10 a11 a12 a13 a14 : Nat → Int32} (H : post (c0, cg, bk, 1, sc, kc, pc, ro, a1, a2, a3, a4, a5, a6, a7, a8, a9, a10, a11, a12, a13, a14)) : wpX_study post (c0, cg, bk, 1, sc, kc, pc, ro, a1, a2, a3, a4, a5, a6, a7, a8, a9, a10, a11, a12, a13, a14) := br_f (by decide) H
theorem dq_study0 {post : St1 → Prop} {cg bk sc kc pc ro : Int32} {a1 a2 a3 a4 a5 a6 a7 a8 a9 a10 a11 a12 a13 a14 : Nat → Int32} {k : Nat} {lf rt : Nat → Nat} (hk : k ≤ 10) (hl : dq_lk k lf rt a1 a2)
    (H : ∀ (cg' bk' : Int32) (s n : Nat) (a4' a5' a6' a7' a8' : Nat → Int32), dq_SD (dq_K k lf rt a3) s n a5' a7' a8' → post (nI k, cg', bk', 1, nI s, nI n, pc, ro, a1, a2, a3, a4', a5', a6', a7', a8', a9, a10, a11, a12, a13, a14)) :
    wpX_study post (nI k, cg, bk, 0, sc, kc, pc, ro, a1, a2, a3, a4, a5, a6, a7, a8, a9, a10, a11, a12, a13, a14) := by
  refine br_t rfl (nm_e ?_)
  have hcn := dq_cn_all (k := k) (by omega)
  have hKO := dq_K_o k lf rt a3
  refine dq_lp3 (fun n i s1 s2 s3 => wX_study_22 post n (nI i) (nI k) (((1 : Int32) <<< (nI k &&& 31)) - 1) s1 0 sc kc pc ro a1 a2 a3 s2 s3 a6 a7 a8 a9 a10 a11 a12 a13 a14) (fun i s1 s2 s3 => ∀ j, j < i → s3 j = nI (dq_K k lf rt a3 j)) 64 0 bk a4 a5 (by omega) (fun j hj => absurd hj (by omega)) ?_ ?_
  · intro n s1 s2 s3 h5
    refine pk_le 64 64 (fun _ => ?_) (fun z => absurd z (by omega))
    refine dq_findStems h5 hKO.1 (fun s a6' a7' hs => ?_)
    refine dq_findKeys h5 hKO (fun n a8' hn => ?_)
    exact H _ _ s n _ _ _ _ _ ⟨h5, hs, hn⟩
  · intro n i s1 s2 s3 hi h5 hw
    refine pk_le 64 i (fun z => absurd z (by omega)) (fun _ => ?_)
    refine dq_closeSet hk hl hcn hi (fun m' a => And.intro (pk_in i 64 hi) (nm_e (nm_r (nI_1 i) (hw m' a _ ?_))))
    intro j hj
    rw [nI_clamp (show i < 2 ^ 31 by omega)]
    by_cases e : j = i
    · rw [e, pk_us]
      rfl
    · rw [pk_un e]
      exact h5 j (by omega)
theorem dq_closure1 {post : Int32 → St1 → Prop} {c0 cg bk sc kc pc ro : Int32} {a1 a2 a3 a4 a5 a6 a7 a8 a9 a10 a11 a12 a13 a14 : Nat → Int32} {K : Nat → Nat} {x : Nat} (h5 : ∀ j, j < 64 → a5 j = nI (K j)) (hx : x < 64) (H : post (nI (K x)) (c0, cg, bk, 1, sc, kc, pc, ro, a1, a2, a3, a4, a5, a6, a7, a8, a9, a10, a11, a12, a13, a14)) : wpX_closure post (c0, cg, bk, 1, sc, kc, pc, ro, a1, a2, a3, a4, a5, a6, a7, a8, a9, a10, a11, a12, a13, a14) (nI x) := by
  unfold wpX_closure
  dsimp only
  refine dq_badSet hx (br_t rfl ?_)
  refine dq_study1 (And.intro (pk_in x 64 hx) ?_)
  rw [nI_clamp (show x < 2 ^ 31 by omega)]
  show post (a5 x) (c0, cg, bk, 1, sc, kc, pc, ro, a1, a2, a3, a4, a5, a6, a7, a8, a9, a10, a11, a12, a13, a14)
  rw [h5 x hx]
  exact H
theorem dq_closureB {post : Int32 → St1 → Prop} {u : St1} (H : post (-1) u) : wpX_closure post u (-3) := by
  obtain ⟨c0, cg, bk, sd, sc, kc, pc, ro, a1, a2, a3, a4, a5, a6, a7, a8, a9, a10, a11, a12, a13, a14⟩ := u
  exact br_t (by decide) (br_f (by decide) H)
theorem dq_follows1 {post : Int32 → St1 → Prop} {c0 cg bk sc kc pc ro : Int32} {a1 a2 a3 a4 a5 a6 a7 a8 a9 a10 a11 a12 a13 a14 : Nat → Int32} {K : Nat → Nat} {x y : Nat} (h5 : ∀ j, j < 64 → a5 j = nI (K j)) (hK : ∀ j, j < 64 → K j < 64) (hx : x < 64) (hy : y < 64) (H1 : dq_su y (K x) → post 1 (c0, cg, bk, 1, sc, kc, pc, ro, a1, a2, a3, a4, a5, a6, a7, a8, a9, a10, a11, a12, a13, a14)) (H0 : ¬ dq_su y (K x) → post 0 (c0, cg, bk, 1, sc, kc, pc, ro, a1, a2, a3, a4, a5, a6, a7, a8, a9, a10, a11, a12, a13, a14)) : wpX_follows post (c0, cg, bk, 1, sc, kc, pc, ro, a1, a2, a3, a4, a5, a6, a7, a8, a9, a10, a11, a12, a13, a14) (nI x) (nI y) := by
  unfold wpX_follows
  dsimp only
  refine dq_badSet hx (br_t rfl ?_)
  refine dq_badSet hy (br_t rfl ?_)
  refine dq_study1 (And.intro (pk_in x 64 hx) ?_)
  rw [nI_clamp (show x < 2 ^ 31 by omega)]
  show wpX_within _ _ (nI y) (a5 x)
  rw [h5 x hx]
  exact dq_within hy (hK x hx) (fun g => And.intro dq_nb1 (H1 g)) (fun g => And.intro dq_nb0 (H0 g))
/-- bundles -/
theorem dq_bundles {post : Int32 → St1 → Prop} {cg bk sd sc kc pc ro : Int32} {a1 a2 a3 a4 a5 a6 a7 a8 a9 a10 a11 a12 a13 a14 : Nat → Int32} {k : Nat} {lf rt : Nat → Nat} {x y : Nat} (hk : k ≤ 10) (hl : dq_lk k lf rt a1 a2) (hx : x < 64) (hy : y < 64)
    (H1 : dq_BU (dq_D k (fun _ => True) lf rt a3) x y → ∀ (cg' bk' : Int32) (a4' : Nat → Int32), post 1 (nI k, cg', bk', sd, sc, kc, pc, ro, a1, a2, a3, a4', a5, a6, a7, a8, a9, a10, a11, a12, a13, a14))
    (H0 : ¬ dq_BU (dq_D k (fun _ => True) lf rt a3) x y → ∀ (cg' bk' : Int32) (a4' : Nat → Int32), post 0 (nI k, cg', bk', sd, sc, kc, pc, ro, a1, a2, a3, a4', a5, a6, a7, a8, a9, a10, a11, a12, a13, a14)) : wpX_bundles post (nI k, cg, bk, sd, sc, kc, pc, ro, a1, a2, a3, a4, a5, a6, a7, a8, a9, a10, a11, a12, a13, a14) (nI x) (nI y) := by
  unfold wpX_bundles
  dsimp only
  refine dq_badSet hx (br_t rfl ?_)
  refine dq_badSet hy (br_t rfl (nm_e ?_))
  refine dq_findBasis_v2 hk hl (dq_cn_all (by omega)) hx (fun m a b hb ha => ?_)
  have hm := dq_PV_le hb.1
  refine dq_lp1 (fun n i s => wX_bundles_40 post (nI y) (nI k) (((1 : Int32) <<< (nI k &&& 31)) - 1) (nI m) sd sc kc pc ro a1 a2 a3 a a5 a6 a7 a8 a9 a10 a11 a12 a13 a14 n s (nI i))
    (fun i s => (s = 1 ∧ ∀ j, j < i → b j &&& y = 0 ∨ b j &&& y = b j) ∨ (s = 0 ∧ ¬ ∀ j, j < m → b j &&& y = 0 ∨ b j &&& y = b j)) m 0 1 (by omega) (.inl ⟨rfl, fun j hj => absurd hj (by omega)⟩) ?_ ?_
  · rintro n s (⟨rfl, h⟩ | ⟨rfl, h⟩)
    · exact pk_le m m (fun _ => ⟨dq_nb1, H1 ((dq_BA_bu hb y).mpr h) _ _ _⟩) (fun z => absurd z (by omega))
    · exact pk_le m m (fun _ => ⟨dq_nb0, H0 (fun z => h ((dq_BA_bu hb y).mp z)) _ _ _⟩) (fun z => absurd z (by omega))
  · intro n i s hi h hw
    obtain ⟨b1, b2, b3⟩ := hb.1.1 i hi
    have l1 := dq_and_lt y b1
    refine pk_le m i (fun z => absurd z (by omega)) (fun _ => ⟨pk_in i 6 (by omega), ?_⟩)
    rw [nI_clamp (show i < 2 ^ 31 by omega), ha i hi, dq_and]
    refine nm_e ?_
    rcases h with ⟨rfl, h⟩ | ⟨rfl, h⟩
    · refine br_f (by decide) (pk_eq (b i &&& y) 0 (fun g => nm_r (nI_1 i) (hw _ (.inl ⟨rfl, lt_s h (.inl g)⟩))) (fun g => ⟨pk_in i 6 (by omega), ?_⟩))
      refine pk_eq (b i &&& y) (b i) (fun g2 => nm_r (nI_1 i) (hw _ (.inl ⟨rfl, lt_s h (.inr g2)⟩))) (fun g2 => nm_r (nI_1 i) (hw _ (.inr ⟨rfl, fun z => ?_⟩)))
      rcases z i hi with z | z
      · exact g z
      · exact g2 z
    · exact br_t rfl (nm_r (nI_1 i) (hw _ (.inr ⟨rfl, h⟩)))
end
section
theorem dq_dec {x s : Nat} (hx : 0 < x) (hl : x < 64) : (nI x - 1) &&& nI s = nI ((x - 1) &&& s) := by
  obtain ⟨y, rfl⟩ : ∃ y, x = y + 1 := ⟨x - 1, by omega⟩
  rw [nI_pred, dq_and]
  rfl
/-- givenIn has an answer -/
theorem dq_gv4 {c0 cg bk sd sc kc pc ro : Int32} {a1 a2 a3 a4 a5 a6 a7 a8 a9 a10 a11 a12 a13 a14 : Nat → Int32} {K : Nat → Nat} {s : Nat} (h5 : ∀ j, j < 64 → a5 j = nI (K j)) (hK : ∀ j, j < 64 → K j < 64) (hs : s < 64) :
    ∀ x, x < 64 → ∀ out : Int32, ∃ (n : Nat) (r : Int32), ∀ post : Int32 → Prop, post r → wX_givenIn_4 post (nI s) c0 cg bk sd sc kc pc ro a1 a2 a3 a4 a5 a6 a7 a8 a9 a10 a11 a12 a13 a14 n out (nI x) := by
  intro x
  induction x using Nat.strongRecOn with
  | ind x ih =>
    intro hx out
    by_cases e : x = 0
    · subst e
      by_cases g : dq_su s (K 0)
      · refine ⟨1, out, fun post hp => pk_le 0 0 (fun _ => ?_) (fun z => absurd z (by omega))⟩
        rw [h5 0 (by omega)]
        exact dq_within hs (hK 0 (by omega)) (fun _ => br_f (by decide) hp) (fun z => absurd g z)
      · refine ⟨1, out ||| (a5 0 &&& nI s), fun post hp => pk_le 0 0 (fun _ => ?_) (fun z => absurd z (by omega))⟩
        rw [h5 0 (by omega)] at hp ⊢
        exact dq_within hs (hK 0 (by omega)) (fun z => absurd z g) (fun _ => br_t rfl hp)
    · have l1 : (x - 1) &&& s ≤ x - 1 := Nat.and_le_left
      have cx : (nI x).toNatClampNeg = x := nI_clamp (by omega)
      by_cases g : dq_su s (K x)
      · obtain ⟨n, r, h⟩ := ih ((x - 1) &&& s) (by omega) (by omega) out
        refine ⟨n + 1, r, fun post hp => pk_le x 0 (fun z => absurd z (by omega)) (fun _ => ⟨pk_in x 64 hx, ?_⟩)⟩
        rw [cx, h5 x hx]
        exact dq_within hs (hK x hx) (fun _ => br_f (by decide) (nm_r (dq_dec (by omega) hx) (h post hp))) (fun z => absurd g z)
      · obtain ⟨n, r, h⟩ := ih ((x - 1) &&& s) (by omega) (by omega) (out ||| (((a5 x) &&& nI s) &&& (nI x ^^^ (-1))))
        refine ⟨n + 1, r, fun post hp => pk_le x 0 (fun z => absurd z (by omega)) (fun _ => ⟨pk_in x 64 hx, ?_⟩)⟩
        rw [cx]
        rw [h5 x hx] at h ⊢
        exact dq_within hs (hK x hx) (fun z => absurd z g) (fun _ => br_t rfl ⟨pk_in x 64 hx, nm_r (dq_dec (by omega) hx) (h post hp)⟩)
theorem dq_givenIn {c0 cg bk sd sc kc pc ro : Int32} {a1 a2 a3 a4 a5 a6 a7 a8 a9 a10 a11 a12 a13 a14 : Nat → Int32} {K : Nat → Nat} {s : Nat} (h5 : ∀ j, j < 64 → a5 j = nI (K j)) (hK : ∀ j, j < 64 → K j < 64) (hs : s < 64) :
    ∃ r : Int32, ∀ post : Int32 → Prop, post r → wpX_givenIn post (c0, cg, bk, sd, sc, kc, pc, ro, a1, a2, a3, a4, a5, a6, a7, a8, a9, a10, a11, a12, a13, a14) (nI s) := by
  obtain ⟨n, r, h⟩ := dq_gv4 (c0 := c0) (cg := cg) (bk := bk) (sd := sd) (sc := sc) (kc := kc) (pc := pc) (ro := ro) (a1 := a1) (a2 := a2) (a3 := a3) (a4 := a4) (a6 := a6) (a7 := a7) (a8 := a8) (a9 := a9) (a10 := a10) (a11 := a11) (a12 := a12) (a13 := a13) (a14 := a14) h5 hK hs s hs 0
  exact ⟨r, fun post hp => ⟨n, h post hp⟩⟩
theorem dq_isMinimal {post : Int32 → Prop} {c0 cg bk sd sc kc pc ro : Int32} {a1 a2 a3 a4 a5 a6 a7 a8 a9 a10 a11 a12 a13 a14 : Nat → Int32} {K : Nat → Nat} {x s : Nat} (h5 : ∀ j, j < 64 → a5 j = nI (K j)) (hK : ∀ j, j < 64 → K j < 64) (hx : x < 64) (hs : s < 64) (H : ∀ r, post r) : wpX_isMinimal post (c0, cg, bk, sd, sc, kc, pc, ro, a1, a2, a3, a4, a5, a6, a7, a8, a9, a10, a11, a12, a13, a14) (nI x) (nI s) := by
  refine dq_lp1 (fun n i a => wX_isMinimal_5 post (nI x) (nI s) c0 cg bk sd sc kc pc ro a1 a2 a3 a4 a5 a6 a7 a8 a9 a10 a11 a12 a13 a14 n a (nI i)) (fun i a => a = 0 ∨ a = 1) 6 0 1 (by omega) (.inr rfl) ?_ ?_
  · rintro n a (rfl | rfl)
    · exact pk_le 6 6 (fun _ => ⟨dq_nb0, H _⟩) (fun z => absurd z (by omega))
    · exact pk_le 6 6 (fun _ => ⟨dq_nb1, H _⟩) (fun z => absurd z (by omega))
  · intro n i a hi ha hw
    have hp := dq_pw_lt hi
    have hm := dq_mi_lt (2 ^ i) hx
    refine pk_le 6 i (fun z => absurd z (by omega)) (fun _ => dq_if1 x i (fun g => ?_) (fun g => ?_))
    · refine br_c (fun _ => nm_r (nI_1 i) (hw _ (.inl rfl))) (fun _ => br_f (by decide) ?_)
      rw [dq_shl i (by omega), dq_not hx hp, nI_clamp (show dq_mi x (2 ^ i) < 2 ^ 31 by omega), h5 _ hm]
      exact ⟨pk_in (dq_mi x (2 ^ i)) 64 hm, dq_within hs (hK _ hm) (fun _ => br_f (by decide) (nm_r (nI_1 i) (hw _ (.inl rfl)))) (fun _ => br_t rfl (nm_r (nI_1 i) (hw _ (.inr rfl))))⟩
    · exact br_c (fun _ => nm_r (nI_1 i) (hw _ (.inl rfl))) (fun _ => br_t rfl (nm_r (nI_1 i) (hw _ (.inr rfl))))
theorem dq_pr4 {post : Int32 → Prop} {c0 cg bk sd sc kc pc ro : Int32} {a1 a2 a3 a4 a5 a6 a7 a8 a9 a10 a11 a12 a13 a14 : Nat → Int32} {K : Nat → Nat} {s : Nat} (h5 : ∀ j, j < 64 → a5 j = nI (K j)) (hK : ∀ j, j < 64 → K j < 64) (hs : s < 64) (H : ∀ r, post r) :
    ∀ n x, x < n → x < 64 → ∀ out : Int32, wX_primeIn_4 post (nI s) c0 cg bk sd sc kc pc ro a1 a2 a3 a4 a5 a6 a7 a8 a9 a10 a11 a12 a13 a14 n out (nI x) := by
  intro n
  induction n with
  | zero => intro x h; omega
  | succ n ih =>
    intro x hn hx out
    refine pk_le x 0 (fun _ => H _) (fun z => ⟨pk_in x 64 hx, ?_⟩)
    have l1 : (x - 1) &&& s ≤ x - 1 := Nat.and_le_left
    rw [nI_clamp (show x < 2 ^ 31 by omega), h5 x hx]
    refine dq_within hs (hK x hx) (fun _ => br_f (by decide) ?_) (fun _ => br_t rfl (nm_r (dq_dec (by omega) hx) (ih _ (by omega) (by omega) _)))
    exact dq_isMinimal h5 hK hx hs (fun r => br_c (fun _ => nm_r (dq_dec (by omega) hx) (ih _ (by omega) (by omega) _)) (fun _ => nm_e (nm_r (dq_dec (by omega) hx) (ih _ (by omega) (by omega) _))))
theorem dq_primeIn {post : Int32 → Prop} {c0 cg bk sd sc kc pc ro : Int32} {a1 a2 a3 a4 a5 a6 a7 a8 a9 a10 a11 a12 a13 a14 : Nat → Int32} {K : Nat → Nat} {s : Nat} (h5 : ∀ j, j < 64 → a5 j = nI (K j)) (hK : ∀ j, j < 64 → K j < 64) (hs : s < 64) (H : ∀ r, post r) : wpX_primeIn post (c0, cg, bk, sd, sc, kc, pc, ro, a1, a2, a3, a4, a5, a6, a7, a8, a9, a10, a11, a12, a13, a14) (nI s) :=
  ⟨64, dq_pr4 h5 hK hs H 64 s hs hs 0⟩
/-- boyce, and third behind it -/
theorem dq_boyce1 {post : Int32 → St1 → Prop} {c0 cg bk sc kc pc ro : Int32} {a1 a2 a3 a4 a5 a6 a7 a8 a9 a10 a11 a12 a13 a14 : Nat → Int32} {K : Nat → Nat} {s : Nat} (h5 : ∀ j, j < 64 → a5 j = nI (K j)) (hK : ∀ j, j < 64 → K j < 64) (hs : s < 64)
    (H1 : (∀ post' : Int32 → St1 → Prop, post' 1 (c0, cg, bk, 1, sc, kc, pc, ro, a1, a2, a3, a4, a5, a6, a7, a8, a9, a10, a11, a12, a13, a14) → wpX_third post' (c0, cg, bk, 1, sc, kc, pc, ro, a1, a2, a3, a4, a5, a6, a7, a8, a9, a10, a11, a12, a13, a14) (nI s)) → post 1 (c0, cg, bk, 1, sc, kc, pc, ro, a1, a2, a3, a4, a5, a6, a7, a8, a9, a10, a11, a12, a13, a14)) (H0 : post 0 (c0, cg, bk, 1, sc, kc, pc, ro, a1, a2, a3, a4, a5, a6, a7, a8, a9, a10, a11, a12, a13, a14)) : wpX_boyce post (c0, cg, bk, 1, sc, kc, pc, ro, a1, a2, a3, a4, a5, a6, a7, a8, a9, a10, a11, a12, a13, a14) (nI s) := by
  obtain ⟨r, h⟩ := dq_givenIn (c0 := c0) (cg := cg) (bk := bk) (sd := 1) (sc := sc) (kc := kc) (pc := pc) (ro := ro) (a1 := a1) (a2 := a2) (a3 := a3) (a4 := a4) (a6 := a6) (a7 := a7) (a8 := a8) (a9 := a9) (a10 := a10) (a11 := a11) (a12 := a12) (a13 := a13) (a14 := a14) h5 hK hs
  unfold wpX_boyce
  dsimp only
  refine dq_badSet hs (br_t rfl ?_)
  refine dq_study1 (h _ ?_)
  refine br_c (fun e => H1 (fun post' hp => ?_)) (fun _ => H0)
  unfold wpX_third
  dsimp only
  refine dq_badSet hs (br_t rfl ?_)
  refine dq_study1 (h _ ?_)
  refine dq_primeIn h5 hK hs (fun r' => ?_)
  rw [e]
  refine br_t ?_ (And.intro dq_nb1 hp)
  exact Int32.zero_and
end
section
/-! the table at hand -/
/-- rows p and q agree on S -/
def dq_ag (a11 : Nat → Int32) (S p q : Nat) : Prop := ∀ c, c < 6 → S.testBit c = true → a11 (6 * p + c) = a11 (6 * q + c)
theorem dq_ag_r (a11 : Nat → Int32) (S p : Nat) : dq_ag a11 S p p := fun _ _ _ => rfl
theorem dq_ag_s {a11 : Nat → Int32} {S p q : Nat} (h : dq_ag a11 S p q) : dq_ag a11 S q p := fun c h1 h2 => (h c h1 h2).symm
theorem dq_ag_t {a11 : Nat → Int32} {S p q r : Nat} (h : dq_ag a11 S p q) (h2 : dq_ag a11 S q r) : dq_ag a11 S p r := fun c g1 g2 => (h c g1 g2).trans (h2 c g1 g2)
theorem dq_ag_m {a11 : Nat → Int32} {S T p q : Nat} (hs : dq_su S T) (h : dq_ag a11 T p q) : dq_ag a11 S p q := fun c g1 g2 => h c g1 (hs c g2)
theorem dq_ag_or {a11 : Nat → Int32} {S T p q : Nat} (h1 : dq_ag a11 S p q) (h2 : dq_ag a11 T p q) : dq_ag a11 (S ||| T) p q := fun c g1 g2 => ((dq_or_i c).mp g2).elim (h1 c g1) (h2 c g1)
/-- row r is the least of those that agree with it -/
def dq_ld (a11 : Nat → Int32) (S r : Nat) : Prop := ∀ p, p < r → ¬ dq_ag a11 S p r
/-- how many such rows there are -/
noncomputable def dq_nc (a11 : Nat → Int32) (R S : Nat) : Nat := dq_ct (dq_ld a11 S) R
/-- rows that agree on S agree on T -/
def dq_hd (a11 : Nat → Int32) (R S T : Nat) : Prop := ∀ p q, p < R → q < R → dq_ag a11 S p q → dq_ag a11 T p q
theorem dq_least {a11 : Nat → Int32} (S r : Nat) : ∃ l, l ≤ r ∧ dq_ag a11 S l r ∧ ∀ p, p < l → ¬ dq_ag a11 S p r := by
  obtain ⟨l, l1, l2⟩ := pk_least (fun p => dq_ag a11 S p r) ⟨r, dq_ag_r a11 S r⟩
  refine ⟨l, ?_, l1, l2⟩
  rcases Nat.lt_or_ge r l with g | g
  · exact absurd (dq_ag_r a11 S r) (l2 r g)
  · exact g
theorem dq_ct_eq {P Q : Nat → Prop} {n : Nat} (h : ∀ j, j < n → P j → Q j) : dq_ct P n ≤ dq_ct Q n ∧ (dq_ct P n = dq_ct Q n → ∀ j, j < n → Q j → P j) := by
  induction n with
  | zero => exact ⟨Nat.le_refl _, fun _ j hj => absurd hj (by omega)⟩
  | succ n ih =>
    obtain ⟨i1, i2⟩ := ih (fun j hj => h j (by omega))
    by_cases g : P n
    · have g2 := h n (by omega) g
      rw [dq_ct_t g, dq_ct_t g2]
      refine ⟨by omega, fun e j hj hq => ?_⟩
      by_cases ej : j = n
      · rw [ej]
        exact g
      · exact i2 (by omega) j (by omega) hq
    · rw [dq_ct_f g]
      by_cases g2 : Q n
      · rw [dq_ct_t g2]
        exact ⟨by omega, fun e => by omega⟩
      · rw [dq_ct_f g2]
        refine ⟨i1, fun e j hj hq => ?_⟩
        by_cases ej : j = n
        · rw [ej] at hq
          exact absurd hq g2
        · exact i2 e j (by omega) hq
theorem dq_nc_iff {a11 : Nat → Int32} {R S T : Nat} : dq_nc a11 R (S ||| T) = dq_nc a11 R S ↔ dq_hd a11 R S T := by
  constructor
  · intro h p q hp hq hag
    have key := (dq_ct_eq (P := dq_ld a11 S) (Q := dq_ld a11 (S ||| T)) (n := R) (fun j hj g p hp z => g p hp (dq_ag_m (dq_or_l S T) z))).2 h.symm
    -- each row agrees on S and T with the least that agrees with it on S
    have all : ∀ r, r < R → ∀ l, dq_ag a11 S l r → (∀ p, p < l → ¬ dq_ag a11 S p r) → dq_ag a11 (S ||| T) l r := by
      intro r hr l l1 l2
      obtain ⟨m, m1, m2, m3⟩ := dq_least (a11 := a11) (S ||| T) r
      have lead : dq_ld a11 (S ||| T) m := fun p hp z => m3 p hp (dq_ag_t z m2)
      have lead2 := key m (by omega) lead
      have e : l = m := by
        rcases Nat.lt_trichotomy l m with z | z | z
        · exact absurd (dq_ag_t l1 (dq_ag_s (dq_ag_m (dq_or_l S T) m2))) (lead2 l z)
        · exact z
        · exact absurd (dq_ag_m (dq_or_l S T) m2) (l2 m z)
      rw [e]
      exact m2
    obtain ⟨l, l1, l2, l3⟩ := dq_least (a11 := a11) S p
    have a1 := all p hp l l2 l3
    have a2 := all q hq l (dq_ag_t l2 hag) (fun p' hp' z => l3 p' hp' (dq_ag_t z (dq_ag_s hag)))
    exact dq_ag_m (dq_or_r S T) (dq_ag_t (dq_ag_s a1) a2)
  · intro h
    apply dq_ct_c
    intro r hr
    constructor
    · intro g p hp z
      exact g p hp (dq_ag_or z (h p r (by omega) hr z))
    · intro g p hp z
      exact g p hp (dq_ag_m (dq_or_l S T) z)
theorem dq_nc_le (a11 : Nat → Int32) (R S : Nat) : dq_nc a11 R S ≤ R := dq_ct_le _ _
theorem dq_ix (a b : Nat) : (6 : Int32) * nI a + nI b = nI (6 * a + b) := by
  show nI 6 * nI a + nI b = _
  rw [pk_mul, nI_add]
theorem dq_highestOf {post : Int32 → Prop} {u : St1} {s : Nat} (hs : s < 64) (h0 : s ≠ 0) (H : ∀ c, c < 6 → s.testBit c = true → post (nI c)) : wpX_highestOf post u (nI s) := by
  obtain ⟨c0, cg, bk, sd, sc, kc, pc, ro, a1, a2, a3, a4, a5, a6, a7, a8, a9, a10, a11, a12, a13, a14⟩ := u
  refine dq_lp1 (fun n i a => wX_highestOf_4 post (nI s) c0 cg bk sd sc kc pc ro a1 a2 a3 a4 a5 a6 a7 a8 a9 a10 a11 a12 a13 a14 n a (nI i)) (fun i a => (∀ d, d < i → ¬ s.testBit d = true) ∨ ∃ c, c < 6 ∧ a = nI c ∧ s.testBit c = true) 6 0 0 (by omega) (.inl (fun d hd => absurd hd (by omega))) ?_ ?_
  · rintro n a (h | ⟨c, c1, rfl, c2⟩)
    · obtain ⟨c, hc⟩ := dq_ne0 h0
      exact absurd hc (h c (dq_col hs hc))
    · exact pk_le 6 6 (fun _ => H c c1 c2) (fun z => absurd z (by omega))
  · intro n i a hi h hw
    refine pk_le 6 i (fun z => absurd z (by omega)) (fun _ => dq_if1 s i (fun g => nm_r (nI_1 i) (hw _ (.inr ⟨i, hi, rfl, g⟩))) (fun g => nm_r (nI_1 i) (hw _ ?_)))
    rcases h with h | h
    · exact .inl (lt_s h g)
    · exact .inr h
/-- what classOf holds for the set S, rows below r -/
def dq_co (a11 a12 : Nat → Int32) (S r : Nat) : Prop := ∀ p, p < r → ∃ l, l ≤ p ∧ a12 (6 * S + p) = nI l ∧ dq_ag a11 S l p ∧ ∀ q, q < l → ¬ dq_ag a11 S q p
theorem dq_co_eq {a11 a12 : Nat → Int32} {S R p q : Nat} (hR : R ≤ 6) (h : dq_co a11 a12 S R) (hp : p < R) (hq : q < R) : a12 (6 * S + p) = a12 (6 * S + q) ↔ dq_ag a11 S p q := by
  obtain ⟨l, l1, l2, l3, l4⟩ := h p hp
  obtain ⟨m, m1, m2, m3, m4⟩ := h q hq
  rw [l2, m2, nI_eq (by omega) (by omega)]
  constructor
  · intro e
    rw [e] at l3
    exact dq_ag_t (dq_ag_s l3) m3
  · intro e
    rcases Nat.lt_trichotomy l m with g | g | g
    · exact absurd (dq_ag_t l3 e) (m4 l g)
    · exact g
    · exact absurd (dq_ag_t m3 (dq_ag_s e)) (l4 m g)
theorem dq_pc43 {post : St1 → Prop} {J : Int32 → (Nat → Int32) → (Nat → Int32) → (Nat → Int32) → (Nat → Int32) → (Nat → Int32) → (Nat → Int32) → (Nat → Int32) → (Nat → Int32) → (Nat → Int32) → (Nat → Int32) → (Nat → Int32) → (Nat → Int32) → (Nat → Int32) → (Nat → Int32) → Prop}
    {c0 cg bk sd sc kc pc : Int32} {a1 a2 a3 a4 a5 a6 a7 a8 a9 a10 a11 a12 a13 a14 : Nat → Int32} {R S c r : Nat} (hR : R ≤ 6) (hS : S < 64) (hc : c < 6) (hb : S.testBit c = true) (hr : r < R) (hco : dq_co a11 a12 (dq_mi S (2 ^ c)) R) {k : Nat} (hk : a13 S = nI k)
    (H : ∀ l, l ≤ r → dq_ag a11 S l r → (∀ q, q < l → ¬ dq_ag a11 S q r) → ∀ a13' : Nat → Int32, a13' = upd a13 S (nI (k + (if l = r then 1 else 0))) → J (nI (r + 1)) a1 a2 a3 a4 a5 a6 a7 a8 a9 a10 a11 (upd a12 (6 * S + r) (nI l)) a13' a14) :
    ∃ n, wX_partClasses_43 post J (nI S) (nI c) (nI (dq_mi S (2 ^ c))) (nI r) c0 cg bk sd sc kc pc (nI R) a1 a2 a3 a4 a5 a6 a7 a8 a9 a10 a11 a12 a13 a14 n (nI r) (nI r - 1) := by
  have hp := dq_pw_lt hc
  have hm := dq_mi_lt (2 ^ c) hS
  have split : ∀ p, dq_ag a11 S p r ↔ (dq_ag a11 (dq_mi S (2 ^ c)) p r ∧ a11 (6 * p + c) = a11 (6 * r + c)) := by
    intro p
    constructor
    · intro g
      exact ⟨dq_ag_m (fun d hd => ((dq_mi_i _ d hS).mp hd).1) g, g c hc hb⟩
    · intro g d hd hd2
      by_cases e : c = d
      · rw [← e]
        exact g.2
      · exact g.1 d hd ((dq_mi_i _ d hS).mpr ⟨hd2, fun z => e ((dq_pw_i c d).mp z)⟩)
  rw [Int32.sub_eq_add_neg]
  refine dq_ld1 (fun n i a => wX_partClasses_43 post J (nI S) (nI c) (nI (dq_mi S (2 ^ c))) (nI r) c0 cg bk sd sc kc pc (nI R) a1 a2 a3 a4 a5 a6 a7 a8 a9 a10 a11 a12 a13 a14 n a (nI i + (-1)))
    (fun i a => i ≤ r ∧ ∃ l, a = nI l ∧ i ≤ l ∧ l ≤ r ∧ dq_ag a11 S l r ∧ ∀ q, i ≤ q → q < l → ¬ dq_ag a11 S q r) ?_ ?_ r (nI r) ⟨Nat.le_refl r, r, rfl, Nat.le_refl r, Nat.le_refl r, dq_ag_r a11 S r, fun q h1 h2 => by omega⟩
  · rintro n a ⟨_, l, rfl, _, l2, l3, l4⟩
    refine br_t dq_neg ?_
    rw [dq_ix, nI_clamp (show 6 * S + r < 2 ^ 31 by omega), nI_clamp (show S < 2 ^ 31 by omega)]
    refine ⟨pk_in (6 * S + r) 384 (by omega), nm_e ?_⟩
    refine pk_eq l r (fun e => ⟨pk_in S 64 hS, pk_in S 64 hS, nm_e (nm_r (nI_1 r) (H l l2 l3 (fun q hq => l4 q (by omega) hq) _ ?_))⟩) (fun e => ⟨pk_in S 64 hS, pk_in S 64 hS, nm_e (nm_r (nI_1 r) (H l l2 l3 (fun q hq => l4 q (by omega) hq) _ ?_))⟩)
    · rw [hk, nI_1, if_pos e]
    · rw [hk, if_neg e]
      rfl
  · rintro n i a ⟨hi, l, rfl, l1, l2, l3, l4⟩ hw
    rw [dq_dn]
    have no : ¬ dq_ag a11 S i r → wX_partClasses_106 post J (wX_partClasses_43 post J (nI S) (nI c) (nI (dq_mi S (2 ^ c))) (nI r) c0 cg bk sd sc kc pc (nI R) a1 a2 a3 a4 a5 a6 a7 a8 a9 a10 a11 a12 a13 a14 n) (nI S) (nI c) (nI (dq_mi S (2 ^ c))) (nI r) (nI l) (nI i) c0 cg bk sd sc kc pc (nI R) a1 a2 a3 a4 a5 a6 a7 a8 a9 a10 a11 a12 a13 a14 := fun g =>
      br_t rfl (nm_e (hw _ ⟨by omega, l, rfl, by omega, l2, l3, fun q h1 h2 => by
        by_cases e : q = i
        · rw [e]
          exact g
        · exact l4 q (by omega) h2⟩))
    refine br_f (nI_pos (by omega)) ?_
    rw [dq_ix, dq_ix, dq_ix, dq_ix, nI_clamp (show 6 * dq_mi S (2 ^ c) + i < 2 ^ 31 by omega), nI_clamp (show 6 * dq_mi S (2 ^ c) + r < 2 ^ 31 by omega), nI_clamp (show 6 * i + c < 2 ^ 31 by omega), nI_clamp (show 6 * r + c < 2 ^ 31 by omega)]
    refine ⟨pk_in (6 * dq_mi S (2 ^ c) + i) 384 (by omega), pk_in (6 * dq_mi S (2 ^ c) + r) 384 (by omega), ek_if (dq_co_eq hR hco (by omega) hr) (fun g => ⟨pk_in (6 * i + c) 36 (by omega), pk_in (6 * r + c) 36 (by omega), br_c (fun g2 => ?_) (fun g2 => no (fun z => g2 ((split i).mp z).2))⟩) (fun g => no (fun z => g ((split i).mp z).1))⟩
    refine br_f (by decide) (nm_e (hw _ ⟨by omega, i, rfl, by omega, by omega, (split i).mpr ⟨g, g2⟩, fun q h1 h2 => by omega⟩))
theorem dq_partClasses {post : St1 → Prop} {c0 cg bk sd sc kc pc : Int32} {a1 a2 a3 a4 a5 a6 a7 a8 a9 a10 a11 a12 a13 a14 : Nat → Int32} {R S : Nat} (hR : R ≤ 6) (hS : S < 64) (h0 : S ≠ 0) (hco : ∀ T, T < S → dq_co a11 a12 T R) (hn : ∀ T, T < S → a13 T = nI (dq_nc a11 R T))
    (H : ∀ a12' a13' : Nat → Int32, (∀ T, T < S + 1 → dq_co a11 a12' T R) → (∀ T, T < S + 1 → a13' T = nI (dq_nc a11 R T)) → post (c0, cg, bk, sd, sc, kc, pc, nI R, a1, a2, a3, a4, a5, a6, a7, a8, a9, a10, a11, a12', a13', a14)) : wpX_partClasses post (c0, cg, bk, sd, sc, kc, pc, nI R, a1, a2, a3, a4, a5, a6, a7, a8, a9, a10, a11, a12, a13, a14) (nI S) := by
  unfold wpX_partClasses
  dsimp only
  refine dq_highestOf hS h0 (fun c hc hb => ?_)
  have hp := dq_pw_lt hc
  have hm := dq_mi_lt (2 ^ c) hS
  have hless : dq_mi S (2 ^ c) < S := by
    have h1 : dq_mi S (2 ^ c) ≤ S := Nat.and_le_left
    have h2 : dq_mi S (2 ^ c) ≠ S := fun e => by
      have := (dq_mi_i (2 ^ c) c hS).mp (by rw [e]; exact hb)
      exact this.2 ((dq_pw_i c c).mpr rfl)
    omega
  refine nm_r (dq_notb hS hc) ⟨pk_in S 64 hS, nm_e ?_⟩
  rw [nI_clamp (show S < 2 ^ 31 by omega)]
  refine dq_lp2 (fun n i s1 s2 => wX_partClasses_24 post (nI S) (nI c) (nI (dq_mi S (2 ^ c))) c0 cg bk sd sc kc pc (nI R) n (nI i) a1 a2 a3 a4 a5 a6 a7 a8 a9 a10 a11 s1 s2 a14)
    (fun i s1 s2 => (∀ T, T < S → dq_co a11 s1 T R) ∧ dq_co a11 s1 S i ∧ (∀ T, T < S → s2 T = nI (dq_nc a11 R T)) ∧ s2 S = nI (dq_ct (dq_ld a11 S) i)) R 0 a12 (upd a13 S 0) (by omega)
    ⟨hco, fun p hp => absurd hp (by omega), fun T hT => by rw [pk_un (by omega)]; exact hn T hT, by rw [pk_us]; rfl⟩ ?_ ?_
  · rintro n s1 s2 ⟨i1, i2, i3, i4⟩
    refine pk_le R R (fun _ => H s1 s2 (lt_s i1 i2) (lt_s i3 i4)) (fun z => absurd z (by omega))
  · rintro n i s1 s2 hi ⟨i1, i2, i3, i4⟩ hw
    refine pk_le R i (fun z => absurd z (by omega)) (fun _ => nm_e ?_)
    refine dq_pc43 hR hS hc hb hi (i1 _ hless) i4 (fun l l1 l2 l3 a13' ea => hw _ _ ⟨fun T hT p hp => ?_, fun p hp => ?_, fun T hT => ?_, ?_⟩)
    · obtain ⟨l', k1, k2, k3, k4⟩ := i1 T hT p hp
      exact ⟨l', k1, by rw [pk_un (by omega)]; exact k2, k3, k4⟩
    · by_cases e : p = i
      · rw [e]
        exact ⟨l, l1, by rw [pk_us], l2, l3⟩
      · obtain ⟨l', k1, k2, k3, k4⟩ := i2 p (by omega)
        exact ⟨l', k1, by rw [pk_un (by omega)]; exact k2, k3, k4⟩
    · rw [ea, pk_un (by omega)]
      exact i3 T hT
    · rw [ea, pk_us]
      by_cases e : l = i
      · rw [if_pos e, dq_ct_t]
        rw [e] at l3
        exact l3
      · rw [if_neg e, dq_ct_f]
        · rfl
        · intro z
          exact z l (by omega) l2
theorem dq_nc_0 {a11 : Nat → Int32} {R : Nat} (h : 0 < R) : dq_nc a11 R 0 = 1 := by
  unfold dq_nc
  induction R with
  | zero => omega
  | succ R ih =>
    by_cases e : R = 0
    · subst e
      rw [dq_ct_t (fun p hp => absurd hp (by omega))]
      rfl
    · rw [dq_ct_f (fun z => z 0 (by omega) (fun c _ g => absurd g (dq_0_i c)))]
      exact ih (by omega)
theorem dq_findClasses {post : St1 → Prop} {c0 cg bk sd sc kc pc : Int32} {a1 a2 a3 a4 a5 a6 a7 a8 a9 a10 a11 a12 a13 a14 : Nat → Int32} {R : Nat} (hR : R ≤ 6) (H : ∀ a12' a13' : Nat → Int32, (∀ T, T < 64 → a13' T = nI (dq_nc a11 R T)) → post (c0, cg, bk, sd, sc, kc, pc, nI R, a1, a2, a3, a4, a5, a6, a7, a8, a9, a10, a11, a12', a13', a14)) : wpX_findClasses post (c0, cg, bk, sd, sc, kc, pc, nI R, a1, a2, a3, a4, a5, a6, a7, a8, a9, a10, a11, a12, a13, a14) := by
  have main : ∀ a a' : Nat → Int32, dq_co a11 a 0 R → a' 0 = nI (dq_nc a11 R 0) → ∃ n, wX_findClasses_43 post n 1 c0 cg bk sd sc kc pc (nI R) a1 a2 a3 a4 a5 a6 a7 a8 a9 a10 a11 a a' a14 := by
    intro a a' h1 h2
    refine dq_lp2 (fun n i s1 s2 => wX_findClasses_43 post n (nI i) c0 cg bk sd sc kc pc (nI R) a1 a2 a3 a4 a5 a6 a7 a8 a9 a10 a11 s1 s2 a14) (fun i s1 s2 => 1 ≤ i ∧ (∀ T, T < i → dq_co a11 s1 T R) ∧ (∀ T, T < i → s2 T = nI (dq_nc a11 R T))) 64 1 a a' (by omega)
      ⟨by omega, fun T hT => by rw [show T = 0 by omega]; exact h1, fun T hT => by rw [show T = 0 by omega]; exact h2⟩ ?_ ?_
    · rintro n s1 s2 ⟨_, i1, i2⟩
      exact pk_le 64 64 (fun _ => H s1 s2 i2) (fun z => absurd z (by omega))
    · rintro n i s1 s2 hi ⟨i0, i1, i2⟩ hw
      refine pk_le 64 i (fun z => absurd z (by omega)) (fun _ => ?_)
      exact dq_partClasses hR hi (by omega) i1 i2 (fun b b' k1 k2 => nm_r (nI_1 i) (hw _ _ ⟨by omega, k1, k2⟩))
  have ag0 : ∀ p q, dq_ag a11 0 p q := fun p q c _ h => absurd h (dq_0_i c)
  refine dq_lp1 (fun n i a => wX_findClasses_2 post c0 cg bk sd sc kc pc (nI R) n (nI i) a1 a2 a3 a4 a5 a6 a7 a8 a9 a10 a11 a a13 a14) (fun i a => ∀ j, j < i → a j = 0) R 0 a12 (by omega) (fun j hj => absurd hj (by omega)) ?_ ?_
  · intro n a ha
    have hco : dq_co a11 a 0 R := fun p hp => ⟨0, by omega, by rw [Nat.mul_zero, Nat.zero_add]; exact ha p hp, ag0 0 p, fun q hq => absurd hq (by omega)⟩
    refine pk_le R R (fun _ => ?_) (fun z => absurd z (by omega))
    refine pk_le R 0 (fun g => nm_e (main _ _ hco ?_)) (fun g => nm_e (main _ _ hco ?_))
    · have e : R = 0 := by omega
      rw [pk_us, e]
      rfl
    · rw [pk_us]
      have e : dq_nc a11 R 0 = 1 := dq_nc_0 g
      rw [e]
      rfl
  · intro n i a hi ha hw
    refine pk_le R i (fun z => absurd z (by omega)) (fun _ => ⟨pk_in i 384 (by omega), nm_e (nm_r (nI_1 i) (hw _ ?_))⟩)
    rw [nI_clamp (show i < 2 ^ 31 by omega)]
    intro j hj
    by_cases e : j = i
    · rw [e, pk_us]
    · rw [pk_un e]
      exact ha j (by omega)
end
section
theorem dq_keeps {post : Int32 → St1 → Prop} {c0 cg bk sd sc kc pc : Int32} {a1 a2 a3 a4 a5 a6 a7 a8 a9 a10 a11 a12 a13 a14 : Nat → Int32} {R x y : Nat} (hR : R ≤ 6) (hx : x < 64) (hy : y < 64)
    (H1 : dq_hd a11 R x y → ∀ a12' a13' : Nat → Int32, post 1 (c0, cg, bk, sd, sc, kc, pc, nI R, a1, a2, a3, a4, a5, a6, a7, a8, a9, a10, a11, a12', a13', a14)) (H0 : ¬ dq_hd a11 R x y → ∀ a12' a13' : Nat → Int32, post 0 (c0, cg, bk, sd, sc, kc, pc, nI R, a1, a2, a3, a4, a5, a6, a7, a8, a9, a10, a11, a12', a13', a14)) : wpX_keeps post (c0, cg, bk, sd, sc, kc, pc, nI R, a1, a2, a3, a4, a5, a6, a7, a8, a9, a10, a11, a12, a13, a14) (nI x) (nI y) := by
  unfold wpX_keeps
  dsimp only
  refine dq_badSet hx (br_t rfl ?_)
  refine dq_badSet hy (br_t rfl ?_)
  refine dq_findClasses hR (fun b b' hb => ?_)
  dsimp only
  have l1 := dq_or_lt hx hy
  have n1 := dq_nc_le a11 R (x ||| y)
  have n2 := dq_nc_le a11 R x
  rw [dq_or, nI_clamp (show x ||| y < 2 ^ 31 by omega), nI_clamp (show x < 2 ^ 31 by omega), hb _ l1, hb _ hx]
  exact ⟨pk_in (x ||| y) 64 l1, pk_in x 64 hx, pk_eq (dq_nc a11 R (x ||| y)) (dq_nc a11 R x) (fun e => H1 (dq_nc_iff.mp e) _ _) (fun e => H0 (fun z => e (dq_nc_iff.mpr z)) _ _)⟩
/-- the table gives just what follows -/
def dq_EX (a11 : Nat → Int32) (R : Nat) (K : Nat → Nat) : Prop := ∀ x, x < 64 → ∀ c, c < 6 → (dq_hd a11 R x (2 ^ c) ↔ (K x).testBit c = true)
theorem dq_exact1 {post : Int32 → St1 → Prop} {c0 cg bk sc kc pc : Int32} {a1 a2 a3 a4 a5 a6 a7 a8 a9 a10 a11 a12 a13 a14 : Nat → Int32} {R : Nat} {K : Nat → Nat} (hR : R ≤ 6) (h5 : ∀ j, j < 64 → a5 j = nI (K j)) (hK : ∀ j, j < 64 → K j < 64)
    (H1 : dq_EX a11 R K → ∀ a12' a13' : Nat → Int32, post 1 (c0, cg, bk, 1, sc, kc, pc, nI R, a1, a2, a3, a4, a5, a6, a7, a8, a9, a10, a11, a12', a13', a14)) (H0 : ¬ dq_EX a11 R K → ∀ a12' a13' : Nat → Int32, post 0 (c0, cg, bk, 1, sc, kc, pc, nI R, a1, a2, a3, a4, a5, a6, a7, a8, a9, a10, a11, a12', a13', a14)) : wpX_exact post (c0, cg, bk, 1, sc, kc, pc, nI R, a1, a2, a3, a4, a5, a6, a7, a8, a9, a10, a11, a12, a13, a14) := by
  unfold wpX_exact
  dsimp only
  refine dq_study1 ?_
  refine dq_findClasses hR (fun b b' hb => ?_)
  refine dq_lp1 (fun n i s => wX_exact_12 post c0 cg bk 1 sc kc pc (nI R) a1 a2 a3 a4 a5 a6 a7 a8 a9 a10 a11 b b' a14 n s (nI i)) (fun i s => (s = 1 ∧ ∀ x, x < i → ∀ c, c < 6 → (dq_hd a11 R x (2 ^ c) ↔ (K x).testBit c = true)) ∨ (s = 0 ∧ ¬ dq_EX a11 R K)) 64 0 1 (by omega) (.inl ⟨rfl, fun x hx => absurd hx (by omega)⟩) ?_ ?_
  · rintro n s (⟨rfl, h⟩ | ⟨rfl, h⟩)
    · exact pk_le 64 64 (fun _ => ⟨dq_nb1, H1 h _ _⟩) (fun z => absurd z (by omega))
    · exact pk_le 64 64 (fun _ => ⟨dq_nb0, H0 h _ _⟩) (fun z => absurd z (by omega))
  · rintro n i s hi (⟨rfl, h⟩ | ⟨rfl, h⟩) hw
    · refine pk_le 64 i (fun z => absurd z (by omega)) (fun _ => br_f (by decide) ?_)
      refine dq_lp1 (fun n' j s => wX_exact_27 post (wX_exact_12 post c0 cg bk 1 sc kc pc (nI R) a1 a2 a3 a4 a5 a6 a7 a8 a9 a10 a11 b b' a14 n) (nI i) c0 cg bk 1 sc kc pc (nI R) a1 a2 a3 a4 a5 a6 a7 a8 a9 a10 a11 b b' a14 n' s (nI j)) (fun j s => ∃ o, s = nI o ∧ o < 64 ∧ ∀ d, d < 6 → (o.testBit d = true ↔ (d < j ∧ dq_hd a11 R i (2 ^ d)))) 6 0 0 (by omega) ⟨0, rfl, by omega, fun d _ => ⟨fun z => absurd z (dq_0_i d), fun z => absurd z.1 (by omega)⟩⟩ ?_ ?_
      · rintro n' s ⟨o, rfl, o1, o2⟩
        refine pk_le 6 6 (fun _ => ⟨pk_in i 64 hi, ?_⟩) (fun z => absurd z (by omega))
        have k1 := hK i hi
        rw [nI_clamp (show i < 2 ^ 31 by omega), h5 i hi]
        refine pk_eq o (K i) (fun e => nm_r (nI_1 i) (hw _ (.inl ⟨rfl, lt_s h (fun c hc => ?_)⟩))) (fun e => nm_r (nI_1 i) (hw _ (.inr ⟨rfl, fun z => e ?_⟩)))
        · rw [← e, o2 c hc]
          exact ⟨fun z => ⟨hc, z⟩, fun z => z.2⟩
        · apply dq_ext o1 k1
          intro c hc
          rw [o2 c hc, ← z i hi c hc]
          exact ⟨fun z => z.2, fun z => ⟨hc, z⟩⟩
      · rintro n' j s hj ⟨o, rfl, o1, o2⟩ hw2
        have hp := dq_pw_lt hj
        have l1 := dq_or_lt hi hp
        have n1 := dq_nc_le a11 R (i ||| 2 ^ j)
        have n2 := dq_nc_le a11 R i
        refine pk_le 6 j (fun z => absurd z (by omega)) (fun _ => ?_)
        rw [dq_shl j (by omega), dq_or, nI_clamp (show i ||| 2 ^ j < 2 ^ 31 by omega), nI_clamp (show i < 2 ^ 31 by omega), hb _ l1, hb _ hi]
        refine ⟨pk_in (i ||| 2 ^ j) 64 l1, pk_in i 64 hi, pk_eq (dq_nc a11 R (i ||| 2 ^ j)) (dq_nc a11 R i) (fun e => nm_r (dq_or o (2 ^ j)) (nm_r (nI_1 j) (hw2 _ ⟨o ||| 2 ^ j, rfl, dq_or_lt o1 hp, fun d hd => ?_⟩))) (fun e => nm_r (nI_1 j) (hw2 _ ⟨o, rfl, o1, fun d hd => ?_⟩))⟩
        · rw [dq_or_i, o2 d hd, dq_pw_i]
          constructor
          · rintro (z | z)
            · exact ⟨by omega, z.2⟩
            · rw [← z]
              exact ⟨by omega, dq_nc_iff.mp e⟩
          · intro z
            by_cases ej : j = d
            · exact .inr ej
            · exact .inl ⟨by omega, z.2⟩
        · rw [o2 d hd]
          constructor
          · intro z
            exact ⟨by omega, z.2⟩
          · intro z
            by_cases ej : d = j
            · rw [ej] at z
              exact absurd (dq_nc_iff.mpr z.2) e
            · exact ⟨by omega, z.2⟩
    · exact pk_le 64 i (fun z => absurd z (by omega)) (fun _ => br_t rfl ⟨dq_nb0, H0 h _ _⟩)
/-- no smaller set gives c -/
def dq_LF (a11 : Nat → Int32) (R x c : Nat) : Prop := ∀ k, k < 6 → x.testBit k = true → ¬ dq_hd a11 R (dq_mi x (2 ^ k)) (2 ^ c)
def dq_DP (a11 : Nat → Int32) (R x c : Nat) : Prop := ¬ x.testBit c = true ∧ dq_hd a11 R x (2 ^ c) ∧ dq_LF a11 R x c
theorem dq_isLeastFor {post : Int32 → Prop} {c0 cg bk sd sc kc pc ro : Int32} {a1 a2 a3 a4 a5 a6 a7 a8 a9 a10 a11 a12 a13 a14 : Nat → Int32} {R x c : Nat} (hR : R ≤ 6) (hb : ∀ T, T < 64 → a13 T = nI (dq_nc a11 R T)) (hx : x < 64) (hc : c < 6)
    (H1 : dq_LF a11 R x c → post 1) (H0 : ¬ dq_LF a11 R x c → post 0) : wpX_isLeastFor post (c0, cg, bk, sd, sc, kc, pc, ro, a1, a2, a3, a4, a5, a6, a7, a8, a9, a10, a11, a12, a13, a14) (nI x) (nI c) := by
  refine dq_lp1 (fun n i s => wX_isLeastFor_5 post (nI x) (nI c) c0 cg bk sd sc kc pc ro a1 a2 a3 a4 a5 a6 a7 a8 a9 a10 a11 a12 a13 a14 n s (nI i)) (fun i s => (s = 1 ∧ ∀ k, k < i → x.testBit k = true → ¬ dq_hd a11 R (dq_mi x (2 ^ k)) (2 ^ c)) ∨ (s = 0 ∧ ¬ dq_LF a11 R x c)) 6 0 1 (by omega) (.inl ⟨rfl, fun k hk => absurd hk (by omega)⟩) ?_ ?_
  · rintro n s (⟨rfl, h⟩ | ⟨rfl, h⟩)
    · exact pk_le 6 6 (fun _ => ⟨dq_nb1, H1 h⟩) (fun z => absurd z (by omega))
    · exact pk_le 6 6 (fun _ => ⟨dq_nb0, H0 h⟩) (fun z => absurd z (by omega))
  · rintro n i s hi h hw
    have hp := dq_pw_lt hc
    have hm := dq_mi_lt (2 ^ i) hx
    have l1 := dq_or_lt hm hp
    have n1 := dq_nc_le a11 R (dq_mi x (2 ^ i) ||| 2 ^ c)
    have n2 := dq_nc_le a11 R (dq_mi x (2 ^ i))
    refine pk_le 6 i (fun z => absurd z (by omega)) (fun _ => nm_r (dq_notb hx hi) ?_)
    rcases h with ⟨rfl, h⟩ | ⟨rfl, h⟩
    · refine br_f (by decide) (pk_eq (dq_mi x (2 ^ i)) x (fun e => nm_r (nI_1 i) (hw _ (.inl ⟨rfl, lt_s h (fun z => ?_)⟩))) (fun e => ?_))
      · rw [← e] at z
        exact absurd ((dq_pw_i i i).mpr rfl) ((dq_mi_i _ i hx).mp z).2
      · rw [dq_shl c (by omega), dq_or, nI_clamp (show dq_mi x (2 ^ i) ||| 2 ^ c < 2 ^ 31 by omega), nI_clamp (show dq_mi x (2 ^ i) < 2 ^ 31 by omega), hb _ l1, hb _ hm]
        refine ⟨pk_in (dq_mi x (2 ^ i) ||| 2 ^ c) 64 l1, pk_in (dq_mi x (2 ^ i)) 64 hm, pk_eq (dq_nc a11 R (dq_mi x (2 ^ i) ||| 2 ^ c)) (dq_nc a11 R (dq_mi x (2 ^ i))) (fun g => nm_r (nI_1 i) (hw _ (.inr ⟨rfl, fun z => ?_⟩))) (fun g => nm_r (nI_1 i) (hw _ (.inl ⟨rfl, lt_s h (fun _ z => g (dq_nc_iff.mpr z))⟩)))⟩
        refine z i hi ?_ (dq_nc_iff.mp g)
        by_cases k : x.testBit i = true
        · exact k
        · refine absurd (dq_eq (fun d hd => ((dq_mi_i _ d hx).mp hd).1) (fun d hd => (dq_mi_i _ d hx).mpr ⟨hd, fun y => k ?_⟩)) e
          rw [(dq_pw_i i d).mp y]
          exact hd
    · exact br_t rfl (nm_r (nI_1 i) (hw _ (.inr ⟨rfl, h⟩)))
theorem dq_discovered {post : Int32 → St1 → Prop} {c0 cg bk sd sc kc pc : Int32} {a1 a2 a3 a4 a5 a6 a7 a8 a9 a10 a11 a12 a13 a14 : Nat → Int32} {R : Nat} (hR : R ≤ 6)
    (H : ∀ a12' a13' : Nat → Int32, post (nI (dq_ct (fun n => dq_DP a11 R (n / 6) (n % 6)) 384)) (c0, cg, bk, sd, sc, kc, pc, nI R, a1, a2, a3, a4, a5, a6, a7, a8, a9, a10, a11, a12', a13', a14)) : wpX_discovered post (c0, cg, bk, sd, sc, kc, pc, nI R, a1, a2, a3, a4, a5, a6, a7, a8, a9, a10, a11, a12, a13, a14) := by
  unfold wpX_discovered
  dsimp only
  refine dq_findClasses hR (fun b b' hb => ?_)
  refine dq_lp1 (fun n i s => wX_discovered_8 post c0 cg bk sd sc kc pc (nI R) a1 a2 a3 a4 a5 a6 a7 a8 a9 a10 a11 b b' a14 n s (nI i)) (fun i s => s = nI (dq_ct (fun n => dq_DP a11 R (n / 6) (n % 6)) (6 * i))) 64 0 0 (by omega) rfl ?_ ?_
  · rintro n s rfl
    exact pk_le 64 64 (fun _ => H _ _) (fun z => absurd z (by omega))
  · rintro n i s hi rfl hw
    refine pk_le 64 i (fun z => absurd z (by omega)) (fun _ => ?_)
    refine dq_lp1 (fun n' j s => wX_discovered_16 post (wX_discovered_8 post c0 cg bk sd sc kc pc (nI R) a1 a2 a3 a4 a5 a6 a7 a8 a9 a10 a11 b b' a14 n) (nI i) c0 cg bk sd sc kc pc (nI R) a1 a2 a3 a4 a5 a6 a7 a8 a9 a10 a11 b b' a14 n' s (nI j)) (fun j s => s = nI (dq_ct (fun n => dq_DP a11 R (n / 6) (n % 6)) (6 * i + j))) 6 0 (nI (dq_ct (fun n => dq_DP a11 R (n / 6) (n % 6)) (6 * i))) (by omega) rfl ?_ ?_
    · rintro n' s rfl
      exact pk_le 6 6 (fun _ => nm_r (nI_1 i) (hw _ rfl)) (fun z => absurd z (by omega))
    · rintro n' j s hj rfl hw2
      have hp := dq_pw_lt hj
      have l1 := dq_or_lt hi hp
      have n1 := dq_nc_le a11 R (i ||| 2 ^ j)
      have n2 := dq_nc_le a11 R i
      have q1 : (6 * i + j) / 6 = i := by omega
      have q2 : (6 * i + j) % 6 = j := by omega
      have yes : dq_DP a11 R i j → dq_ct (fun n => dq_DP a11 R (n / 6) (n % 6)) (6 * i + (j + 1)) = dq_ct (fun n => dq_DP a11 R (n / 6) (n % 6)) (6 * i + j) + 1 := fun z =>
        dq_ct_t (P := fun n => dq_DP a11 R (n / 6) (n % 6)) (n := 6 * i + j) (by show dq_DP a11 R ((6 * i + j) / 6) ((6 * i + j) % 6); rw [q1, q2]; exact z)
      have no : ¬ dq_DP a11 R i j → dq_ct (fun n => dq_DP a11 R (n / 6) (n % 6)) (6 * i + (j + 1)) = dq_ct (fun n => dq_DP a11 R (n / 6) (n % 6)) (6 * i + j) := fun z =>
        dq_ct_f (P := fun n => dq_DP a11 R (n / 6) (n % 6)) (n := 6 * i + j) (by show ¬ dq_DP a11 R ((6 * i + j) / 6) ((6 * i + j) % 6); rw [q1, q2]; exact z)
      refine pk_le 6 j (fun z => absurd z (by omega)) (fun _ => dq_if0 i j (fun g => ?_) (fun g => br_t rfl (nm_r (nI_1 j) (hw2 _ (by rw [no (fun z => z.1 g)])))))
      refine br_f (by decide) ?_
      rw [dq_shl j (by omega), dq_or, nI_clamp (show i ||| 2 ^ j < 2 ^ 31 by omega), nI_clamp (show i < 2 ^ 31 by omega), hb _ l1, hb _ hi]
      refine ⟨pk_in (i ||| 2 ^ j) 64 l1, pk_in i 64 hi, pk_eq (dq_nc a11 R (i ||| 2 ^ j)) (dq_nc a11 R i) (fun e => ?_) (fun e => nm_r (nI_1 j) (hw2 _ (by rw [no (fun z => e (dq_nc_iff.mpr z.2.1))])))⟩
      refine dq_isLeastFor hR hb hi hj (fun k => br_f (by decide) (nm_r (nI_1 _) (nm_r (nI_1 j) (hw2 _ (by rw [yes ⟨g, dq_nc_iff.mp e, k⟩]))))) (fun k => br_t rfl (nm_r (nI_1 j) (hw2 _ (by rw [no (fun z => k z.2.2)]))))
theorem dq_stems1 {post : Int32 → St1 → Prop} {c0 cg bk sc kc pc ro : Int32} {a1 a2 a3 a4 a5 a6 a7 a8 a9 a10 a11 a12 a13 a14 : Nat → Int32} (H : post sc (c0, cg, bk, 1, sc, kc, pc, ro, a1, a2, a3, a4, a5, a6, a7, a8, a9, a10, a11, a12, a13, a14)) : wpX_stems post (c0, cg, bk, 1, sc, kc, pc, ro, a1, a2, a3, a4, a5, a6, a7, a8, a9, a10, a11, a12, a13, a14) := by
  unfold wpX_stems
  dsimp only
  exact dq_study1 H
theorem dq_keys1 {post : Int32 → St1 → Prop} {c0 cg bk sc kc pc ro : Int32} {a1 a2 a3 a4 a5 a6 a7 a8 a9 a10 a11 a12 a13 a14 : Nat → Int32} (H : post kc (c0, cg, bk, 1, sc, kc, pc, ro, a1, a2, a3, a4, a5, a6, a7, a8, a9, a10, a11, a12, a13, a14)) : wpX_keys post (c0, cg, bk, 1, sc, kc, pc, ro, a1, a2, a3, a4, a5, a6, a7, a8, a9, a10, a11, a12, a13, a14) := by
  unfold wpX_keys
  dsimp only
  exact dq_study1 H
theorem dq_key1 {post : Int32 → St1 → Prop} {c0 cg bk sc pc ro : Int32} {a1 a2 a3 a4 a5 a6 a7 a8 a9 a10 a11 a12 a13 a14 : Nat → Int32} {n i : Nat} (hn : n ≤ 20) (hi : i < 100) (H1 : i < n → post (a8 i) (c0, cg, bk, 1, sc, nI n, pc, ro, a1, a2, a3, a4, a5, a6, a7, a8, a9, a10, a11, a12, a13, a14)) (H0 : n ≤ i → post (-3) (c0, cg, bk, 1, sc, nI n, pc, ro, a1, a2, a3, a4, a5, a6, a7, a8, a9, a10, a11, a12, a13, a14)) : wpX_key post (c0, cg, bk, 1, sc, nI n, pc, ro, a1, a2, a3, a4, a5, a6, a7, a8, a9, a10, a11, a12, a13, a14) (nI i) := by
  unfold wpX_key
  dsimp only
  refine dq_study1 (br_f (nI_pos (by omega)) ?_)
  refine pk_lt i n (fun g => ⟨pk_in i 20 (by omega), ?_⟩) (fun g => H0 g)
  rw [nI_clamp (show i < 2 ^ 31 by omega)]
  exact H1 g
theorem dq_stem1 {post : Int32 → St1 → Prop} {c0 cg bk sc kc pc ro : Int32} {a1 a2 a3 a4 a5 a6 a7 a8 a9 a10 a11 a12 a13 a14 : Nat → Int32} {i : Nat} (hi : i < 100) (H1 : ∀ q, q < 64 → ¬ a7 q = 0 → dq_ct (fun j => ¬ a7 j = 0) q = i → post (nI q) (c0, cg, bk, 1, sc, kc, pc, ro, a1, a2, a3, a4, a5, a6, a7, a8, a9, a10, a11, a12, a13, a14)) (H0 : dq_ct (fun j => ¬ a7 j = 0) 64 ≤ i → post (-3) (c0, cg, bk, 1, sc, kc, pc, ro, a1, a2, a3, a4, a5, a6, a7, a8, a9, a10, a11, a12, a13, a14)) : wpX_stem post (c0, cg, bk, 1, sc, kc, pc, ro, a1, a2, a3, a4, a5, a6, a7, a8, a9, a10, a11, a12, a13, a14) (nI i) := by
  unfold wpX_stem
  dsimp only
  refine dq_study1 ?_
  refine dq_lp1 (fun n j s => wX_stem_8 post (nI i) c0 cg bk 1 sc kc pc ro a1 a2 a3 a4 a5 a6 a7 a8 a9 a10 a11 a12 a13 a14 n s (nI j)) (fun j s => s = nI (dq_ct (fun j => ¬ a7 j = 0) j) ∧ dq_ct (fun j => ¬ a7 j = 0) j ≤ i) 64 0 0 (by omega) ⟨rfl, Nat.zero_le _⟩ ?_ ?_
  · rintro n s ⟨rfl, h⟩
    exact pk_le 64 64 (fun _ => H0 h) (fun z => absurd z (by omega))
  · rintro n j s hj ⟨rfl, h⟩ hw
    have cj : (nI j).toNatClampNeg = j := nI_clamp (by omega)
    refine pk_le 64 j (fun z => absurd z (by omega)) (fun _ => ⟨pk_in j 64 hj, ?_⟩)
    rw [cj]
    refine br_c (fun e => nm_r (nI_1 j) (hw _ ⟨by rw [dq_ct_f (P := fun j => ¬ a7 j = 0) (fun z => z e)], by rw [dq_ct_f (P := fun j => ¬ a7 j = 0) (fun z => z e)]; exact h⟩)) (fun e => ?_)
    refine pk_eq (dq_ct (fun j => ¬ a7 j = 0) j) i (fun g => H1 j hj e g) (fun g => nm_r (nI_1 _) (nm_r (nI_1 j) (hw _ ⟨by rw [dq_ct_t (P := fun j => ¬ a7 j = 0) e], by rw [dq_ct_t (P := fun j => ¬ a7 j = 0) e]; omega⟩)))
end
section
theorem dq_63a {a : Nat} (h : a < 64) : a &&& 63 = a := Nat.and_two_pow_sub_one_of_lt_two_pow (n := 6) h
theorem dq_joinAll {post : Int32 → St1 → Prop} {cg bk sd sc kc ro : Int32} {a1 a2 a3 a4 a5 a6 a7 a8 a9 a10 a11 a12 a13 a14 : Nat → Int32} {k : Nat} (hk : k ≤ 10) (H : post 0 (nI k, cg, bk, sd, sc, kc, nI 1, ro, a1, a2, a3, a4, a5, a6, a7, a8, a9, a10, a11, a12, a13, a14)) : wpX_joinAll post (nI k, cg, bk, sd, sc, kc, nI 1, ro, a1, a2, a3, a4, a5, a6, a7, a8, a9, a10, a11, a12, a13, a14) := by
  refine dq_lp0 (fun n i => wX_joinAll_4 post n 0 (nI i) (nI k) cg bk sd sc kc (nI 1) ro a1 a2 a3 a4 a5 a6 a7 a8 a9 a10 a11 a12 a13 a14) (fun _ => True) k 0 (by omega) trivial ?_ ?_
  · intro n _
    exact pk_le k k (fun _ => ⟨dq_nb0, H⟩) (fun z => absurd z (by omega))
  · intro n i hi _ hw
    refine pk_le k i (fun z => absurd z (by omega)) (fun _ => ?_)
    refine dq_lp0 (fun n' j => wX_joinAll_14 post (wX_joinAll_4 post n) (nI i) n' 0 (nI j) (nI k) cg bk sd sc kc (nI 1) ro a1 a2 a3 a4 a5 a6 a7 a8 a9 a10 a11 a12 a13 a14) (fun _ => True) 16 0 (by omega) trivial ?_ ?_
    · intro n' _
      exact pk_le 16 16 (fun _ => nm_r (nI_1 i) (hw trivial)) (fun z => absurd z (by omega))
    · intro n' j hj _ hw2
      have same : wX_joinAll_71 post (wX_joinAll_4 post n) (wX_joinAll_14 post (wX_joinAll_4 post n) (nI i) n') 0 (nI i) (nI j) (nI k) cg bk sd sc kc (nI 1) ro a1 a2 a3 a4 a5 a6 a7 a8 a9 a10 a11 a12 a13 a14 :=
        br_t rfl (br_t rfl (nm_r (nI_1 j) (hw2 trivial)))
      refine pk_le 16 j (fun z => absurd z (by omega)) (fun _ => ⟨pk_in i 10 (by omega), br_c (fun _ => ⟨by decide, nm_r (pk_div (a := j) (d := 4) (by omega) (by omega) (by omega)) ⟨by decide, nm_r (pk_rem (a := j) (d := 4) (by omega) (by omega) (by omega)) ?_⟩⟩) (fun _ => nm_r (nI_1 i) (hw trivial))⟩)
      refine pk_le (j % 4) (j / 4) (fun _ => same) (fun g => pk_le 1 (j % 4) (fun _ => same) (fun g2 => ?_))
      omega
theorem dq_lossless {post : Int32 → St1 → Prop} {cg bk sd sc kc ro : Int32} {a1 a2 a3 a4 a5 a6 a7 a8 a9 a10 a11 a12 a13 a14 : Nat → Int32} {k : Nat} (hk : k ≤ 10) (h9 : a9 0 = 63) (H : ∀ a, post 1 (nI k, cg, bk, sd, sc, kc, nI 1, ro, a1, a2, a3, a4, a5, a6, a7, a8, a9, a, a11, a12, a13, a14)) : wpX_lossless post (nI k, cg, bk, sd, sc, kc, nI 1, ro, a1, a2, a3, a4, a5, a6, a7, a8, a9, a10, a11, a12, a13, a14) := by
  have fin : ∀ a : Nat → Int32, (∀ j, j < 6 → a j = 0) → ∃ n, wX_lossless_100 post (nI k) cg bk sd sc kc (nI 1) ro a1 a2 a3 a4 a5 a6 a7 a8 a9 a a11 a12 a13 a14 n 0 0 := by
    intro a ha
    refine dq_lp1 (fun n i s => wX_lossless_100 post (nI k) cg bk sd sc kc (nI 1) ro a1 a2 a3 a4 a5 a6 a7 a8 a9 a a11 a12 a13 a14 n s (nI i)) (fun i s => (i = 0 ∧ s = 0) ∨ (i = 1 ∧ s = 1)) 1 0 0 (by omega) (.inl ⟨rfl, rfl⟩) ?_ ?_
    · rintro n s (⟨z, _⟩ | ⟨_, rfl⟩)
      · omega
      · exact pk_le 1 1 (fun _ => ⟨dq_nb1, H a⟩) (fun z => absurd z (by omega))
    · rintro n i s hi (⟨rfl, rfl⟩ | ⟨z, _⟩) hw
      · refine pk_le 1 0 (fun z => absurd z (by omega)) (fun _ => ?_)
        refine dq_lp0 (fun n' j => wX_lossless_114 post (wX_lossless_100 post (nI k) cg bk sd sc kc (nI 1) ro a1 a2 a3 a4 a5 a6 a7 a8 a9 a a11 a12 a13 a14 n) 0 (nI 0) (nI k) cg bk sd sc kc (nI 1) ro a1 a2 a3 a4 a5 a6 a7 a8 a9 a a11 a12 a13 a14 n' 1 (nI j)) (fun _ => True) 6 0 (by omega) trivial ?_ ?_
        · intro n' _
          exact pk_le 6 6 (fun _ => br_t rfl (br_f (by decide) (nm_r (nI_1 0) (hw _ (.inr ⟨rfl, rfl⟩))))) (fun z => absurd z (by omega))
        · intro n' j hj _ hw2
          refine pk_le 6 j (fun z => absurd z (by omega)) (fun _ => br_f (by decide) ?_)
          rw [dq_ix, Nat.mul_zero, Nat.zero_add, nI_clamp (show j < 2 ^ 31 by omega)]
          exact ⟨pk_in j 24 (by omega), br_t (ha j hj) (nm_r (nI_1 j) (hw2 trivial))⟩
      · omega
  have mid : ∀ a : Nat → Int32, (∀ j, j < 6 → a j = 0) → ∃ n, wX_lossless_75 post n 1 0 (nI k) cg bk sd sc kc (nI 1) ro a1 a2 a3 a4 a5 a6 a7 a8 a9 a a11 a12 a13 a14 := by
    intro a ha
    refine dq_lp1 (fun n i s => wX_lossless_75 post n s (nI i) (nI k) cg bk sd sc kc (nI 1) ro a1 a2 a3 a4 a5 a6 a7 a8 a9 a a11 a12 a13 a14) (fun i s => True) 20 0 1 (by omega) trivial ?_ ?_
    · intro n s _
      exact pk_le 20 20 (fun _ => fin a ha) (fun z => absurd z (by omega))
    · intro n i s hi _ hw
      refine pk_le 20 i (fun z => absurd z (by omega)) (fun _ => br_c (fun _ => fin a ha) (fun _ => ?_))
      exact dq_joinAll hk (nm_r (nI_1 i) (hw _ trivial))
  refine br_f (by decide) ?_
  refine dq_lp1 (fun n i a => wX_lossless_11 post (nI k) cg bk sd sc kc (nI 1) ro n (nI i) a1 a2 a3 a4 a5 a6 a7 a8 a9 a a11 a12 a13 a14) (fun i a => i = 0 ∨ ∀ j, j < 6 → a j = 0) 1 0 a10 (by omega) (.inl rfl) ?_ ?_
  · rintro n a (z | ha)
    · omega
    · exact pk_le 1 1 (fun _ => mid a ha) (fun z => absurd z (by omega))
  · intro n i a hi _ hw
    obtain rfl : i = 0 := by omega
    refine pk_le 1 0 (fun z => absurd z (by omega)) (fun _ => ?_)
    refine dq_lp1 (fun n' j a => wX_lossless_21 post (wX_lossless_11 post (nI k) cg bk sd sc kc (nI 1) ro n) (nI 0) (nI k) cg bk sd sc kc (nI 1) ro n' (nI j) a1 a2 a3 a4 a5 a6 a7 a8 a9 a a11 a12 a13 a14) (fun j a => ∀ d, d < j → a d = 0) 6 0 a (by omega) (fun d hd => absurd hd (by omega)) ?_ ?_
    · intro n' a' ha'
      exact pk_le 6 6 (fun _ => nm_r (nI_1 0) (hw _ (.inr ha'))) (fun z => absurd z (by omega))
    · intro n' j a' hj ha' hw2
      refine pk_le 6 j (fun z => absurd z (by omega)) (fun _ => ⟨pk_in 0 4 (by omega), ?_⟩)
      rw [nI_clamp (show 0 < 2 ^ 31 by omega), h9, dq_ix, Nat.mul_zero, Nat.zero_add, nI_clamp (show j < 2 ^ 31 by omega)]
      refine dq_if1 63 j (fun _ => ⟨pk_in j 24 (by omega), nm_e (nm_r (nI_1 j) (hw2 _ ?_))⟩) (fun g => absurd ((dq_63_i j).mpr hj) g)
      intro d hd
      by_cases e : d = j
      · rw [e, pk_us]
      · rw [pk_un e]
        exact ha' d (by omega)
theorem dq_singleGiven {post : Int32 → Prop} {cg bk sd sc kc pc ro : Int32} {a1 a2 a3 a4 a5 a6 a7 a8 a9 a10 a11 a12 a13 a14 : Nat → Int32} {k : Nat} (hk : k ≤ 10) (H : ∀ g : Nat, dq_cn k (fun d => a3 d = 0) (nI g) → post (nI g)) : wpX_singleGiven post (nI k, cg, bk, sd, sc, kc, pc, ro, a1, a2, a3, a4, a5, a6, a7, a8, a9, a10, a11, a12, a13, a14) := by
  refine dq_lp1 (fun n i s => wX_singleGiven_4 post (nI k) cg bk sd sc kc pc ro a1 a2 a3 a4 a5 a6 a7 a8 a9 a10 a11 a12 a13 a14 n s (nI i)) (fun i s => ∃ g, s = nI g ∧ g < 2 ^ 10 ∧ ∀ d, d < 10 → (g.testBit d = true ↔ (d < i ∧ a3 d = 0))) k 0 0 (by omega)
    ⟨0, rfl, by decide, fun d _ => ⟨fun z => absurd z (dq_0_i d), fun z => absurd z.1 (by omega)⟩⟩ ?_ ?_
  · rintro n s ⟨g, rfl, g1, g2⟩
    refine pk_le k k (fun _ => H g (fun d hd => ?_)) (fun z => absurd z (by omega))
    rw [dq_b1 (by omega) (by omega), g2 d (by omega)]
    exact ⟨fun z => z.2, fun z => ⟨hd, z⟩⟩
  · rintro n i s hi ⟨g, rfl, g1, g2⟩ hw
    refine pk_le k i (fun z => absurd z (by omega)) (fun _ => ⟨pk_in i 10 (by omega), ?_⟩)
    rw [nI_clamp (show i < 2 ^ 31 by omega), dq_shl i (by omega)]
    refine br_c (fun e => nm_r (dq_or g (2 ^ i)) (nm_r (nI_1 i) (hw _ ⟨g ||| 2 ^ i, rfl, Nat.or_lt_two_pow g1 (Nat.pow_lt_pow_right (by omega) (by omega)), fun d hd => ?_⟩))) (fun e => nm_r (nI_1 i) (hw _ ⟨g, rfl, g1, fun d hd => ?_⟩))
    · rw [dq_or_i, g2 d hd, dq_pw_i]
      constructor
      · rintro (z | z)
        · exact ⟨by omega, z.2⟩
        · rw [← z]
          exact ⟨by omega, e⟩
      · intro z
        by_cases ej : i = d
        · exact .inr ej
        · exact .inl ⟨by omega, z.2⟩
    · rw [g2 d hd]
      constructor
      · intro z
        exact ⟨by omega, z.2⟩
      · intro z
        by_cases ej : d = i
        · rw [ej] at z
          exact absurd z.2 e
        · exact ⟨by omega, z.2⟩
theorem dq_closedInParts {post : Int32 → St1 → Prop} {cg bk sd sc kc ro : Int32} {a1 a2 a3 a4 a5 a6 a7 a8 a9 a10 a11 a12 a13 a14 : Nat → Int32} {k : Nat} {cn : Nat → Prop} {lf rt : Nat → Nat} {x : Nat} (hk : k ≤ 10) (hl : dq_lk k lf rt a1 a2) (hcn : dq_cn k cn cg) (h9 : a9 0 = 63) (hx : x < 64)
    (H : ∀ (o : Nat) (b : Int32) (a : Nat → Int32), o < 64 → dq_su (dq_cl (dq_D k cn lf rt a3) (dq_T k cn lf rt a3) x) o → post (nI o) (nI k, cg, b, sd, sc, kc, nI 1, ro, a1, a2, a3, a, a5, a6, a7, a8, a9, a10, a11, a12, a13, a14)) : wpX_closedInParts post (nI k, cg, bk, sd, sc, kc, nI 1, ro, a1, a2, a3, a4, a5, a6, a7, a8, a9, a10, a11, a12, a13, a14) (nI x) := by
  refine dq_lp4 (fun n i s1 s2 s3 s4 => wX_closedInParts_7 post n s1 s2 (nI i) (nI k) cg s3 sd sc kc (nI 1) ro a1 a2 a3 s4 a5 a6 a7 a8 a9 a10 a11 a12 a13 a14)
    (fun i s1 s2 _ _ => ∃ o, s1 = nI o ∧ o < 64 ∧ ((i = 0 ∧ o = x ∧ s2 = 1) ∨ dq_su (dq_cl (dq_D k cn lf rt a3) (dq_T k cn lf rt a3) x) o)) 7 0 (nI x) 1 bk a4 (by omega) ⟨x, rfl, hx, .inl ⟨rfl, rfl, rfl⟩⟩ ?_ ?_
  · rintro n s1 s2 s3 s4 ⟨o, rfl, o1, ⟨z, _⟩ | o2⟩
    · omega
    · exact pk_le 7 7 (fun _ => H o _ _ o1 o2) (fun z => absurd z (by omega))
  · rintro n i s1 s2 s3 s4 hi ⟨o, rfl, o1, o2⟩ hw
    refine pk_le 7 i (fun z => absurd z (by omega)) (fun _ => br_c (fun e => ?_) (fun e => ?_))
    · rcases o2 with ⟨_, _, z⟩ | o2
      · rw [z] at e
        exact absurd e (by decide)
      · exact H o _ _ o1 o2
    · have su2 : dq_su (dq_cl (dq_D k cn lf rt a3) (dq_T k cn lf rt a3) x) (o ||| dq_cl (dq_D k cn lf rt a3) (dq_T k cn lf rt a3) o) := by
        rcases o2 with ⟨_, z, _⟩ | o2
        · rw [z]
          exact dq_or_r _ _
        · exact dq_su_t o2 (dq_or_l _ _)
      refine dq_lp3 (fun n' j s1 s3 s4 => wX_closedInParts_24 post (wX_closedInParts_7 post n) (nI i) (nI o) n' s1 (nI j) (nI k) cg s3 sd sc kc (nI 1) ro a1 a2 a3 s4 a5 a6 a7 a8 a9 a10 a11 a12 a13 a14)
        (fun j s1 _ _ => (j = 0 ∧ s1 = nI o) ∨ (j = 1 ∧ s1 = nI (o ||| dq_cl (dq_D k cn lf rt a3) (dq_T k cn lf rt a3) o))) 1 0 (nI o) s3 s4 (by omega) (.inl ⟨rfl, rfl⟩) ?_ ?_
      · rintro n' s1 s3 s4 (⟨z, _⟩ | ⟨_, rfl⟩)
        · omega
        · exact pk_le 1 1 (fun _ => br_c (fun _ => nm_r (nI_1 i) (hw _ _ _ _ ⟨_, rfl, dq_or_lt o1 (dq_cl_lt _ _ _), .inr su2⟩)) (fun _ => nm_r (nI_1 i) (hw _ _ _ _ ⟨_, rfl, dq_or_lt o1 (dq_cl_lt _ _ _), .inr su2⟩))) (fun z => absurd z (by omega))
      · rintro n' j s1 s3 s4 hj (⟨rfl, rfl⟩ | ⟨z, _⟩) hw2
        · refine pk_le 1 0 (fun z => absurd z (by omega)) (fun _ => ⟨pk_in 0 4 (by omega), ?_⟩)
          rw [nI_clamp (show 0 < 2 ^ 31 by omega), h9, show nI o &&& 63 = nI o by rw [show (63 : Int32) = nI 63 from rfl, dq_and, dq_63a o1]]
          refine dq_closeSet_v2 hk hl hcn o1 (fun m' a => And.intro (pk_in 0 4 (by omega)) ?_)
          rw [h9, show nI (dq_cl (dq_D k cn lf rt a3) (dq_T k cn lf rt a3) o) &&& 63 = nI (dq_cl (dq_D k cn lf rt a3) (dq_T k cn lf rt a3) o) by rw [show (63 : Int32) = nI 63 from rfl, dq_and, dq_63a (dq_cl_lt _ _ _)], dq_or]
          exact nm_e (nm_r (nI_1 0) (hw2 _ _ _ (.inr ⟨rfl, rfl⟩)))
        · omega
theorem dq_preserves {post : Int32 → St1 → Prop} {cg bk sd sc kc ro : Int32} {a1 a2 a3 a4 a5 a6 a7 a8 a9 a10 a11 a12 a13 a14 : Nat → Int32} {k : Nat} {lf rt : Nat → Nat} (hk : k ≤ 10) (hl : dq_lk k lf rt a1 a2) (h9 : a9 0 = 63)
    (H : ∀ (g b : Int32) (a : Nat → Int32), post 1 (nI k, g, b, sd, sc, kc, nI 1, ro, a1, a2, a3, a, a5, a6, a7, a8, a9, a10, a11, a12, a13, a14)) : wpX_preserves post (nI k, cg, bk, sd, sc, kc, nI 1, ro, a1, a2, a3, a4, a5, a6, a7, a8, a9, a10, a11, a12, a13, a14) := by
  unfold wpX_preserves
  dsimp only
  refine dq_singleGiven hk (fun g hg => ?_)
  refine dq_lp2 (fun n i s3 s4 => wX_preserves_12 post n 1 (nI i) (nI k) (nI g) s3 sd sc kc (nI 1) ro a1 a2 a3 s4 a5 a6 a7 a8 a9 a10 a11 a12 a13 a14) (fun _ _ _ => True) k 0 bk a4 (by omega) trivial ?_ ?_
  · intro n s3 s4 _
    exact pk_le k k (fun _ => ⟨dq_nb1, H _ _ _⟩) (fun z => absurd z (by omega))
  · intro n i s3 s4 hi _ hw
    obtain ⟨l1, l2, l3, l4⟩ := hl i hi
    refine pk_le k i (fun z => absurd z (by omega)) (fun _ => ⟨pk_in i 10 (by omega), ?_⟩)
    rw [nI_clamp (show i < 2 ^ 31 by omega), l3]
    refine br_c (fun e => ⟨pk_in i 10 (by omega), ?_⟩) (fun e => nm_r (nI_1 i) (hw _ _ trivial))
    refine dq_closedInParts hk hl hg h9 l1 (fun o b a o1 o2 => br_f (by decide) (And.intro (pk_in i 10 (by omega)) ?_))
    rw [l4]
    refine dq_within l2 o1 (fun _ => br_f (by decide) (nm_r (nI_1 i) (hw _ _ trivial))) (fun z => absurd ?_ z)
    exact dq_su_t (dq_cl_fd l2 (dq_D_fd (cn := fun d => a3 d = 0) hi e e) (dq_cl_ext l1)) o2
end
section
/-! the calls of a turn -/
def dq_TI (c0 sd pc ro : Int32) (a1 a2 : Nat → Int32) : Prop := ∃ k p r : Nat, k ≤ 10 ∧ p ≤ 4 ∧ r ≤ 6 ∧ c0 = nI k ∧ pc = nI p ∧ ro = nI r ∧ sd = 0 ∧ ∀ d, d < k → (∃ m, m < 64 ∧ a1 d = nI m) ∧ ∃ m, m < 64 ∧ a2 d = nI m
def dq_TU (u : St1) : Prop := match u with | (c0, cg, bk, sd, sc, kc, pc, ro, a1, a2, a3, a4, a5, a6, a7, a8, a9, a10, a11, a12, a13, a14) => dq_TI c0 sd pc ro a1 a2
theorem dq_give {post : Int32 → St1 → Prop} {cg bk sd sc kc pc ro : Int32} {a1 a2 a3 a4 a5 a6 a7 a8 a9 a10 a11 a12 a13 a14 : Nat → Int32} {k x y : Nat} (z : Int32) (hk : k < 10) (hx : x < 64) (hy : y < 64)
    (H : ∀ w, (z = 0 → w = 0) → post (nI k) (nI (k + 1), cg, bk, 0, sc, kc, pc, ro, upd a1 k (nI x), upd a2 k (nI y), upd a3 k w, a4, a5, a6, a7, a8, a9, a10, a11, a12, a13, a14)) : wpX_give post (nI k, cg, bk, sd, sc, kc, pc, ro, a1, a2, a3, a4, a5, a6, a7, a8, a9, a10, a11, a12, a13, a14) (nI x) (nI y) z := by
  unfold wpX_give
  dsimp only
  refine dq_badSet hx (br_t rfl ?_)
  refine dq_badSet hy (br_t rfl ?_)
  have ck : (nI k).toNatClampNeg = k := nI_clamp (by omega)
  rw [ck]
  refine pk_eq k 10 (fun e => absurd e (by omega)) (fun _ => ⟨pk_in k 10 hk, nm_e ⟨pk_in k 10 hk, nm_e (br_c (fun e => ?_) (fun e => ?_))⟩⟩)
  · unfold wX_give_67
    rw [ck]
    refine ⟨pk_in k 10 hk, nm_e (nm_r (nI_1 k) ?_)⟩
    rw [nI_pred]
    exact H _ (fun _ => by decide)
  · unfold wX_give_67
    rw [ck]
    refine ⟨pk_in k 10 hk, nm_e (nm_r (nI_1 k) ?_)⟩
    rw [nI_pred]
    exact H _ (fun z => absurd z e)
theorem dq_giveF {post : Int32 → St1 → Prop} {cg bk sd sc kc pc ro : Int32} {a1 a2 a3 a4 a5 a6 a7 a8 a9 a10 a11 a12 a13 a14 : Nat → Int32} {x y : Nat} (z : Int32) (hx : x < 64) (hy : y < 64) (H : post (-2) (nI 10, cg, bk, sd, sc, kc, pc, ro, a1, a2, a3, a4, a5, a6, a7, a8, a9, a10, a11, a12, a13, a14)) : wpX_give post (nI 10, cg, bk, sd, sc, kc, pc, ro, a1, a2, a3, a4, a5, a6, a7, a8, a9, a10, a11, a12, a13, a14) (nI x) (nI y) z := by
  unfold wpX_give
  dsimp only
  refine dq_badSet hx (br_t rfl ?_)
  refine dq_badSet hy (br_t rfl ?_)
  exact br_t rfl H
theorem dq_t56 {post : Int32 → St1 → Prop} {c0 cg bk sd sc kc pc ro : Int32} {a1 a2 a3 a4 a5 a6 a7 a8 a9 a10 a11 a12 a13 a14 : Nat → Int32} {z : Int32} {a b : Nat} (ha : a < 64) (hb : b < 64) (h : dq_TI c0 sd pc ro a1 a2) (H : ∀ r u', dq_TU u' → post r u') : wL_turn_56 post z (nI b) (nI a) c0 cg bk sd sc kc pc ro a1 a2 a3 a4 a5 a6 a7 a8 a9 a10 a11 a12 a13 a14 := by
  obtain ⟨k, p, r, hk, hp, hr, rfl, rfl, rfl, rfl, hd⟩ := h
  unfold wL_turn_56
  by_cases e : k = 10
  · subst e
    exact dq_giveF z ha hb (H _ _ ⟨10, p, r, hk, hp, hr, rfl, rfl, rfl, rfl, hd⟩)
  · refine dq_give z (by omega) ha hb (fun w _ => H _ _ ⟨k + 1, p, r, by omega, hp, hr, rfl, rfl, rfl, rfl, fun d hd2 => ?_⟩)
    by_cases g : d = k
    · rw [g, pk_us, pk_us]
      exact ⟨⟨a, ha, rfl⟩, b, hb, rfl⟩
    · rw [pk_un g, pk_un g]
      exact hd d (by omega)
theorem dq_take {post : Int32 → St1 → Prop} {c0 cg bk sd sc kc pc ro : Int32} {a1 a2 a3 a4 a5 a6 a7 a8 a9 a10 a11 a12 a13 a14 : Nat → Int32} (h : dq_TI c0 sd pc ro a1 a2) (H : ∀ r u', dq_TU u' → post r u') : wpX_take post (c0, cg, bk, sd, sc, kc, pc, ro, a1, a2, a3, a4, a5, a6, a7, a8, a9, a10, a11, a12, a13, a14) := by
  obtain ⟨k, p, r, hk, hp, hr, rfl, rfl, rfl, rfl, hd⟩ := h
  refine pk_eq k 0 (fun e => H _ _ ⟨k, p, r, hk, hp, hr, rfl, rfl, rfl, rfl, hd⟩) (fun e => ?_)
  obtain ⟨k', rfl⟩ : ∃ k', k = k' + 1 := ⟨k - 1, by omega⟩
  exact nm_r (nI_pred k') (H _ _ ⟨k', p, r, by omega, hp, hr, rfl, rfl, rfl, rfl, fun d hd2 => hd d (by omega)⟩)
theorem dq_part {post : Int32 → St1 → Prop} {c0 cg bk sd sc kc pc ro : Int32} {a1 a2 a3 a4 a5 a6 a7 a8 a9 a10 a11 a12 a13 a14 : Nat → Int32} {s : Nat} (hs : s < 64) (h : dq_TI c0 sd pc ro a1 a2) (H : ∀ r u', dq_TU u' → post r u') : wpX_part post (c0, cg, bk, sd, sc, kc, pc, ro, a1, a2, a3, a4, a5, a6, a7, a8, a9, a10, a11, a12, a13, a14) (nI s) := by
  obtain ⟨k, p, r, hk, hp, hr, rfl, rfl, rfl, rfl, hd⟩ := h
  unfold wpX_part
  dsimp only
  refine dq_badSet hs (br_t rfl (pk_eq p 4 (fun e => H _ _ ⟨k, p, r, hk, hp, hr, rfl, rfl, rfl, rfl, hd⟩) (fun e => ⟨pk_in p 4 (by omega), nm_e (nm_r (nI_1 p) (H _ _ ⟨k, p + 1, r, hk, by omega, hr, rfl, rfl, rfl, rfl, hd⟩))⟩)))
theorem dq_row {post : Int32 → St1 → Prop} {c0 cg bk sd sc kc pc ro : Int32} {a1 a2 a3 a4 a5 a6 a7 a8 a9 a10 a11 a12 a13 a14 : Nat → Int32} (h : dq_TI c0 sd pc ro a1 a2) (H : ∀ r u', dq_TU u' → post r u') : wpX_row post (c0, cg, bk, sd, sc, kc, pc, ro, a1, a2, a3, a4, a5, a6, a7, a8, a9, a10, a11, a12, a13, a14) := by
  obtain ⟨k, p, r, hk, hp, hr, rfl, rfl, rfl, rfl, hd⟩ := h
  refine pk_eq r 6 (fun e => H _ _ ⟨k, p, r, hk, hp, hr, rfl, rfl, rfl, rfl, hd⟩) (fun e => ?_)
  refine dq_lp1 (fun n i a => wX_row_14 post (nI k) cg bk 0 sc kc (nI p) (nI r) n (nI i) a1 a2 a3 a4 a5 a6 a7 a8 a9 a10 a a12 a13 a14) (fun _ _ => True) 6 0 a11 (by omega) trivial ?_ ?_
  · intro n a _
    exact pk_le 6 6 (fun _ => nm_r (nI_1 r) (H _ _ ⟨k, p, r + 1, hk, hp, by omega, rfl, rfl, rfl, rfl, hd⟩)) (fun z => absurd z (by omega))
  · intro n i a hi _ hw
    refine pk_le 6 i (fun z => absurd z (by omega)) (fun _ => ?_)
    rw [dq_ix]
    exact ⟨pk_in (6 * r + i) 36 (by omega), nm_e (nm_r (nI_1 i) (hw _ trivial))⟩
theorem dq_write {post : Int32 → St1 → Prop} {c0 cg bk sd sc kc pc ro : Int32} {a1 a2 a3 a4 a5 a6 a7 a8 a9 a10 a11 a12 a13 a14 : Nat → Int32} {a b : Nat} {x : Int32} (ha : a < 8) (hb : b < 8) (h : dq_TI c0 sd pc ro a1 a2) (H : ∀ r u', dq_TU u' → post r u') : wpX_write post (c0, cg, bk, sd, sc, kc, pc, ro, a1, a2, a3, a4, a5, a6, a7, a8, a9, a10, a11, a12, a13, a14) (nI a) (nI b) x := by
  obtain ⟨k, p, r, hk, hp, hr, rfl, rfl, rfl, rfl, hd⟩ := h
  have same : dq_TU (nI k, cg, bk, 0, sc, kc, nI p, nI r, a1, a2, a3, a4, a5, a6, a7, a8, a9, a10, a11, a12, a13, a14) := ⟨k, p, r, hk, hp, hr, rfl, rfl, rfl, rfl, hd⟩
  unfold wpX_write
  dsimp only
  refine br_f (nI_pos (by omega)) (pk_le r a (fun _ => H _ _ same) (fun g => br_f (nI_pos (by omega)) (pk_lt b 6 (fun g2 => ?_) (fun _ => H _ _ same))))
  rw [dq_ix]
  exact ⟨pk_in (6 * a + b) 36 (by omega), nm_e ⟨pk_in (6 * a + b) 36 (by omega), nm_e (H _ _ ⟨k, p, r, hk, hp, hr, rfl, rfl, rfl, rfl, hd⟩)⟩⟩
theorem dq_turn {post : Int32 → St1 → Prop} {u : St1} {x y : Int32} (h : dq_TU u) (H : ∀ r u', dq_TU u' → post r u') : wpL_turn post u x y := by
  obtain ⟨c0, cg, bk, sd, sc, kc, pc, ro, a1, a2, a3, a4, a5, a6, a7, a8, a9, a10, a11, a12, a13, a14⟩ := u
  have h' : dq_TI c0 sd pc ro a1 a2 := h
  obtain ⟨a, ha, ea⟩ := pk_andE (y &&& (y >>> ((6 : Int32) &&& 31))) (m := 63) 6 (by decide)
  obtain ⟨b, hb, eb⟩ := pk_andE ((y >>> ((12 : Int32) &&& 31)) &&& (y >>> ((18 : Int32) &&& 31))) (m := 63) 6 (by decide)
  obtain ⟨s, hs, es⟩ := pk_andE (y ||| (y >>> ((6 : Int32) &&& 31))) (m := 63) 6 (by decide)
  obtain ⟨w1, hw1, ew1⟩ := pk_andE y (m := 7) 3 (by decide)
  obtain ⟨w2, hw2, ew2⟩ := pk_andE (y >>> ((3 : Int32) &&& 31)) (m := 7) 3 (by decide)
  unfold wpL_turn
  dsimp only
  refine nm_e (nm_r ea (nm_r eb (br_c (fun _ => br_c (fun _ => ?_) (fun _ => br_c (fun _ => br_c (fun _ => br_c (fun _ => ?_) (fun _ => H _ _ h)) (fun _ => br_c (fun _ => br_c (fun _ => br_c (fun _ => ?_) (fun _ => H _ _ h)) (fun _ => ?_)) (fun _ => ?_))) (fun _ => ?_))) (fun _ => br_c (fun _ => ?_) (fun _ => ?_)))))
  · exact dq_take h' (fun r u' hu => by obtain ⟨c0, cg, bk, sd, sc, kc, pc, ro, a1, a2, a3, a4, a5, a6, a7, a8, a9, a10, a11, a12, a13, a14⟩ := u'; exact H r _ hu)
  · unfold wpX_whole
    dsimp only
    obtain ⟨k, p, r, hk, hp, hr, e1, e2, e3, e4, hd⟩ := h'
    exact H _ _ ⟨k, 0, r, hk, by omega, hr, e1, rfl, e3, e4, hd⟩
  · unfold wpX_blank
    dsimp only
    obtain ⟨k, p, r, hk, hp, hr, e1, e2, e3, e4, hd⟩ := h'
    exact H _ _ ⟨k, p, 0, hk, hp, by omega, e1, e2, rfl, e4, hd⟩
  · rw [ew1, ew2]
    exact dq_write hw1 hw2 h' (fun r u' hu => by obtain ⟨c0, cg, bk, sd, sc, kc, pc, ro, a1, a2, a3, a4, a5, a6, a7, a8, a9, a10, a11, a12, a13, a14⟩ := u'; exact H r _ hu)
  · exact dq_row h' (fun r u' hu => by obtain ⟨c0, cg, bk, sd, sc, kc, pc, ro, a1, a2, a3, a4, a5, a6, a7, a8, a9, a10, a11, a12, a13, a14⟩ := u'; exact H r _ hu)
  · rw [es]
    exact dq_part hs h' (fun r u' hu => by obtain ⟨c0, cg, bk, sd, sc, kc, pc, ro, a1, a2, a3, a4, a5, a6, a7, a8, a9, a10, a11, a12, a13, a14⟩ := u'; exact H r _ hu)
  · exact dq_t56 ha hb h' H
  · exact dq_t56 ha hb h' H
end
section
/-! the law, from its end -/
theorem dq_su_pw {c a : Nat} : dq_su (2 ^ c) a ↔ a.testBit c = true := by
  constructor
  · intro h
    exact h c ((dq_pw_i c c).mpr rfl)
  · intro h d hd
    rw [← (dq_pw_i c d).mp hd]
    exact h
theorem dq_l740 {post : Int32 → Prop} {L : Nat} {xs : Nat → Int32} {q1 q2 : Nat} {cg bk pc : Int32} {a1 a2 a3 a4 a5 a6 a7 a8 a9 a10 a11 a12 a13 a14 : Nat → Int32} {k R s n : Nat} {lf rt : Nat → Nat} (hk : k ≤ 10) (hl : dq_lk k lf rt a1 a2) (hR : R ≤ 6) (hSD : dq_SD (dq_K k lf rt a3) s n a5 a7 a8) (H : post 1) : wL_law_740 post L xs (nI n) 1 q1 q2 (nI k) cg bk 1 (nI s) (nI n) pc (nI R) a1 a2 a3 a4 a5 a6 a7 a8 a9 a10 a11 a12 a13 a14 := by
  obtain ⟨n1, n2, _⟩ := hSD.2.2
  unfold wL_law_740 wpX_whole
  dsimp only
  unfold wpX_part
  dsimp only
  refine dq_badSet (a := 63) (by decide) (br_t rfl (br_f (by decide) ⟨pk_in 0 4 (by decide), nm_e (nm_r (show (0 : Int32) + 1 = nI 1 by decide) ?_)⟩))
  have h9 : upd a9 (0 : Int32).toNatClampNeg 63 0 = 63 := by rw [sb_cl0, pk_us]
  refine br_f (by decide) (pk_lt n 1 (fun z => absurd z (by omega)) (fun _ => ?_))
  refine dq_lossless hk h9 (fun a => br_f (by decide) ?_)
  exact dq_preserves hk hl h9 (fun g b a' => br_f (by decide) H)
theorem dq_l719 {post : Int32 → Prop} {L : Nat} {xs : Nat → Int32} {q1 q2 : Nat} {x8 : Int32} {cg bk pc : Int32} {a1 a2 a3 a4 a5 a6 a7 a8 a9 a10 a11 a12 a13 a14 : Nat → Int32} {k R s n : Nat} {lf rt : Nat → Nat} (hk : k ≤ 10) (hl : dq_lk k lf rt a1 a2) (hR : R ≤ 6) (hSD : dq_SD (dq_K k lf rt a3) s n a5 a7 a8)
    (h8 : dq_EX a11 R (dq_K k lf rt a3) → x8 = nI (dq_ct (fun m => dq_DP a11 R (m / 6) (m % 6)) 384)) (H : post 1) : wL_law_719 post L xs (nI n) x8 q1 q2 (nI k) cg bk 1 (nI s) (nI n) pc (nI R) a1 a2 a3 a4 a5 a6 a7 a8 a9 a10 a11 a12 a13 a14 := by
  have hKO := dq_K_o k lf rt a3
  unfold wL_law_719
  refine dq_exact1 hR hSD.1 hKO.1 (fun ex b b' => br_f (by decide) ?_) (fun _ b b' => br_t rfl ?_)
  · refine dq_discovered hR (fun d d' => ?_)
    exact br_t (h8 ex).symm (dq_l740 hk hl hR hSD H)
  · exact dq_l740 hk hl hR hSD H
/-- the pairs that the law counts -/
def dq_PP (K : Nat → Nat) (x c : Nat) : Prop := ¬ x.testBit c = true ∧ (K x).testBit c = true ∧ ∀ j, j < 6 → x.testBit j = true → ¬ (K (dq_mi x (2 ^ j))).testBit c = true
theorem dq_PP_DP {a11 : Nat → Int32} {R : Nat} {K : Nat → Nat} (h : dq_EX a11 R K) {x c : Nat} (hx : x < 64) (hc : c < 6) : dq_PP K x c ↔ dq_DP a11 R x c := by
  constructor
  · rintro ⟨p1, p2, p3⟩
    exact ⟨p1, (h x hx c hc).mpr p2, fun j hj hb z => p3 j hj hb ((h _ (dq_mi_lt _ hx) c hc).mp z)⟩
  · rintro ⟨p1, p2, p3⟩
    exact ⟨p1, (h x hx c hc).mp p2, fun j hj hb z => p3 j hj hb ((h _ (dq_mi_lt _ hx) c hc).mpr z)⟩
theorem dq_l641 {post : Int32 → Prop} {L : Nat} {xs : Nat → Int32} {J : Int32 → Int32 → Int32 → Int32 → Int32 → Int32 → Int32 → Int32 → Int32 → Int32 → (Nat → Int32) → (Nat → Int32) → (Nat → Int32) → (Nat → Int32) → (Nat → Int32) → (Nat → Int32) → (Nat → Int32) → (Nat → Int32) → (Nat → Int32) → (Nat → Int32) → (Nat → Int32) → (Nat → Int32) → (Nat → Int32) → (Nat → Int32) → Prop} {q1 q2 : Nat} {x6 s12 : Int32} {m i x c : Nat} {cg bk pc : Int32} {a1 a2 a3 a4 a5 a6 a7 a8 a9 a10 a11 a12 a13 a14 : Nat → Int32} {k R s n : Nat} {lf rt : Nat → Nat} (hk : k ≤ 10) (hl : dq_lk k lf rt a1 a2) (hR : R ≤ 6) (hSD : dq_SD (dq_K k lf rt a3) s n a5 a7 a8) (hx : x < 64) (hc : c < 6)
    (hs : (s12 = 1 ∧ ¬ x.testBit c = true ∧ ((dq_K k lf rt a3) x).testBit c = true) ∨ (s12 = 0 ∧ ¬ dq_PP (dq_K k lf rt a3) x c))
    (H1 : dq_PP (dq_K k lf rt a3) x c → J (nI (m + 1)) (nI (i + 1)) (nI k) cg bk 1 (nI s) (nI n) pc (nI R) a1 a2 a3 a4 a5 a6 a7 a8 a9 a10 a11 a12 a13 a14) (H0 : ¬ dq_PP (dq_K k lf rt a3) x c → J (nI m) (nI (i + 1)) (nI k) cg bk 1 (nI s) (nI n) pc (nI R) a1 a2 a3 a4 a5 a6 a7 a8 a9 a10 a11 a12 a13 a14) :
    ∃ f, wL_law_641 post L xs J x6 (nI m) (nI i) (nI x) (nI c) q1 q2 f s12 0 (nI k) cg bk 1 (nI s) (nI n) pc (nI R) a1 a2 a3 a4 a5 a6 a7 a8 a9 a10 a11 a12 a13 a14 := by
  have hKO := dq_K_o k lf rt a3
  refine dq_lp1 (fun f j sv => wL_law_641 post L xs J x6 (nI m) (nI i) (nI x) (nI c) q1 q2 f sv (nI j) (nI k) cg bk 1 (nI s) (nI n) pc (nI R) a1 a2 a3 a4 a5 a6 a7 a8 a9 a10 a11 a12 a13 a14)
    (fun j sv => (sv = 1 ∧ ¬ x.testBit c = true ∧ ((dq_K k lf rt a3) x).testBit c = true ∧ ∀ d, d < j → x.testBit d = true → ¬ ((dq_K k lf rt a3) (dq_mi x (2 ^ d))).testBit c = true) ∨ (sv = 0 ∧ ¬ dq_PP (dq_K k lf rt a3) x c)) 6 0 s12 (by omega) ?_ ?_ ?_
  · rcases hs with ⟨h1, h2, h3⟩ | h
    · exact .inl ⟨h1, h2, h3, fun d hd => absurd hd (by omega)⟩
    · exact .inr h
  · rintro f sv (⟨rfl, h2, h3, h4⟩ | ⟨rfl, h⟩)
    · exact pk_le 6 6 (fun _ => br_f (by decide) (nm_r (nI_1 m) (nm_r (nI_1 i) (H1 ⟨h2, h3, h4⟩)))) (fun z => absurd z (by omega))
    · exact pk_le 6 6 (fun _ => br_t rfl (nm_r (nI_1 i) (H0 h))) (fun z => absurd z (by omega))
  · rintro f j sv hj (⟨rfl, h2, h3, h4⟩ | ⟨rfl, h⟩) hw
    · refine pk_le 6 j (fun z => absurd z (by omega)) (fun _ => br_f (by decide) (dq_if1 x j (fun g => ?_) (fun g => nm_r (nI_1 j) (hw _ (.inl ⟨rfl, h2, h3, lt_s h4 (fun z => absurd z g)⟩)))))
      rw [dq_notb hx hj, dq_shl c (by omega)]
      refine dq_follows1 hSD.1 hKO.1 (dq_mi_lt _ hx) (dq_pw_lt hc) (fun e => br_f (by decide) (nm_r (nI_1 j) (hw _ (.inr ⟨rfl, fun z => z.2.2 j hj g (dq_su_pw.mp e)⟩)))) (fun e => br_t rfl (nm_r (nI_1 j) (hw _ (.inl ⟨rfl, h2, h3, lt_s h4 (fun _ z => e (dq_su_pw.mpr z))⟩))))
    · exact pk_le 6 j (fun z => absurd z (by omega)) (fun _ => br_t rfl (nm_r (nI_1 j) (hw _ (.inr ⟨rfl, h⟩))))
theorem dq_l579 {post : Int32 → Prop} {L : Nat} {xs : Nat → Int32} {q1 q2 : Nat} {cg bk pc : Int32} {a1 a2 a3 a4 a5 a6 a7 a8 a9 a10 a11 a12 a13 a14 : Nat → Int32} {k R s n : Nat} {lf rt : Nat → Nat} (hk : k ≤ 10) (hl : dq_lk k lf rt a1 a2) (hR : R ≤ 6) (hSD : dq_SD (dq_K k lf rt a3) s n a5 a7 a8) (H : post 1) : ∃ f, wL_law_579 post L xs (nI n) q1 q2 f 0 0 (nI k) cg bk 1 (nI s) (nI n) pc (nI R) a1 a2 a3 a4 a5 a6 a7 a8 a9 a10 a11 a12 a13 a14 := by
  have hKO := dq_K_o k lf rt a3
  refine dq_lp3 (fun f i s1 s2 s3 => wL_law_579 post L xs (nI n) q1 q2 f s1 (nI i) (nI k) cg bk 1 (nI s) (nI n) pc (nI R) a1 a2 a3 a4 a5 a6 a7 a8 a9 a10 a11 s2 s3 a14) (fun i s1 _ _ => s1 = nI (dq_ct (fun m => dq_PP (dq_K k lf rt a3) (m / 6) (m % 6)) i)) 384 0 0 a12 a13 (by omega) rfl ?_ ?_
  · rintro f s1 s2 s3 rfl
    refine pk_le 384 384 (fun _ => dq_l719 hk hl hR hSD (fun ex => ?_) H) (fun z => absurd z (by omega))
    congr 1
    apply dq_ct_c
    intro m hm
    exact dq_PP_DP ex (by omega) (by omega)
  · rintro f i s1 s2 s3 hi rfl hw
    refine pk_le 384 i (fun z => absurd z (by omega)) (fun _ => ?_)
    refine dq_exact1 hR hSD.1 hKO.1 (fun ex b b' => br_f (by decide) ⟨by decide, nm_r (pk_div (a := i) (d := 6) (by omega) (by omega) (by omega)) ⟨by decide, nm_r (pk_rem (a := i) (d := 6) (by omega) (by omega) (by omega)) ?_⟩⟩) (fun nx b b' => br_t rfl (dq_l719 hk hl hR hSD (fun ex => absurd ex nx) H))
    have x1 : i / 6 < 64 := by omega
    have c1 : i % 6 < 6 := by omega
    have go : ∀ s12 : Int32, ((s12 = 1 ∧ ¬ (i / 6).testBit (i % 6) = true ∧ ((dq_K k lf rt a3) (i / 6)).testBit (i % 6) = true) ∨ (s12 = 0 ∧ ¬ dq_PP (dq_K k lf rt a3) (i / 6) (i % 6))) →
        ∃ f', wL_law_641 post L xs (wL_law_579 post L xs (nI n) q1 q2 f) (nI n) (nI (dq_ct (fun m => dq_PP (dq_K k lf rt a3) (m / 6) (m % 6)) i)) (nI i) (nI (i / 6)) (nI (i % 6)) q1 q2 f' s12 0 (nI k) cg bk 1 (nI s) (nI n) pc (nI R) a1 a2 a3 a4 a5 a6 a7 a8 a9 a10 a11 b b' a14 := by
      intro s12 hs
      exact dq_l641 hk hl hR hSD x1 c1 hs (fun z => hw _ _ _ (by rw [dq_ct_t (P := fun m => dq_PP (dq_K k lf rt a3) (m / 6) (m % 6)) z])) (fun z => hw _ _ _ (by rw [dq_ct_f (P := fun m => dq_PP (dq_K k lf rt a3) (m / 6) (m % 6)) z]))
    refine dq_if0 (i / 6) (i % 6) (fun g => ?_) (fun g => go 0 (.inr ⟨rfl, fun z => z.1 g⟩))
    rw [dq_shl (i % 6) (by omega)]
    exact dq_follows1 hSD.1 hKO.1 x1 (dq_pw_lt c1) (fun e => br_f (by decide) (go 1 (.inl ⟨rfl, g, dq_su_pw.mp e⟩))) (fun e => br_t rfl (go 0 (.inr ⟨rfl, fun z => e (dq_su_pw.mpr z.2.1)⟩)))
theorem dq_l559 {post : Int32 → Prop} {L : Nat} {xs : Nat → Int32} {q1 q2 : Nat} {x4 : Int32} {cg bk pc : Int32} {a1 a2 a3 a4 a5 a6 a7 a8 a9 a10 a11 a12 a13 a14 : Nat → Int32} {k R s n : Nat} {lf rt : Nat → Nat} (hk : k ≤ 10) (hl : dq_lk k lf rt a1 a2) (hR : R ≤ 6) (hSD : dq_SD (dq_K k lf rt a3) s n a5 a7 a8) (h4 : dq_EX a11 R (dq_K k lf rt a3) → ¬ x4 = 0) (H : post 1) : wL_law_559 post L xs x4 (nI n) q1 q2 (nI k) cg bk 1 (nI s) (nI n) pc (nI R) a1 a2 a3 a4 a5 a6 a7 a8 a9 a10 a11 a12 a13 a14 := by
  have hKO := dq_K_o k lf rt a3
  unfold wL_law_559
  exact dq_exact1 hR hSD.1 hKO.1 (fun ex b b' => br_f (by decide) (br_f (h4 ex) (dq_l579 hk hl hR hSD H))) (fun _ b b' => br_t rfl (dq_l579 hk hl hR hSD H))
theorem dq_l424 {post : Int32 → Prop} {L : Nat} {xs : Nat → Int32} {q1 q2 : Nat} {x4 : Int32} {cg bk pc : Int32} {a1 a2 a3 a4 a5 a6 a7 a8 a9 a10 a11 a12 a13 a14 : Nat → Int32} {k R s n : Nat} {lf rt : Nat → Nat} (hk : k ≤ 10) (hl : dq_lk k lf rt a1 a2) (hR : R ≤ 6) (hSD : dq_SD (dq_K k lf rt a3) s n a5 a7 a8) (h4 : dq_EX a11 R (dq_K k lf rt a3) → ¬ x4 = 0) (H : post 1) : ∃ f, wL_law_424 post L xs x4 (nI n) q1 q2 f (-1) 0 (nI k) cg bk 1 (nI s) (nI n) pc (nI R) a1 a2 a3 a4 a5 a6 a7 a8 a9 a10 a11 a12 a13 a14 := by
  have hKO := dq_K_o k lf rt a3
  obtain ⟨n1, n2, ky, k1, k2⟩ := hSD.2.2
  have fin := dq_l559 (post := post) (L := L) (xs := xs) (q1 := q1) (q2 := q2) (x4 := x4) (cg := cg) (bk := bk) (pc := pc) (a4 := a4) (a6 := a6) (a9 := a9) (a10 := a10) (a12 := a12) (a13 := a13) (a14 := a14) hk hl hR hSD h4 H
  refine dq_lp1 (fun f i sv => wL_law_424 post L xs x4 (nI n) q1 q2 f sv (nI i) (nI k) cg bk 1 (nI s) (nI n) pc (nI R) a1 a2 a3 a4 a5 a6 a7 a8 a9 a10 a11 a12 a13 a14) (fun i sv => (i = 0 → sv = -1) ∧ (1 ≤ i → i ≤ n → sv = nI (ky (i - 1)))) (n + 1) 0 (-1) (by omega) ⟨fun _ => rfl, fun h => absurd h (by omega)⟩ ?_ ?_
  · rintro f sv _
    exact pk_le 64 (n + 1) (fun z => absurd z (by omega)) (fun _ => pk_lt n (n + 1) (fun _ => fin) (fun z => absurd z (by omega)))
  · rintro f i sv hi ⟨s1, s2⟩ hw
    refine pk_le 64 i (fun z => absurd z (by omega)) (fun _ => pk_lt n i (fun z => absurd z (by omega)) (fun _ => ?_))
    refine dq_key1 n2 (by omega) (fun g => ?_) (fun g => ?_)
    · obtain ⟨m1, m2⟩ := k1 i g
      have lk := m1.1
      rw [m2]
      refine dq_lp0 (fun f' j => wL_law_449 post L xs (wL_law_424 post L xs x4 (nI n) q1 q2 f) x4 (nI n) sv (nI i) (nI (ky i)) q1 q2 f' (nI j) (nI k) cg bk 1 (nI s) (nI n) pc (nI R) a1 a2 a3 a4 a5 a6 a7 a8 a9 a10 a11 a12 a13 a14) (fun _ => True) i 0 (by omega) trivial ?_ ?_
      · intro f' _
        refine pk_le i i (fun _ => ?_) (fun z => absurd z (by omega))
        refine br_f (nI_pos (by omega)) (br_f (nI_ge g (by omega)) (br_t rfl (br_f (nI_pos (by omega)) (br_f ?_ ?_))))
        · by_cases e : i = 0
          · rw [s1 e]
            intro z
            have h0 : (-1 : Int32) < nI (ky i) := by
              rw [Int32.lt_iff_toInt_lt, nI_toInt (by omega)]
              have : (-1 : Int32).toInt = -1 := by decide
              omega
            rw [Int32.lt_iff_toInt_lt] at h0
            rw [Int32.le_iff_toInt_le] at z
            omega
          · rw [s2 (by omega) (by omega)]
            exact nI_ge (k2 (i - 1) i (by omega) g) (by omega)
        · refine dq_closure1 hSD.1 lk ?_
          rw [m1.2.1]
          exact br_t rfl (nm_r (nI_1 i) (hw _ ⟨fun z => absurd z (by omega), fun _ _ => rfl⟩))
      · intro f' j hj _ hw2
        obtain ⟨o1, o2⟩ := k1 j (by omega)
        have lo := o1.1
        refine pk_le i j (fun z => absurd z (by omega)) (fun _ => br_f (nI_ge g (by omega)) ?_)
        refine dq_key1 n2 (by omega) (fun g2 => ?_) (fun g2 => absurd g2 (by omega))
        rw [o2]
        dsimp only
        rw [dq_not lo lk, dq_not lk lo]
        have e1 : ¬ dq_mi (ky j) (ky i) = 0 := fun z => by
          have := dq_inj k2 (by omega) g (dq_mn_eq hKO m1 lo o1.2.1 ((dq_mi0 lo).mp z))
          omega
        have e2 : ¬ dq_mi (ky i) (ky j) = 0 := fun z => by
          have := dq_inj k2 g (by omega) (dq_mn_eq hKO o1 lk m1.2.1 ((dq_mi0 lk).mp z))
          omega
        have t1 := dq_mi_lt (ky i) lo
        have t2 := dq_mi_lt (ky j) lk
        exact dq_if00 _ (fun z => absurd z e1) (fun _ => dq_if00 _ (fun z => absurd z e2) (fun _ => nm_r (nI_1 j) (hw2 trivial)))
    · have ei : i = n := by omega
      subst ei
      have done : wL_law_499 post L xs (wL_law_424 post L xs x4 (nI i) q1 q2 f) x4 (nI i) sv (nI i) (-3) q1 q2 (nI k) cg bk 1 (nI s) (nI i) pc (nI R) a1 a2 a3 a4 a5 a6 a7 a8 a9 a10 a11 a12 a13 a14 := by
        refine br_t (by decide) (br_t (nI_le (Nat.le_refl i) (by omega)) (br_t rfl (br_t (by decide) (nm_r (nI_1 i) (hw _ ⟨fun z => absurd z (by omega), fun _ z => absurd z (by omega)⟩)))))
      refine ⟨1, pk_le i 0 (fun z => absurd z (by omega)) (fun _ => br_t (nI_le (Nat.le_refl i) (by omega)) done)⟩
end
section
/-! the second object, given the stems -/
theorem dq_ct_inj {P : Nat → Prop} {p q : Nat} (hp : P p) (hq : P q) (e : dq_ct P p = dq_ct P q) : p = q := by
  rcases Nat.lt_trichotomy p q with g | g | g
  · have h1 := dq_ct_mono P (show p + 1 ≤ q by omega)
    rw [dq_ct_t hp] at h1
    omega
  · exact g
  · have h1 := dq_ct_mono P (show q + 1 ≤ p by omega)
    rw [dq_ct_t hq] at h1
    omega
/-- what the second object holds of the stems below m -/
def dq_UG (K : Nat → Nat) (b7 : Nat → Int32) (m : Nat) (u : St1) : Prop := match u with
  | (c0, cg, bk, sd, sc, kc, pc, ro, a1, a2, a3, a4, a5, a6, a7, a8, a9, a10, a11, a12, a13, a14) => c0 = nI m ∧ sd = 0 ∧ ∀ j, j < m → ∃ q, q < 64 ∧ ¬ b7 q = 0 ∧ dq_ct (fun j => ¬ b7 j = 0) q = j ∧ a1 j = nI q ∧ a2 j = nI (K q) ∧ a3 j = 0
def dq_US (K : Nat → Nat) (u : St1) : Prop := match u with
  | (c0, cg, bk, sd, sc, kc, pc, ro, a1, a2, a3, a4, a5, a6, a7, a8, a9, a10, a11, a12, a13, a14) => ∃ (k : Nat) (lf rt : Nat → Nat), k ≤ 10 ∧ c0 = nI k ∧ dq_lk k lf rt a1 a2 ∧ (∀ x, x < 64 → dq_K k lf rt a3 x = K x) ∧ (sd = 0 ∨ (sd = 1 ∧ ∀ j, j < 64 → a5 j = nI (K j)))
theorem dq_sameK {K : Nat → Nat} (hK : dq_KO K) {s : Nat} {b7 a3 : Nat → Int32} (hF : dq_FS K s b7) {lf rt : Nat → Nat} (h : ∀ j, j < s → lf j < 64 ∧ ¬ b7 (lf j) = 0 ∧ dq_ct (fun j => ¬ b7 j = 0) (lf j) = j ∧ rt j = K (lf j) ∧ a3 j = 0) :
    ∀ x, x < 64 → dq_K s lf rt a3 x = K x := by
  intro x hx
  obtain ⟨f1, f2, f3, f4⟩ := hF
  have find : ∀ q, q < 64 → b7 q = 1 → ∃ j, j < s ∧ lf j = q := by
    intro q hq e
    have pq : ¬ b7 q = 0 := by
      rw [e]
      decide
    have h1 := dq_ct_mono (fun j => ¬ b7 j = 0) (show q + 1 ≤ 64 by omega)
    rw [dq_ct_t (P := fun j => ¬ b7 j = 0) pq, f3] at h1
    refine ⟨dq_ct (fun j => ¬ b7 j = 0) q, by omega, ?_⟩
    obtain ⟨_, g2, g3, _⟩ := h (dq_ct (fun j => ¬ b7 j = 0) q) (by omega)
    exact dq_ct_inj (P := fun j => ¬ b7 j = 0) g2 pq g3
  have lS : dq_K s lf rt a3 x < 64 := dq_cl_lt _ _ _
  have xS : dq_su x (dq_K s lf rt a3 x) := dq_cl_ext hx
  have cl : ∀ j, j < s → dq_su (lf j) (dq_K s lf rt a3 x) → dq_su (K (lf j)) (dq_K s lf rt a3 x) := by
    intro j hj z
    obtain ⟨g1, g2, g3, g4, g5⟩ := h j hj
    rw [← g4]
    refine dq_cl_fd ?_ (dq_D_fd (cn := fun _ => True) hj trivial g5) z
    rw [g4]
    exact hK.1 _ g1
  apply dq_eq
  · -- K x is closed under what is given
    have fix : dq_K s lf rt a3 (K x) = K x := by
      refine dq_D_fix (hK.1 x hx) (fun d hd _ => (h d hd).2.2.2.2) (fun d hd => (h d hd).1) (fun d hd _ z => ?_)
      obtain ⟨g1, g2, g3, g4, g5⟩ := h d hd
      rw [g4, ← hK.2.2.2 x hx]
      exact hK.2.2.1 _ _ g1 (hK.1 x hx) z
    rw [← fix]
    exact dq_cl_mono (hK.2.1 x hx)
  · have e : K (dq_K s lf rt a3 x) = dq_K s lf rt a3 x := by
      rcases f4 _ lS (fun q hq e z _ => by
        obtain ⟨j, j1, j2⟩ := find q hq e
        rw [← j2] at z ⊢
        exact cl j j1 z) with k | k
      · exact k
      · obtain ⟨j, j1, j2⟩ := find _ lS k
        refine dq_eq ?_ (hK.2.1 _ lS)
        have := cl j j1 (by rw [j2]; exact dq_su_r _)
        rw [j2] at this
        exact this
    rw [← e]
    exact hK.2.2.1 _ _ hx lS xS
theorem dq_UG_US {K : Nat → Nat} (hK : dq_KO K) {s : Nat} {b7 : Nat → Int32} (hF : dq_FS K s b7) (hs : s ≤ 10) {u : St1} (h : dq_UG K b7 s u) : dq_US K u := by
  obtain ⟨c0, cg, bk, sd, sc, kc, pc, ro, a1, a2, a3, a4, a5, a6, a7, a8, a9, a10, a11, a12, a13, a14⟩ := u
  obtain ⟨h1, h2, h3⟩ := h
  have g : ∀ j, j < s → (a1 j).toNatClampNeg < 64 ∧ a1 j = nI (a1 j).toNatClampNeg ∧ ¬ b7 (a1 j).toNatClampNeg = 0 ∧ dq_ct (fun j => ¬ b7 j = 0) (a1 j).toNatClampNeg = j ∧ a2 j = nI (K (a1 j).toNatClampNeg) ∧ a3 j = 0 := by
    intro j hj
    obtain ⟨q, q1, q2, q3, q4, q5, q6⟩ := h3 j hj
    have e : (a1 j).toNatClampNeg = q := by
      rw [q4]
      exact nI_clamp (by omega)
    rw [e]
    exact ⟨q1, q4, q2, q3, q5, q6⟩
  refine ⟨s, fun j => (a1 j).toNatClampNeg, fun j => K (a1 j).toNatClampNeg, hs, h1, fun d hd => ?_, ?_, .inl h2⟩
  · obtain ⟨g1, g2, g3, g4, g5, g6⟩ := g d hd
    exact ⟨g1, hK.1 _ g1, g2, g5⟩
  · refine dq_sameK hK hF (fun j hj => ?_)
    obtain ⟨g1, g2, g3, g4, g5, g6⟩ := g j hj
    exact ⟨g1, g3, g4, rfl, g6⟩
theorem dq_closureU {post : Int32 → St1 → Prop} {K : Nat → Nat} {u : St1} {x : Nat} (h : dq_US K u) (hx : x < 64) (H : ∀ u', dq_US K u' → post (nI (K x)) u') : wpX_closure post u (nI x) := by
  obtain ⟨c0, cg, bk, sd, sc, kc, pc, ro, a1, a2, a3, a4, a5, a6, a7, a8, a9, a10, a11, a12, a13, a14⟩ := u
  obtain ⟨k, lf, rt, hk, rfl, hl, hKK, rfl | ⟨rfl, h5⟩⟩ := h
  · unfold wpX_closure
    dsimp only
    refine dq_badSet hx (br_t rfl ?_)
    refine dq_study0 hk hl (fun cg' bk' s n a4' a5' a6' a7' a8' hSD => ⟨pk_in x 64 hx, ?_⟩)
    dsimp only
    rw [nI_clamp (show x < 2 ^ 31 by omega), hSD.1 x hx, hKK x hx]
    exact H _ ⟨k, lf, rt, hk, rfl, hl, hKK, .inr ⟨rfl, fun j hj => by rw [hSD.1 j hj, hKK j hj]⟩⟩
  · exact dq_closure1 h5 hx (H _ ⟨k, lf, rt, hk, rfl, hl, hKK, .inr ⟨rfl, h5⟩⟩)
theorem dq_l384 {post : Int32 → Prop} {L : Nat} {xs : Nat → Int32} {q1 q2 : Nat} {x4 : Int32} {cg bk pc : Int32} {a1 a2 a3 a4 a5 a6 a7 a8 a9 a10 a11 a12 a13 a14 : Nat → Int32} {k R s n : Nat} {lf rt : Nat → Nat} (hk : k ≤ 10) (hl : dq_lk k lf rt a1 a2) (hR : R ≤ 6) (hSD : dq_SD (dq_K k lf rt a3) s n a5 a7 a8) {v : St1} (hv : s < 11 → dq_US (dq_K k lf rt a3) v) (h4 : dq_EX a11 R (dq_K k lf rt a3) → ¬ x4 = 0) (H : post 1) :
    ∃ f, wL_law_384 post L xs x4 (nI s) (nI n) (-1) q1 q2 f 0 (nI k) cg bk 1 (nI s) (nI n) pc (nI R) a1 a2 a3 a4 a5 a6 a7 a8 a9 a10 a11 a12 a13 a14 v.1 v.2.1 v.2.2.1 v.2.2.2.1 v.2.2.2.2.1 v.2.2.2.2.2.1 v.2.2.2.2.2.2.1 v.2.2.2.2.2.2.2.1 v.2.2.2.2.2.2.2.2.1 v.2.2.2.2.2.2.2.2.2.1 v.2.2.2.2.2.2.2.2.2.2.1 v.2.2.2.2.2.2.2.2.2.2.2.1 v.2.2.2.2.2.2.2.2.2.2.2.2.1 v.2.2.2.2.2.2.2.2.2.2.2.2.2.1 v.2.2.2.2.2.2.2.2.2.2.2.2.2.2.1 v.2.2.2.2.2.2.2.2.2.2.2.2.2.2.2.1 v.2.2.2.2.2.2.2.2.2.2.2.2.2.2.2.2.1 v.2.2.2.2.2.2.2.2.2.2.2.2.2.2.2.2.2.1 v.2.2.2.2.2.2.2.2.2.2.2.2.2.2.2.2.2.2.1 v.2.2.2.2.2.2.2.2.2.2.2.2.2.2.2.2.2.2.2.1 v.2.2.2.2.2.2.2.2.2.2.2.2.2.2.2.2.2.2.2.2.1 v.2.2.2.2.2.2.2.2.2.2.2.2.2.2.2.2.2.2.2.2.2 := by
  have hs := hSD.2.1.1
  have fin := dq_l424 (post := post) (L := L) (xs := xs) (q1 := q1) (q2 := q2) (x4 := x4) (cg := cg) (bk := bk) (pc := pc) (a4 := a4) (a6 := a6) (a9 := a9) (a10 := a10) (a12 := a12) (a13 := a13) (a14 := a14) hk hl hR hSD h4 H
  refine dq_lp1 (fun f i (v : St1) => wL_law_384 post L xs x4 (nI s) (nI n) (-1) q1 q2 f (nI i) (nI k) cg bk 1 (nI s) (nI n) pc (nI R) a1 a2 a3 a4 a5 a6 a7 a8 a9 a10 a11 a12 a13 a14 v.1 v.2.1 v.2.2.1 v.2.2.2.1 v.2.2.2.2.1 v.2.2.2.2.2.1 v.2.2.2.2.2.2.1 v.2.2.2.2.2.2.2.1 v.2.2.2.2.2.2.2.2.1 v.2.2.2.2.2.2.2.2.2.1 v.2.2.2.2.2.2.2.2.2.2.1 v.2.2.2.2.2.2.2.2.2.2.2.1 v.2.2.2.2.2.2.2.2.2.2.2.2.1 v.2.2.2.2.2.2.2.2.2.2.2.2.2.1 v.2.2.2.2.2.2.2.2.2.2.2.2.2.2.1 v.2.2.2.2.2.2.2.2.2.2.2.2.2.2.2.1 v.2.2.2.2.2.2.2.2.2.2.2.2.2.2.2.2.1 v.2.2.2.2.2.2.2.2.2.2.2.2.2.2.2.2.2.1 v.2.2.2.2.2.2.2.2.2.2.2.2.2.2.2.2.2.2.1 v.2.2.2.2.2.2.2.2.2.2.2.2.2.2.2.2.2.2.2.1 v.2.2.2.2.2.2.2.2.2.2.2.2.2.2.2.2.2.2.2.2.1 v.2.2.2.2.2.2.2.2.2.2.2.2.2.2.2.2.2.2.2.2.2) (fun _ v => s < 11 → dq_US (dq_K k lf rt a3) v) 64 0 v (by omega) hv ?_ ?_
  · intro f v _
    exact pk_le 64 64 (fun _ => fin) (fun z => absurd z (by omega))
  · intro f i v hi hv hw
    refine pk_le 64 i (fun z => absurd z (by omega)) (fun _ => pk_le 11 s (fun _ => fin) (fun g => ?_))
    refine dq_closure1 hSD.1 hi ?_
    refine dq_closureU (K := (dq_K k lf rt a3)) (hv g) hi (fun u' hu' => ?_)
    exact br_t rfl (nm_r (nI_1 i) (hw u' (fun _ => hu')))
theorem dq_l295 {post : Int32 → Prop} {L : Nat} {xs : Nat → Int32} {q1 q2 : Nat} {x4 : Int32} {cg bk pc : Int32} {a1 a2 a3 a4 a5 a6 a7 a8 a9 a10 a11 a12 a13 a14 : Nat → Int32} {k R s n : Nat} {lf rt : Nat → Nat} (hk : k ≤ 10) (hl : dq_lk k lf rt a1 a2) (hR : R ≤ 6) (hSD : dq_SD (dq_K k lf rt a3) s n a5 a7 a8) {v : St1} (hv : dq_UG (dq_K k lf rt a3) a7 0 v) (h4 : dq_EX a11 R (dq_K k lf rt a3) → ¬ x4 = 0) (H : post 1) :
    ∃ f, wL_law_295 post L xs x4 (nI s) (nI n) (-1) q1 q2 f 0 (nI k) cg bk 1 (nI s) (nI n) pc (nI R) a1 a2 a3 a4 a5 a6 a7 a8 a9 a10 a11 a12 a13 a14 v.1 v.2.1 v.2.2.1 v.2.2.2.1 v.2.2.2.2.1 v.2.2.2.2.2.1 v.2.2.2.2.2.2.1 v.2.2.2.2.2.2.2.1 v.2.2.2.2.2.2.2.2.1 v.2.2.2.2.2.2.2.2.2.1 v.2.2.2.2.2.2.2.2.2.2.1 v.2.2.2.2.2.2.2.2.2.2.2.1 v.2.2.2.2.2.2.2.2.2.2.2.2.1 v.2.2.2.2.2.2.2.2.2.2.2.2.2.1 v.2.2.2.2.2.2.2.2.2.2.2.2.2.2.1 v.2.2.2.2.2.2.2.2.2.2.2.2.2.2.2.1 v.2.2.2.2.2.2.2.2.2.2.2.2.2.2.2.2.1 v.2.2.2.2.2.2.2.2.2.2.2.2.2.2.2.2.2.1 v.2.2.2.2.2.2.2.2.2.2.2.2.2.2.2.2.2.2.1 v.2.2.2.2.2.2.2.2.2.2.2.2.2.2.2.2.2.2.2.1 v.2.2.2.2.2.2.2.2.2.2.2.2.2.2.2.2.2.2.2.2.1 v.2.2.2.2.2.2.2.2.2.2.2.2.2.2.2.2.2.2.2.2.2 := by
  have hKO := dq_K_o k lf rt a3
  have hs := hSD.2.1.1
  have hct := hSD.2.1.2.2.1
  refine dq_lp1 (fun f i (v : St1) => wL_law_295 post L xs x4 (nI s) (nI n) (-1) q1 q2 f (nI i) (nI k) cg bk 1 (nI s) (nI n) pc (nI R) a1 a2 a3 a4 a5 a6 a7 a8 a9 a10 a11 a12 a13 a14 v.1 v.2.1 v.2.2.1 v.2.2.2.1 v.2.2.2.2.1 v.2.2.2.2.2.1 v.2.2.2.2.2.2.1 v.2.2.2.2.2.2.2.1 v.2.2.2.2.2.2.2.2.1 v.2.2.2.2.2.2.2.2.2.1 v.2.2.2.2.2.2.2.2.2.2.1 v.2.2.2.2.2.2.2.2.2.2.2.1 v.2.2.2.2.2.2.2.2.2.2.2.2.1 v.2.2.2.2.2.2.2.2.2.2.2.2.2.1 v.2.2.2.2.2.2.2.2.2.2.2.2.2.2.1 v.2.2.2.2.2.2.2.2.2.2.2.2.2.2.2.1 v.2.2.2.2.2.2.2.2.2.2.2.2.2.2.2.2.1 v.2.2.2.2.2.2.2.2.2.2.2.2.2.2.2.2.2.1 v.2.2.2.2.2.2.2.2.2.2.2.2.2.2.2.2.2.2.1 v.2.2.2.2.2.2.2.2.2.2.2.2.2.2.2.2.2.2.2.1 v.2.2.2.2.2.2.2.2.2.2.2.2.2.2.2.2.2.2.2.2.1 v.2.2.2.2.2.2.2.2.2.2.2.2.2.2.2.2.2.2.2.2.2) (fun i v => dq_UG (dq_K k lf rt a3) a7 (min i s) v) 10 0 v (by omega) (by rw [Nat.zero_min]; exact hv) ?_ ?_
  · intro f v hv
    refine pk_le 10 10 (fun _ => dq_l384 hk hl hR hSD (fun g => ?_) h4 H) (fun z => absurd z (by omega))
    rw [show min 10 s = s by omega] at hv
    exact dq_UG_US hKO hSD.2.1 (by omega) hv
  · rintro f i ⟨u_c0, u_cg, u_bk, u_sd, u_sc, u_kc, u_pc, u_ro, u_a1, u_a2, u_a3, u_a4, u_a5, u_a6, u_a7, u_a8, u_a9, u_a10, u_a11, u_a12, u_a13, u_a14⟩ hi ⟨rfl, rfl, hu⟩ hw
    refine pk_le 10 i (fun z => absurd z (by omega)) (fun _ => ?_)
    refine dq_stem1 (by omega) (fun q g1 g2 g3 => ?_) (fun g => ?_)
    · have his : i < s := by
        have h1 := dq_ct_mono (fun j => ¬ a7 j = 0) (show q + 1 ≤ 64 by omega)
        rw [dq_ct_t (P := fun j => ¬ a7 j = 0) g2, hct] at h1
        omega
      refine dq_closure1 hSD.1 g1 ?_
      refine pk_le s i (fun z => absurd z (by omega)) (fun _ => ?_)
      have em : min i s = i := by omega
      rw [em] at hu
      show wpX_give _ (nI (min i s), _) _ _ _
      rw [em]
      refine dq_give 0 hi g1 (hKO.1 q g1) (fun w hw0 => ?_)
      refine br_f (nI_pos (by omega)) (br_f (nI_ge his (by omega)) (br_t rfl (br_t rfl (nm_r (nI_1 i) (hw (nI (i + 1), u_cg, u_bk, 0, u_sc, u_kc, u_pc, u_ro, upd u_a1 i (nI q), upd u_a2 i (nI ((dq_K k lf rt a3) q)), upd u_a3 i w, u_a4, u_a5, u_a6, u_a7, u_a8, u_a9, u_a10, u_a11, u_a12, u_a13, u_a14) ?_)))))
      rw [show min (i + 1) s = i + 1 by omega]
      refine ⟨rfl, rfl, fun j hj => ?_⟩
      by_cases e : j = i
      · rw [e, pk_us, pk_us, pk_us]
        exact ⟨q, g1, g2, g3, rfl, rfl, hw0 rfl⟩
      · rw [pk_un e, pk_un e, pk_un e]
        exact hu j (by omega)
    · rw [hct] at g
      refine dq_closureB ?_
      refine pk_le s i (fun _ => ?_) (fun z => absurd z (by omega))
      refine br_t (by decide) (br_t (nI_le g (by omega)) (br_t rfl (br_t rfl (nm_r (nI_1 i) (hw (nI (min i s), u_cg, u_bk, 0, u_sc, u_kc, u_pc, u_ro, u_a1, u_a2, u_a3, u_a4, u_a5, u_a6, u_a7, u_a8, u_a9, u_a10, u_a11, u_a12, u_a13, u_a14) ?_)))))
      rw [show min (i + 1) s = min i s by omega]
      exact ⟨rfl, rfl, hu⟩
end
section
theorem dq_l248 {post : Int32 → Prop} {L : Nat} {xs : Nat → Int32} {J : Int32 → Int32 → Int32 → Int32 → Int32 → Int32 → Int32 → Int32 → Int32 → Int32 → (Nat → Int32) → (Nat → Int32) → (Nat → Int32) → (Nat → Int32) → (Nat → Int32) → (Nat → Int32) → (Nat → Int32) → (Nat → Int32) → (Nat → Int32) → (Nat → Int32) → (Nat → Int32) → (Nat → Int32) → (Nat → Int32) → (Nat → Int32) → Int32 → Int32 → Int32 → Int32 → Int32 → Int32 → Int32 → Int32 → (Nat → Int32) → (Nat → Int32) → (Nat → Int32) → (Nat → Int32) → (Nat → Int32) → (Nat → Int32) → (Nat → Int32) → (Nat → Int32) → (Nat → Int32) → (Nat → Int32) → (Nat → Int32) → (Nat → Int32) → (Nat → Int32) → (Nat → Int32) → Prop} {q1 q2 x : Nat} {x3 x4 : Int32} {v : St1} {cg bk pc : Int32} {a1 a2 a3 a4 a5 a6 a7 a8 a9 a10 a11 a12 a13 a14 : Nat → Int32} {k R s n : Nat} {lf rt : Nat → Nat} (hk : k ≤ 10) (hl : dq_lk k lf rt a1 a2) (hR : R ≤ 6) (hSD : dq_SD (dq_K k lf rt a3) s n a5 a7 a8) (hx : x < 64)
    (H : ∀ (x4' : Int32) (b b' : Nat → Int32), (x4' = 0 → x4 = 0 ∨ ¬ dq_hd a11 R x ((dq_K k lf rt a3) x)) → J x4' (nI (x + 1)) (nI k) cg bk 1 (nI s) (nI n) pc (nI R) a1 a2 a3 a4 a5 a6 a7 a8 a9 a10 a11 b b' a14 v.1 v.2.1 v.2.2.1 v.2.2.2.1 v.2.2.2.2.1 v.2.2.2.2.2.1 v.2.2.2.2.2.2.1 v.2.2.2.2.2.2.2.1 v.2.2.2.2.2.2.2.2.1 v.2.2.2.2.2.2.2.2.2.1 v.2.2.2.2.2.2.2.2.2.2.1 v.2.2.2.2.2.2.2.2.2.2.2.1 v.2.2.2.2.2.2.2.2.2.2.2.2.1 v.2.2.2.2.2.2.2.2.2.2.2.2.2.1 v.2.2.2.2.2.2.2.2.2.2.2.2.2.2.1 v.2.2.2.2.2.2.2.2.2.2.2.2.2.2.2.1 v.2.2.2.2.2.2.2.2.2.2.2.2.2.2.2.2.1 v.2.2.2.2.2.2.2.2.2.2.2.2.2.2.2.2.2.1 v.2.2.2.2.2.2.2.2.2.2.2.2.2.2.2.2.2.2.1 v.2.2.2.2.2.2.2.2.2.2.2.2.2.2.2.2.2.2.2.1 v.2.2.2.2.2.2.2.2.2.2.2.2.2.2.2.2.2.2.2.2.1 v.2.2.2.2.2.2.2.2.2.2.2.2.2.2.2.2.2.2.2.2.2) : wL_law_248 post L xs J x3 x4 (nI x) (nI ((dq_K k lf rt a3) x)) q1 q2 (nI k) cg bk 1 (nI s) (nI n) pc (nI R) a1 a2 a3 a4 a5 a6 a7 a8 a9 a10 a11 a12 a13 a14 v.1 v.2.1 v.2.2.1 v.2.2.2.1 v.2.2.2.2.1 v.2.2.2.2.2.1 v.2.2.2.2.2.2.1 v.2.2.2.2.2.2.2.1 v.2.2.2.2.2.2.2.2.1 v.2.2.2.2.2.2.2.2.2.1 v.2.2.2.2.2.2.2.2.2.2.1 v.2.2.2.2.2.2.2.2.2.2.2.1 v.2.2.2.2.2.2.2.2.2.2.2.2.1 v.2.2.2.2.2.2.2.2.2.2.2.2.2.1 v.2.2.2.2.2.2.2.2.2.2.2.2.2.2.1 v.2.2.2.2.2.2.2.2.2.2.2.2.2.2.2.1 v.2.2.2.2.2.2.2.2.2.2.2.2.2.2.2.2.1 v.2.2.2.2.2.2.2.2.2.2.2.2.2.2.2.2.2.1 v.2.2.2.2.2.2.2.2.2.2.2.2.2.2.2.2.2.2.1 v.2.2.2.2.2.2.2.2.2.2.2.2.2.2.2.2.2.2.2.1 v.2.2.2.2.2.2.2.2.2.2.2.2.2.2.2.2.2.2.2.2.1 v.2.2.2.2.2.2.2.2.2.2.2.2.2.2.2.2.2.2.2.2.2 := by
  have hKO := dq_K_o k lf rt a3
  unfold wL_law_248
  refine br_c (fun e => nm_r (nI_1 x) (H _ _ _ (fun _ => .inl e))) (fun e => ?_)
  refine dq_keeps hR hx (hKO.1 x hx) (fun g b b' => br_f (by decide) (nm_r (nI_1 x) (H _ _ _ (fun z => absurd z (by decide))))) (fun g b b' => br_t rfl (nm_r (nI_1 x) (H _ _ _ (fun _ => .inr g))))
theorem dq_l207 {post : Int32 → Prop} {L : Nat} {xs : Nat → Int32} {J : Int32 → Int32 → Int32 → Int32 → Int32 → Int32 → Int32 → Int32 → Int32 → Int32 → (Nat → Int32) → (Nat → Int32) → (Nat → Int32) → (Nat → Int32) → (Nat → Int32) → (Nat → Int32) → (Nat → Int32) → (Nat → Int32) → (Nat → Int32) → (Nat → Int32) → (Nat → Int32) → (Nat → Int32) → (Nat → Int32) → (Nat → Int32) → Int32 → Int32 → Int32 → Int32 → Int32 → Int32 → Int32 → Int32 → (Nat → Int32) → (Nat → Int32) → (Nat → Int32) → (Nat → Int32) → (Nat → Int32) → (Nat → Int32) → (Nat → Int32) → (Nat → Int32) → (Nat → Int32) → (Nat → Int32) → (Nat → Int32) → (Nat → Int32) → (Nat → Int32) → (Nat → Int32) → Prop} {q1 q2 x z : Nat} {x3 x4 : Int32} {v : St1} {cg bk pc : Int32} {a1 a2 a3 a4 a5 a6 a7 a8 a9 a10 a11 a12 a13 a14 : Nat → Int32} {k R s n : Nat} {lf rt : Nat → Nat} (hk : k ≤ 10) (hl : dq_lk k lf rt a1 a2) (hR : R ≤ 6) (hSD : dq_SD (dq_K k lf rt a3) s n a5 a7 a8) (hx : x < 64) (hz : z < 64)
    (H : ∀ (x4' cg' bk' : Int32) (d b b' : Nat → Int32), (x4' = 0 → x4 = 0 ∨ ¬ dq_hd a11 R x ((dq_K k lf rt a3) x)) → J x4' (nI (x + 1)) (nI k) cg' bk' 1 (nI s) (nI n) pc (nI R) a1 a2 a3 d a5 a6 a7 a8 a9 a10 a11 b b' a14 v.1 v.2.1 v.2.2.1 v.2.2.2.1 v.2.2.2.2.1 v.2.2.2.2.2.1 v.2.2.2.2.2.2.1 v.2.2.2.2.2.2.2.1 v.2.2.2.2.2.2.2.2.1 v.2.2.2.2.2.2.2.2.2.1 v.2.2.2.2.2.2.2.2.2.2.1 v.2.2.2.2.2.2.2.2.2.2.2.1 v.2.2.2.2.2.2.2.2.2.2.2.2.1 v.2.2.2.2.2.2.2.2.2.2.2.2.2.1 v.2.2.2.2.2.2.2.2.2.2.2.2.2.2.1 v.2.2.2.2.2.2.2.2.2.2.2.2.2.2.2.1 v.2.2.2.2.2.2.2.2.2.2.2.2.2.2.2.2.1 v.2.2.2.2.2.2.2.2.2.2.2.2.2.2.2.2.2.1 v.2.2.2.2.2.2.2.2.2.2.2.2.2.2.2.2.2.2.1 v.2.2.2.2.2.2.2.2.2.2.2.2.2.2.2.2.2.2.2.1 v.2.2.2.2.2.2.2.2.2.2.2.2.2.2.2.2.2.2.2.2.1 v.2.2.2.2.2.2.2.2.2.2.2.2.2.2.2.2.2.2.2.2.2) :
    wL_law_207 post L xs J x3 x4 (nI x) (nI ((dq_K k lf rt a3) x)) (nI z) (nI (dq_mi 63 (x ||| z))) q1 q2 (nI k) cg bk 1 (nI s) (nI n) pc (nI R) a1 a2 a3 a4 a5 a6 a7 a8 a9 a10 a11 a12 a13 a14 v.1 v.2.1 v.2.2.1 v.2.2.2.1 v.2.2.2.2.1 v.2.2.2.2.2.1 v.2.2.2.2.2.2.1 v.2.2.2.2.2.2.2.1 v.2.2.2.2.2.2.2.2.1 v.2.2.2.2.2.2.2.2.2.1 v.2.2.2.2.2.2.2.2.2.2.1 v.2.2.2.2.2.2.2.2.2.2.2.1 v.2.2.2.2.2.2.2.2.2.2.2.2.1 v.2.2.2.2.2.2.2.2.2.2.2.2.2.1 v.2.2.2.2.2.2.2.2.2.2.2.2.2.2.1 v.2.2.2.2.2.2.2.2.2.2.2.2.2.2.2.1 v.2.2.2.2.2.2.2.2.2.2.2.2.2.2.2.2.1 v.2.2.2.2.2.2.2.2.2.2.2.2.2.2.2.2.2.1 v.2.2.2.2.2.2.2.2.2.2.2.2.2.2.2.2.2.2.1 v.2.2.2.2.2.2.2.2.2.2.2.2.2.2.2.2.2.2.2.1 v.2.2.2.2.2.2.2.2.2.2.2.2.2.2.2.2.2.2.2.2.1 v.2.2.2.2.2.2.2.2.2.2.2.2.2.2.2.2.2.2.2.2.2 := by
  have hKO := dq_K_o k lf rt a3
  have hr := dq_mi_lt (x ||| z) (show 63 < 64 by decide)
  have rest : ∀ (cg' bk' : Int32) (d : Nat → Int32), wpX_boyce (fun r u => match u with | (u_c0, u_cg, u_bk, u_sd, u_sc, u_kc, u_pc, u_ro, u_a1, u_a2, u_a3, u_a4, u_a5, u_a6, u_a7, u_a8, u_a9, u_a10, u_a11, u_a12, u_a13, u_a14) => (r = 0 → wL_law_248 post L xs J x3 x4 (nI x) (nI ((dq_K k lf rt a3) x)) q1 q2 u_c0 u_cg u_bk u_sd u_sc u_kc u_pc u_ro u_a1 u_a2 u_a3 u_a4 u_a5 u_a6 u_a7 u_a8 u_a9 u_a10 u_a11 u_a12 u_a13 u_a14 v.1 v.2.1 v.2.2.1 v.2.2.2.1 v.2.2.2.2.1 v.2.2.2.2.2.1 v.2.2.2.2.2.2.1 v.2.2.2.2.2.2.2.1 v.2.2.2.2.2.2.2.2.1 v.2.2.2.2.2.2.2.2.2.1 v.2.2.2.2.2.2.2.2.2.2.1 v.2.2.2.2.2.2.2.2.2.2.2.1 v.2.2.2.2.2.2.2.2.2.2.2.2.1 v.2.2.2.2.2.2.2.2.2.2.2.2.2.1 v.2.2.2.2.2.2.2.2.2.2.2.2.2.2.1 v.2.2.2.2.2.2.2.2.2.2.2.2.2.2.2.1 v.2.2.2.2.2.2.2.2.2.2.2.2.2.2.2.2.1 v.2.2.2.2.2.2.2.2.2.2.2.2.2.2.2.2.2.1 v.2.2.2.2.2.2.2.2.2.2.2.2.2.2.2.2.2.2.1 v.2.2.2.2.2.2.2.2.2.2.2.2.2.2.2.2.2.2.2.1 v.2.2.2.2.2.2.2.2.2.2.2.2.2.2.2.2.2.2.2.2.1 v.2.2.2.2.2.2.2.2.2.2.2.2.2.2.2.2.2.2.2.2.2) ∧ (¬ r = 0 → wpX_third (fun r u => match u with | (u_c0, u_cg, u_bk, u_sd, u_sc, u_kc, u_pc, u_ro, u_a1, u_a2, u_a3, u_a4, u_a5, u_a6, u_a7, u_a8, u_a9, u_a10, u_a11, u_a12, u_a13, u_a14) => (r = 0 → post 0) ∧ (¬ r = 0 → wL_law_248 post L xs J x3 x4 (nI x) (nI ((dq_K k lf rt a3) x)) q1 q2 u_c0 u_cg u_bk u_sd u_sc u_kc u_pc u_ro u_a1 u_a2 u_a3 u_a4 u_a5 u_a6 u_a7 u_a8 u_a9 u_a10 u_a11 u_a12 u_a13 u_a14 v.1 v.2.1 v.2.2.1 v.2.2.2.1 v.2.2.2.2.1 v.2.2.2.2.2.1 v.2.2.2.2.2.2.1 v.2.2.2.2.2.2.2.1 v.2.2.2.2.2.2.2.2.1 v.2.2.2.2.2.2.2.2.2.1 v.2.2.2.2.2.2.2.2.2.2.1 v.2.2.2.2.2.2.2.2.2.2.2.1 v.2.2.2.2.2.2.2.2.2.2.2.2.1 v.2.2.2.2.2.2.2.2.2.2.2.2.2.1 v.2.2.2.2.2.2.2.2.2.2.2.2.2.2.1 v.2.2.2.2.2.2.2.2.2.2.2.2.2.2.2.1 v.2.2.2.2.2.2.2.2.2.2.2.2.2.2.2.2.1 v.2.2.2.2.2.2.2.2.2.2.2.2.2.2.2.2.2.1 v.2.2.2.2.2.2.2.2.2.2.2.2.2.2.2.2.2.2.1 v.2.2.2.2.2.2.2.2.2.2.2.2.2.2.2.2.2.2.2.1 v.2.2.2.2.2.2.2.2.2.2.2.2.2.2.2.2.2.2.2.2.1 v.2.2.2.2.2.2.2.2.2.2.2.2.2.2.2.2.2.2.2.2.2)) (u_c0, u_cg, u_bk, u_sd, u_sc, u_kc, u_pc, u_ro, u_a1, u_a2, u_a3, u_a4, u_a5, u_a6, u_a7, u_a8, u_a9, u_a10, u_a11, u_a12, u_a13, u_a14) (nI x))) (nI k, cg', bk', 1, nI s, nI n, pc, nI R, a1, a2, a3, d, a5, a6, a7, a8, a9, a10, a11, a12, a13, a14) (nI x) := by
    intro cg' bk' d
    have last := dq_l248 (post := post) (L := L) (xs := xs) (J := J) (q1 := q1) (q2 := q2) (x3 := x3) (x4 := x4) (v := v) (cg := cg') (bk := bk') (pc := pc) (a4 := d) (a6 := a6) (a9 := a9) (a10 := a10) (a11 := a11) (a12 := a12) (a13 := a13) (a14 := a14) hk hl hR hSD hx (fun x4' b b' e => H x4' cg' bk' d b b' e)
    refine dq_boyce1 hSD.1 hKO.1 hx (fun third => br_f (by decide) (third _ ?_)) (br_t rfl last)
    exact br_f (by decide) last
  unfold wL_law_207
  refine dq_bundles hk hl hx hz (fun g cg' bk' d => ?_) (fun g cg' bk' d => ?_)
  · refine dq_bundles hk hl hx hr (fun g2 cg' bk' d => br_t rfl ?_) (fun g2 cg' bk' d => absurd (dq_BU_rest g) g2)
    exact rest _ _ _
  · refine dq_bundles hk hl hx hr (fun g2 cg' bk' d => absurd (dq_BU_rest' g2) g) (fun g2 cg' bk' d => br_t rfl ?_)
    exact rest _ _ _
theorem dq_l182 {post : Int32 → Prop} {L : Nat} {xs : Nat → Int32} {J : Int32 → Int32 → Int32 → Int32 → Int32 → Int32 → Int32 → Int32 → Int32 → Int32 → (Nat → Int32) → (Nat → Int32) → (Nat → Int32) → (Nat → Int32) → (Nat → Int32) → (Nat → Int32) → (Nat → Int32) → (Nat → Int32) → (Nat → Int32) → (Nat → Int32) → (Nat → Int32) → (Nat → Int32) → (Nat → Int32) → (Nat → Int32) → Int32 → Int32 → Int32 → Int32 → Int32 → Int32 → Int32 → Int32 → (Nat → Int32) → (Nat → Int32) → (Nat → Int32) → (Nat → Int32) → (Nat → Int32) → (Nat → Int32) → (Nat → Int32) → (Nat → Int32) → (Nat → Int32) → (Nat → Int32) → (Nat → Int32) → (Nat → Int32) → (Nat → Int32) → (Nat → Int32) → Prop} {q1 q2 x z : Nat} {x3 x4 zz : Int32} {v : St1} {cg bk pc : Int32} {a1 a2 a3 a4 a5 a6 a7 a8 a9 a10 a11 a12 a13 a14 : Nat → Int32} {k R s n : Nat} {lf rt : Nat → Nat} (hk : k ≤ 10) (hl : dq_lk k lf rt a1 a2) (hR : R ≤ 6) (hSD : dq_SD (dq_K k lf rt a3) s n a5 a7 a8) (hx : x < 64) (hz : z < 64)
    (H : ∀ (x4' cg' bk' : Int32) (d b b' : Nat → Int32), (x4' = 0 → x4 = 0 ∨ ¬ dq_hd a11 R x ((dq_K k lf rt a3) x)) → J x4' (nI (x + 1)) (nI k) cg' bk' 1 (nI s) (nI n) pc (nI R) a1 a2 a3 d a5 a6 a7 a8 a9 a10 a11 b b' a14 v.1 v.2.1 v.2.2.1 v.2.2.2.1 v.2.2.2.2.1 v.2.2.2.2.2.1 v.2.2.2.2.2.2.1 v.2.2.2.2.2.2.2.1 v.2.2.2.2.2.2.2.2.1 v.2.2.2.2.2.2.2.2.2.1 v.2.2.2.2.2.2.2.2.2.2.1 v.2.2.2.2.2.2.2.2.2.2.2.1 v.2.2.2.2.2.2.2.2.2.2.2.2.1 v.2.2.2.2.2.2.2.2.2.2.2.2.2.1 v.2.2.2.2.2.2.2.2.2.2.2.2.2.2.1 v.2.2.2.2.2.2.2.2.2.2.2.2.2.2.2.1 v.2.2.2.2.2.2.2.2.2.2.2.2.2.2.2.2.1 v.2.2.2.2.2.2.2.2.2.2.2.2.2.2.2.2.2.1 v.2.2.2.2.2.2.2.2.2.2.2.2.2.2.2.2.2.2.1 v.2.2.2.2.2.2.2.2.2.2.2.2.2.2.2.2.2.2.2.1 v.2.2.2.2.2.2.2.2.2.2.2.2.2.2.2.2.2.2.2.2.1 v.2.2.2.2.2.2.2.2.2.2.2.2.2.2.2.2.2.2.2.2.2) :
    wL_law_182 post L xs J x3 x4 (nI x) (nI ((dq_K k lf rt a3) x)) (nI z) (nI (dq_mi 63 (x ||| z))) zz zz q1 q2 (nI k) cg bk 1 (nI s) (nI n) pc (nI R) a1 a2 a3 a4 a5 a6 a7 a8 a9 a10 a11 a12 a13 a14 v.1 v.2.1 v.2.2.1 v.2.2.2.1 v.2.2.2.2.1 v.2.2.2.2.2.1 v.2.2.2.2.2.2.1 v.2.2.2.2.2.2.2.1 v.2.2.2.2.2.2.2.2.1 v.2.2.2.2.2.2.2.2.2.1 v.2.2.2.2.2.2.2.2.2.2.1 v.2.2.2.2.2.2.2.2.2.2.2.1 v.2.2.2.2.2.2.2.2.2.2.2.2.1 v.2.2.2.2.2.2.2.2.2.2.2.2.2.1 v.2.2.2.2.2.2.2.2.2.2.2.2.2.2.1 v.2.2.2.2.2.2.2.2.2.2.2.2.2.2.2.1 v.2.2.2.2.2.2.2.2.2.2.2.2.2.2.2.2.1 v.2.2.2.2.2.2.2.2.2.2.2.2.2.2.2.2.2.1 v.2.2.2.2.2.2.2.2.2.2.2.2.2.2.2.2.2.2.1 v.2.2.2.2.2.2.2.2.2.2.2.2.2.2.2.2.2.2.2.1 v.2.2.2.2.2.2.2.2.2.2.2.2.2.2.2.2.2.2.2.2.1 v.2.2.2.2.2.2.2.2.2.2.2.2.2.2.2.2.2.2.2.2.2 := by
  have hKO := dq_K_o k lf rt a3
  unfold wL_law_182
  refine br_t rfl ?_
  refine dq_follows1 hSD.1 hKO.1 hx hz (fun g => br_f (by decide) ?_) (fun g => br_t rfl (dq_l207 hk hl hR hSD hx hz H))
  exact dq_bundles hk hl hx hz (fun _ cg' bk' d => br_f (by decide) (dq_l207 hk hl hR hSD hx hz H)) (fun g2 cg' bk' d => absurd (dq_BU_fol g) g2)
/-- the first object, asked or not yet asked -/
def dq_TS (k R : Nat) (lf rt : Nat → Nat) (b1 b2 b3 b11 : Nat → Int32) (i : Nat) (u : St1) : Prop := match u with
  | (c0, cg, bk, sd, sc, kc, pc, ro, a1, a2, a3, a4, a5, a6, a7, a8, a9, a10, a11, a12, a13, a14) => c0 = nI k ∧ ro = nI R ∧ a1 = b1 ∧ a2 = b2 ∧ a3 = b3 ∧ a11 = b11 ∧ ((i = 0 ∧ sd = 0) ∨ (sd = 1 ∧ ∃ s n, sc = nI s ∧ kc = nI n ∧ dq_SD (dq_K k lf rt b3) s n a5 a7 a8))
theorem dq_closureT {post : Int32 → St1 → Prop} {k R i x : Nat} {lf rt : Nat → Nat} {b1 b2 b3 b11 : Nat → Int32} {u : St1} (hk : k ≤ 10) (hl : dq_lk k lf rt b1 b2) (h : dq_TS k R lf rt b1 b2 b3 b11 i u) (hx : x < 64)
    (H : ∀ (cg bk pc : Int32) (s n : Nat) (a4 a5 a6 a7 a8 a9 a10 a12 a13 a14 : Nat → Int32), dq_SD (dq_K k lf rt b3) s n a5 a7 a8 → post (nI (dq_K k lf rt b3 x)) (nI k, cg, bk, 1, nI s, nI n, pc, nI R, b1, b2, b3, a4, a5, a6, a7, a8, a9, a10, b11, a12, a13, a14)) : wpX_closure post u (nI x) := by
  obtain ⟨c0, cg, bk, sd, sc, kc, pc, ro, a1, a2, a3, a4, a5, a6, a7, a8, a9, a10, a11, a12, a13, a14⟩ := u
  obtain ⟨e1, e2, e3, e4, e5, e6, ⟨_, e7⟩ | ⟨e7, s, n, e8, e9, hSD⟩⟩ := h
  · rw [e1, e2, e3, e4, e5, e6, e7]
    unfold wpX_closure
    dsimp only
    refine dq_badSet hx (br_t rfl ?_)
    refine dq_study0 hk hl (fun cg' bk' s n a4' a5' a6' a7' a8' hSD => ⟨pk_in x 64 hx, ?_⟩)
    dsimp only
    rw [nI_clamp (show x < 2 ^ 31 by omega), hSD.1 x hx]
    exact H _ _ _ s n _ _ _ _ _ _ _ _ _ _ hSD
  · rw [e1, e2, e3, e4, e5, e6, e7, e8, e9]
    exact dq_closure1 hSD.1 hx (H _ _ _ s n _ _ _ _ _ _ _ _ _ _ hSD)
theorem dq_l75 {post : Int32 → Prop} {L : Nat} {xs : Nat → Int32} {q1 q2 : Nat} {x3 : Int32} {u v : St1} {k R : Nat} {lf rt : Nat → Nat} {b1 b2 b3 b11 : Nat → Int32} (hk : k ≤ 10) (hl : dq_lk k lf rt b1 b2) (hR : R ≤ 6)
    (hu : dq_TS k R lf rt b1 b2 b3 b11 0 u) (hv : ∀ K b7, dq_UG K b7 0 v) (H : post 1) : ∃ f, wL_law_75 post L xs x3 q1 q2 f 1 0 u.1 u.2.1 u.2.2.1 u.2.2.2.1 u.2.2.2.2.1 u.2.2.2.2.2.1 u.2.2.2.2.2.2.1 u.2.2.2.2.2.2.2.1 u.2.2.2.2.2.2.2.2.1 u.2.2.2.2.2.2.2.2.2.1 u.2.2.2.2.2.2.2.2.2.2.1 u.2.2.2.2.2.2.2.2.2.2.2.1 u.2.2.2.2.2.2.2.2.2.2.2.2.1 u.2.2.2.2.2.2.2.2.2.2.2.2.2.1 u.2.2.2.2.2.2.2.2.2.2.2.2.2.2.1 u.2.2.2.2.2.2.2.2.2.2.2.2.2.2.2.1 u.2.2.2.2.2.2.2.2.2.2.2.2.2.2.2.2.1 u.2.2.2.2.2.2.2.2.2.2.2.2.2.2.2.2.2.1 u.2.2.2.2.2.2.2.2.2.2.2.2.2.2.2.2.2.2.1 u.2.2.2.2.2.2.2.2.2.2.2.2.2.2.2.2.2.2.2.1 u.2.2.2.2.2.2.2.2.2.2.2.2.2.2.2.2.2.2.2.2.1 u.2.2.2.2.2.2.2.2.2.2.2.2.2.2.2.2.2.2.2.2.2 v.1 v.2.1 v.2.2.1 v.2.2.2.1 v.2.2.2.2.1 v.2.2.2.2.2.1 v.2.2.2.2.2.2.1 v.2.2.2.2.2.2.2.1 v.2.2.2.2.2.2.2.2.1 v.2.2.2.2.2.2.2.2.2.1 v.2.2.2.2.2.2.2.2.2.2.1 v.2.2.2.2.2.2.2.2.2.2.2.1 v.2.2.2.2.2.2.2.2.2.2.2.2.1 v.2.2.2.2.2.2.2.2.2.2.2.2.2.1 v.2.2.2.2.2.2.2.2.2.2.2.2.2.2.1 v.2.2.2.2.2.2.2.2.2.2.2.2.2.2.2.1 v.2.2.2.2.2.2.2.2.2.2.2.2.2.2.2.2.1 v.2.2.2.2.2.2.2.2.2.2.2.2.2.2.2.2.2.1 v.2.2.2.2.2.2.2.2.2.2.2.2.2.2.2.2.2.2.1 v.2.2.2.2.2.2.2.2.2.2.2.2.2.2.2.2.2.2.2.1 v.2.2.2.2.2.2.2.2.2.2.2.2.2.2.2.2.2.2.2.2.1 v.2.2.2.2.2.2.2.2.2.2.2.2.2.2.2.2.2.2.2.2.2 := by
  have hKO := dq_K_o k lf rt b3
  obtain ⟨p, hp, ep⟩ := pk_andE x3 (m := 63) 6 (by decide)
  obtain ⟨z, hz, ez⟩ := pk_andE (x3 >>> ((6 : Int32) &&& 31)) (m := 63) 6 (by decide)
  have hp : p < 64 := hp
  have hz : z < 64 := hz
  refine dq_lp2 (fun f i s4 (u : St1) => wL_law_75 post L xs x3 q1 q2 f s4 (nI i) u.1 u.2.1 u.2.2.1 u.2.2.2.1 u.2.2.2.2.1 u.2.2.2.2.2.1 u.2.2.2.2.2.2.1 u.2.2.2.2.2.2.2.1 u.2.2.2.2.2.2.2.2.1 u.2.2.2.2.2.2.2.2.2.1 u.2.2.2.2.2.2.2.2.2.2.1 u.2.2.2.2.2.2.2.2.2.2.2.1 u.2.2.2.2.2.2.2.2.2.2.2.2.1 u.2.2.2.2.2.2.2.2.2.2.2.2.2.1 u.2.2.2.2.2.2.2.2.2.2.2.2.2.2.1 u.2.2.2.2.2.2.2.2.2.2.2.2.2.2.2.1 u.2.2.2.2.2.2.2.2.2.2.2.2.2.2.2.2.1 u.2.2.2.2.2.2.2.2.2.2.2.2.2.2.2.2.2.1 u.2.2.2.2.2.2.2.2.2.2.2.2.2.2.2.2.2.2.1 u.2.2.2.2.2.2.2.2.2.2.2.2.2.2.2.2.2.2.2.1 u.2.2.2.2.2.2.2.2.2.2.2.2.2.2.2.2.2.2.2.2.1 u.2.2.2.2.2.2.2.2.2.2.2.2.2.2.2.2.2.2.2.2.2 v.1 v.2.1 v.2.2.1 v.2.2.2.1 v.2.2.2.2.1 v.2.2.2.2.2.1 v.2.2.2.2.2.2.1 v.2.2.2.2.2.2.2.1 v.2.2.2.2.2.2.2.2.1 v.2.2.2.2.2.2.2.2.2.1 v.2.2.2.2.2.2.2.2.2.2.1 v.2.2.2.2.2.2.2.2.2.2.2.1 v.2.2.2.2.2.2.2.2.2.2.2.2.1 v.2.2.2.2.2.2.2.2.2.2.2.2.2.1 v.2.2.2.2.2.2.2.2.2.2.2.2.2.2.1 v.2.2.2.2.2.2.2.2.2.2.2.2.2.2.2.1 v.2.2.2.2.2.2.2.2.2.2.2.2.2.2.2.2.1 v.2.2.2.2.2.2.2.2.2.2.2.2.2.2.2.2.2.1 v.2.2.2.2.2.2.2.2.2.2.2.2.2.2.2.2.2.2.1 v.2.2.2.2.2.2.2.2.2.2.2.2.2.2.2.2.2.2.2.1 v.2.2.2.2.2.2.2.2.2.2.2.2.2.2.2.2.2.2.2.2.1 v.2.2.2.2.2.2.2.2.2.2.2.2.2.2.2.2.2.2.2.2.2) (fun i s4 u => dq_TS k R lf rt b1 b2 b3 b11 i u ∧ (s4 = 0 → ∃ x, x < 64 ∧ ¬ dq_hd b11 R x (dq_K k lf rt b3 x))) 64 0 1 u (by omega) ⟨hu, fun e => absurd e (by decide)⟩ ?_ ?_
  · rintro f s4 ⟨c0, cg, bk, sd, sc, kc, pc, ro, a1, a2, a3, a4, a5, a6, a7, a8, a9, a10, a11, a12, a13, a14⟩ ⟨⟨e1, e2, e3, e4, e5, e6, ⟨e7, _⟩ | ⟨e7, s, n, e8, e9, hSD⟩⟩, h4⟩
    · exact absurd e7 (by omega)
    · dsimp only
      rw [e1, e2, e3, e4, e5, e6, e7, e8, e9]
      refine pk_le 64 64 (fun _ => ?_) (fun y => absurd y (by omega))
      refine dq_stems1 ?_
      refine dq_keys1 ?_
      refine dq_l295 hk hl hR hSD (hv _ _) (fun ex e => ?_) H
      obtain ⟨x, hx, hn⟩ := h4 e
      refine hn (fun a b ha hb hag c hc hcb => ?_)
      exact (ex x hx c hc).mpr hcb a b ha hb hag c hc ((dq_pw_i c c).mpr rfl)
  · rintro f i s4 u hi ⟨hu, h4⟩ hw
    have hKi := hKO.1 i hi
    refine pk_le 64 i (fun y => absurd y (by omega)) (fun _ => ?_)
    refine dq_closureT hk hl hu hi (fun cg bk pc s n a4 a5 a6 a7 a8 a9 a10 a12 a13 a14 hSD => ?_)
    refine nm_r (show nI i ||| (x3 &&& 63) = nI (i ||| p) by rw [ep, dq_or]) ?_
    refine dq_closure1 hSD.1 (dq_or_lt hi hp) ?_
    refine nm_r ez (nm_r (show 63 &&& ((nI i ||| nI z) ^^^ (-1)) = nI (dq_mi 63 (i ||| z)) by rw [dq_or]; exact dq_not (a := 63) (by decide) (dq_or_lt hi hz)) ?_)
    refine br_t (by rw [dq_not hi hKi, (dq_mi0 hi).mpr (hKO.2.1 i hi)]; rfl) ?_
    refine dq_closure1 hSD.1 hKi ?_
    rw [hKO.2.2.2 i hi]
    refine br_t rfl (br_t (by rw [dq_not hKi (hKO.1 _ (dq_or_lt hi hp)), (dq_mi0 hKi).mpr (hKO.2.2.1 _ _ hi (dq_or_lt hi hp) (dq_or_l i p))]; rfl) ?_)
    have step : ∀ (x4' cg' bk' : Int32) (d b b' : Nat → Int32), (x4' = 0 → s4 = 0 ∨ ¬ dq_hd b11 R i (dq_K k lf rt b3 i)) → wL_law_75 post L xs x3 q1 q2 f x4' (nI (i + 1)) (nI k) cg' bk' 1 (nI s) (nI n) pc (nI R) b1 b2 b3 d a5 a6 a7 a8 a9 a10 b11 b b' a14 v.1 v.2.1 v.2.2.1 v.2.2.2.1 v.2.2.2.2.1 v.2.2.2.2.2.1 v.2.2.2.2.2.2.1 v.2.2.2.2.2.2.2.1 v.2.2.2.2.2.2.2.2.1 v.2.2.2.2.2.2.2.2.2.1 v.2.2.2.2.2.2.2.2.2.2.1 v.2.2.2.2.2.2.2.2.2.2.2.1 v.2.2.2.2.2.2.2.2.2.2.2.2.1 v.2.2.2.2.2.2.2.2.2.2.2.2.2.1 v.2.2.2.2.2.2.2.2.2.2.2.2.2.2.1 v.2.2.2.2.2.2.2.2.2.2.2.2.2.2.2.1 v.2.2.2.2.2.2.2.2.2.2.2.2.2.2.2.2.1 v.2.2.2.2.2.2.2.2.2.2.2.2.2.2.2.2.2.1 v.2.2.2.2.2.2.2.2.2.2.2.2.2.2.2.2.2.2.1 v.2.2.2.2.2.2.2.2.2.2.2.2.2.2.2.2.2.2.2.1 v.2.2.2.2.2.2.2.2.2.2.2.2.2.2.2.2.2.2.2.2.1 v.2.2.2.2.2.2.2.2.2.2.2.2.2.2.2.2.2.2.2.2.2 := by
      intro x4' cg' bk' d b b' e
      refine hw x4' (nI k, cg', bk', 1, nI s, nI n, pc, nI R, b1, b2, b3, d, a5, a6, a7, a8, a9, a10, b11, b, b', a14) ⟨⟨rfl, rfl, rfl, rfl, rfl, rfl, .inr ⟨rfl, s, n, rfl, rfl, hSD⟩⟩, fun y => ?_⟩
      rcases e y with y | y
      · exact h4 y
      · exact ⟨i, hi, y⟩
    refine dq_follows1 hSD.1 hKO.1 hi hz (fun g => br_t (by rw [dq_not hz hKi, (dq_mi0 hz).mpr g]; rfl) (dq_l182 hk hl hR hSD hi hz step)) (fun g => br_f (fun y => g ?_) (dq_l182 hk hl hR hSD hi hz step))
    rw [dq_not hz hKi] at y
    have l := dq_mi_lt (dq_K k lf rt b3 i) hz
    exact (dq_mi0 hz).mp ((nI_eq (by omega) (by omega)).mp (show nI (dq_mi z (dq_K k lf rt b3 i)) = nI 0 from y))
theorem dq_l75' {post : Int32 → Prop} {L : Nat} {xs : Nat → Int32} {q1 q2 : Nat} {x3 : Int32} {u v : St1} (hu : dq_TU u) (hv : ∀ K b7, dq_UG K b7 0 v) (H : post 1) : ∃ f, wL_law_75 post L xs x3 q1 q2 f 1 0 u.1 u.2.1 u.2.2.1 u.2.2.2.1 u.2.2.2.2.1 u.2.2.2.2.2.1 u.2.2.2.2.2.2.1 u.2.2.2.2.2.2.2.1 u.2.2.2.2.2.2.2.2.1 u.2.2.2.2.2.2.2.2.2.1 u.2.2.2.2.2.2.2.2.2.2.1 u.2.2.2.2.2.2.2.2.2.2.2.1 u.2.2.2.2.2.2.2.2.2.2.2.2.1 u.2.2.2.2.2.2.2.2.2.2.2.2.2.1 u.2.2.2.2.2.2.2.2.2.2.2.2.2.2.1 u.2.2.2.2.2.2.2.2.2.2.2.2.2.2.2.1 u.2.2.2.2.2.2.2.2.2.2.2.2.2.2.2.2.1 u.2.2.2.2.2.2.2.2.2.2.2.2.2.2.2.2.2.1 u.2.2.2.2.2.2.2.2.2.2.2.2.2.2.2.2.2.2.1 u.2.2.2.2.2.2.2.2.2.2.2.2.2.2.2.2.2.2.2.1 u.2.2.2.2.2.2.2.2.2.2.2.2.2.2.2.2.2.2.2.2.1 u.2.2.2.2.2.2.2.2.2.2.2.2.2.2.2.2.2.2.2.2.2 v.1 v.2.1 v.2.2.1 v.2.2.2.1 v.2.2.2.2.1 v.2.2.2.2.2.1 v.2.2.2.2.2.2.1 v.2.2.2.2.2.2.2.1 v.2.2.2.2.2.2.2.2.1 v.2.2.2.2.2.2.2.2.2.1 v.2.2.2.2.2.2.2.2.2.2.1 v.2.2.2.2.2.2.2.2.2.2.2.1 v.2.2.2.2.2.2.2.2.2.2.2.2.1 v.2.2.2.2.2.2.2.2.2.2.2.2.2.1 v.2.2.2.2.2.2.2.2.2.2.2.2.2.2.1 v.2.2.2.2.2.2.2.2.2.2.2.2.2.2.2.1 v.2.2.2.2.2.2.2.2.2.2.2.2.2.2.2.2.1 v.2.2.2.2.2.2.2.2.2.2.2.2.2.2.2.2.2.1 v.2.2.2.2.2.2.2.2.2.2.2.2.2.2.2.2.2.2.1 v.2.2.2.2.2.2.2.2.2.2.2.2.2.2.2.2.2.2.2.1 v.2.2.2.2.2.2.2.2.2.2.2.2.2.2.2.2.2.2.2.2.1 v.2.2.2.2.2.2.2.2.2.2.2.2.2.2.2.2.2.2.2.2.2 := by
  obtain ⟨c0, cg, bk, sd, sc, kc, pc, ro, a1, a2, a3, a4, a5, a6, a7, a8, a9, a10, a11, a12, a13, a14⟩ := u
  obtain ⟨k, p, r, hk, hp, hr, e1, e2, e3, e4, hd⟩ := hu
  refine dq_l75 (k := k) (R := r) (lf := fun d => (a1 d).toNatClampNeg) (rt := fun d => (a2 d).toNatClampNeg) (b1 := a1) (b2 := a2) (b3 := a3) (b11 := a11) hk (fun d hd2 => ?_) hr ⟨e1, e3, rfl, rfl, rfl, rfl, .inl ⟨rfl, e4⟩⟩ hv H
  obtain ⟨⟨m, m1, m2⟩, m', m3, m4⟩ := hd d hd2
  have c1 : (a1 d).toNatClampNeg = m := by rw [m2]; exact nI_clamp (by omega)
  have c2 : (a2 d).toNatClampNeg = m' := by rw [m4]; exact nI_clamp (by omega)
  show (a1 d).toNatClampNeg < 64 ∧ (a2 d).toNatClampNeg < 64 ∧ a1 d = nI (a1 d).toNatClampNeg ∧ a2 d = nI (a2 d).toNatClampNeg
  rw [c1, c2]
  exact ⟨m1, m3, m2, m4⟩
theorem dq_l32 {post : Int32 → Prop} {L : Nat} {xs : Nat → Int32} {q1 q2 : Nat} {x3 : Int32} {u v : St1} (hL : L ≤ 260) (hu : dq_TU u) (hv : ∀ K b7, dq_UG K b7 0 v) (H : post 1) : ∃ f, wL_law_32 post L xs x3 q1 q2 f 1 u.1 u.2.1 u.2.2.1 u.2.2.2.1 u.2.2.2.2.1 u.2.2.2.2.2.1 u.2.2.2.2.2.2.1 u.2.2.2.2.2.2.2.1 u.2.2.2.2.2.2.2.2.1 u.2.2.2.2.2.2.2.2.2.1 u.2.2.2.2.2.2.2.2.2.2.1 u.2.2.2.2.2.2.2.2.2.2.2.1 u.2.2.2.2.2.2.2.2.2.2.2.2.1 u.2.2.2.2.2.2.2.2.2.2.2.2.2.1 u.2.2.2.2.2.2.2.2.2.2.2.2.2.2.1 u.2.2.2.2.2.2.2.2.2.2.2.2.2.2.2.1 u.2.2.2.2.2.2.2.2.2.2.2.2.2.2.2.2.1 u.2.2.2.2.2.2.2.2.2.2.2.2.2.2.2.2.2.1 u.2.2.2.2.2.2.2.2.2.2.2.2.2.2.2.2.2.2.1 u.2.2.2.2.2.2.2.2.2.2.2.2.2.2.2.2.2.2.2.1 u.2.2.2.2.2.2.2.2.2.2.2.2.2.2.2.2.2.2.2.2.1 u.2.2.2.2.2.2.2.2.2.2.2.2.2.2.2.2.2.2.2.2.2 v.1 v.2.1 v.2.2.1 v.2.2.2.1 v.2.2.2.2.1 v.2.2.2.2.2.1 v.2.2.2.2.2.2.1 v.2.2.2.2.2.2.2.1 v.2.2.2.2.2.2.2.2.1 v.2.2.2.2.2.2.2.2.2.1 v.2.2.2.2.2.2.2.2.2.2.1 v.2.2.2.2.2.2.2.2.2.2.2.1 v.2.2.2.2.2.2.2.2.2.2.2.2.1 v.2.2.2.2.2.2.2.2.2.2.2.2.2.1 v.2.2.2.2.2.2.2.2.2.2.2.2.2.2.1 v.2.2.2.2.2.2.2.2.2.2.2.2.2.2.2.1 v.2.2.2.2.2.2.2.2.2.2.2.2.2.2.2.2.1 v.2.2.2.2.2.2.2.2.2.2.2.2.2.2.2.2.2.1 v.2.2.2.2.2.2.2.2.2.2.2.2.2.2.2.2.2.2.1 v.2.2.2.2.2.2.2.2.2.2.2.2.2.2.2.2.2.2.2.1 v.2.2.2.2.2.2.2.2.2.2.2.2.2.2.2.2.2.2.2.2.1 v.2.2.2.2.2.2.2.2.2.2.2.2.2.2.2.2.2.2.2.2.2 := by
  refine dq_lp1 (fun f j (u : St1) => wL_law_32 post L xs x3 q1 q2 f (nI (1 + 2 * j)) u.1 u.2.1 u.2.2.1 u.2.2.2.1 u.2.2.2.2.1 u.2.2.2.2.2.1 u.2.2.2.2.2.2.1 u.2.2.2.2.2.2.2.1 u.2.2.2.2.2.2.2.2.1 u.2.2.2.2.2.2.2.2.2.1 u.2.2.2.2.2.2.2.2.2.2.1 u.2.2.2.2.2.2.2.2.2.2.2.1 u.2.2.2.2.2.2.2.2.2.2.2.2.1 u.2.2.2.2.2.2.2.2.2.2.2.2.2.1 u.2.2.2.2.2.2.2.2.2.2.2.2.2.2.1 u.2.2.2.2.2.2.2.2.2.2.2.2.2.2.2.1 u.2.2.2.2.2.2.2.2.2.2.2.2.2.2.2.2.1 u.2.2.2.2.2.2.2.2.2.2.2.2.2.2.2.2.2.1 u.2.2.2.2.2.2.2.2.2.2.2.2.2.2.2.2.2.2.1 u.2.2.2.2.2.2.2.2.2.2.2.2.2.2.2.2.2.2.2.1 u.2.2.2.2.2.2.2.2.2.2.2.2.2.2.2.2.2.2.2.2.1 u.2.2.2.2.2.2.2.2.2.2.2.2.2.2.2.2.2.2.2.2.2 v.1 v.2.1 v.2.2.1 v.2.2.2.1 v.2.2.2.2.1 v.2.2.2.2.2.1 v.2.2.2.2.2.2.1 v.2.2.2.2.2.2.2.1 v.2.2.2.2.2.2.2.2.1 v.2.2.2.2.2.2.2.2.2.1 v.2.2.2.2.2.2.2.2.2.2.1 v.2.2.2.2.2.2.2.2.2.2.2.1 v.2.2.2.2.2.2.2.2.2.2.2.2.1 v.2.2.2.2.2.2.2.2.2.2.2.2.2.1 v.2.2.2.2.2.2.2.2.2.2.2.2.2.2.1 v.2.2.2.2.2.2.2.2.2.2.2.2.2.2.2.1 v.2.2.2.2.2.2.2.2.2.2.2.2.2.2.2.2.1 v.2.2.2.2.2.2.2.2.2.2.2.2.2.2.2.2.2.1 v.2.2.2.2.2.2.2.2.2.2.2.2.2.2.2.2.2.2.1 v.2.2.2.2.2.2.2.2.2.2.2.2.2.2.2.2.2.2.2.1 v.2.2.2.2.2.2.2.2.2.2.2.2.2.2.2.2.2.2.2.2.1 v.2.2.2.2.2.2.2.2.2.2.2.2.2.2.2.2.2.2.2.2.2) (fun _ u => dq_TU u) 35 0 u (by omega) hu ?_ ?_
  · intro f u hu
    exact br_c (fun _ => dq_l75' hu hv H) (fun _ => pk_le 70 (1 + 2 * 35) (fun _ => dq_l75' hu hv H) (fun z => absurd z (by omega)))
  · intro f j u hj hu hw
    have e1 : nI (1 + 2 * j) + 1 = nI (2 + 2 * j) := by rw [nI_1]; congr 1; omega
    have e2 : nI (1 + 2 * j) + 2 = nI (1 + 2 * (j + 1)) := by
      show nI (1 + 2 * j) + nI 2 = _
      rw [nI_add]
      congr 1
    refine pk_le L (2 + 2 * j) (fun _ => dq_l75' hu hv H) (fun g => pk_le 70 (1 + 2 * j) (fun _ => dq_l75' hu hv H) (fun g2 => ⟨pk_in (1 + 2 * j) L (by omega), pk_in (2 + 2 * j) L (by omega) e1, ?_⟩)) rfl e1
    refine dq_turn hu (fun r u' hu' => ?_)
    exact nm_r e2 (hw u' hu')
theorem i_vc (xs : Nat → Int32) (L : Nat) (hL : L ≤ 260) : wpL_law (fun r => r = 1) L xs := by
  have hv : ∀ K b7, dq_UG K b7 0 (0, 0, 0, 0, 0, 0, 0, 0, (fun _ => 0), (fun _ => 0), (fun _ => 0), (fun _ => 0), (fun _ => 0), (fun _ => 0), (fun _ => 0), (fun _ => 0), (fun _ => 0), (fun _ => 0), (fun _ => 0), (fun _ => 0), (fun _ => 0), (fun _ => 0)) := fun K b7 => ⟨rfl, rfl, fun j hj => absurd hj (by omega)⟩
  have hu : dq_TU (0, 0, 0, 0, 0, 0, 0, 0, (fun _ => 0), (fun _ => 0), (fun _ => 0), (fun _ => 0), (fun _ => 0), (fun _ => 0), (fun _ => 0), (fun _ => 0), (fun _ => 0), (fun _ => 0), (fun _ => 0), (fun _ => 0), (fun _ => 0), (fun _ => 0)) := ⟨0, 0, 0, by omega, by omega, by omega, rfl, rfl, rfl, rfl, fun d hd => absurd hd (by omega)⟩
  unfold wpL_law
  refine ⟨14, 775, by decide, by decide, ?_⟩
  unfold wpX_init
  dsimp only
  refine ⟨by decide, by decide, by decide, by decide, by decide, by decide, by decide, by decide, by decide, by decide, by decide, by decide, by decide, by decide, by decide, by decide, by decide, by decide, by decide, by decide, by decide, by decide, by decide, by decide, by decide, by decide, by decide, by decide, by decide, by decide, 14, 775, by decide, by decide, ?_⟩
  refine ⟨by decide, by decide, by decide, by decide, by decide, by decide, by decide, by decide, by decide, by decide, by decide, by decide, by decide, by decide, by decide, by decide, by decide, by decide, by decide, by decide, by decide, by decide, by decide, by decide, by decide, by decide, by decide, by decide, ?_⟩
  refine br_c (fun _ => dq_l32 hL hu hv rfl) (fun g => ⟨?_, nm_e (dq_l32 hL hu hv rfl)⟩)
  refine pk_in 0 L ?_
  rcases Nat.eq_zero_or_pos L with e | e
  · refine absurd ?_ g
    rw [e]
    decide
  · exact e
end
