section
theorem pk_us {f : Nat → Int32} {k : Nat} {x : Int32} : upd f k x k = x := if_pos rfl
theorem pk_un {f : Nat → Int32} {k j : Nat} {x : Int32} (h : j ≠ k) : upd f k x j = f j := if_neg h
theorem pk_sub {a b : Nat} (h : b ≤ a) : nI a - nI b = nI (a - b) := by
  obtain ⟨c, rfl⟩ : ∃ c, a = c + b := ⟨a - b, by omega⟩
  rw [← nI_add, Int32.add_sub_cancel, Nat.add_sub_cancel]
theorem pk_m1 (n : Nat) : nI (n + 1) + (-1) = nI n := by
  rw [← nI_1, Int32.add_assoc, show (1 : Int32) + (-1) = 0 from rfl, Int32.add_zero]
theorem pk_mul (a b : Nat) : nI a * nI b = nI (a * b) := (Int32.ofNat_mul a b).symm
theorem pk_sub_toInt {a b : Nat} (ha : a < 2 ^ 30) (hb : b < 2 ^ 30) : (nI a - nI b).toInt = (a : Int) - b := by
  rw [Int32.toInt_sub, nI_toInt (by omega), nI_toInt (by omega)]
  exact Int.bmod_eq_of_le (by omega) (by omega)
theorem pk_sneg {a b : Nat} (hb : b < 2 ^ 30) (h : a < b) : nI a - nI b < 0 := by
  rw [Int32.lt_iff_toInt_lt, pk_sub_toInt (by omega) hb, show (0 : Int32).toInt = 0 from by decide]
  omega
theorem pk_ix (x : Int32) {n : Nat} (hn : n < 2 ^ 31) : x < 0 ∨ nI n ≤ x ∨ ∃ j : Nat, j < n ∧ x = nI j := by
  by_cases h : x < 0
  · exact Or.inl h
  · obtain ⟨j, hj, rfl⟩ := nI_of h
    by_cases h2 : j < n
    · exact Or.inr (Or.inr ⟨j, h2, rfl⟩)
    · exact Or.inr (Or.inl (nI_le (by omega) hj))
theorem pk_le {x y : Int32} {A B : Prop} (a b : Nat) (f : a ≤ b → A) (g : b < a → B) (hx : x = nI a := by rfl) (hy : y = nI b := by rfl) (ha : a < 2 ^ 31 := by omega) (hb : b < 2 ^ 31 := by omega) : (x ≤ y → A) ∧ (¬ x ≤ y → B) := by
  subst hx hy
  rw [nI_leI ha hb]
  exact ⟨f, fun z => g (by omega)⟩
theorem pk_lt {x y : Int32} {A B : Prop} (a b : Nat) (f : a < b → A) (g : b ≤ a → B) (hx : x = nI a := by rfl) (hy : y = nI b := by rfl) (ha : a < 2 ^ 31 := by omega) (hb : b < 2 ^ 31 := by omega) : (x < y → A) ∧ (¬ x < y → B) := by
  subst hx hy
  rw [nI_ltI ha hb]
  exact ⟨f, fun z => g (by omega)⟩
theorem pk_eq {x y : Int32} {A B : Prop} (a b : Nat) (f : a = b → A) (g : a ≠ b → B) (hx : x = nI a := by rfl) (hy : y = nI b := by rfl) (ha : a < 2 ^ 31 := by omega) (hb : b < 2 ^ 31 := by omega) : (x = y → A) ∧ (¬ x = y → B) := by
  subst hx hy
  rw [nI_eq ha hb]
  exact ⟨f, g⟩
theorem pk_in {x : Int32} (n N : Nat) (h : n < N) (hx : x = nI n := by rfl) (hN : N < 2 ^ 31 := by omega) : vp_in x N := by
  subst hx
  exact vp_in_nI h hN
theorem pk_cl {x : Int32} (n : Nat) (hx : x = nI n := by rfl) (h : n < 2 ^ 31 := by omega) : x.toNatClampNeg = n := by
  subst hx
  exact nI_clamp h
theorem pk_vb (z : Int32) : vp_nar .byte z.toInt8.toInt32 = z.toInt8.toInt32 := by rw [vp_nar_byte]; simp

/-! numbers of this claim -/
theorem nu_b {n : Nat} (h : n < 128) : (nI n).toInt8.toInt32 = nI n := by
  apply Int32.toInt_inj.mp
  rw [Int8.toInt_toInt32, Int32.toInt_toInt8, nI_toInt (by omega)]
  exact Int.bmod_eq_of_le (by omega) (by omega)
theorem nu_vb {n : Nat} (h : n < 128) : vp_nar .byte (nI n) = nI n := by
  rw [vp_nar_byte, nu_b h]
theorem nu_vbb {n : Nat} (h : n < 128) : vp_nar .byte (nI n).toInt8.toInt32 = nI n := by
  rw [pk_vb, nu_b h]
theorem nu_vm : vp_nar .byte (-1) = -1 := by rw [vp_nar_byte]; decide
theorem nu_vmb : vp_nar .byte ((-1 : Int32).toInt8.toInt32) = -1 := by rw [vp_nar_byte]; decide
theorem nu_z0 : vp_nar .boolean 0 = 0 := by decide
theorem nu_z1 : vp_nar .boolean 1 = 1 := by decide
theorem nu_m1lt : (-1 : Int32) < 0 := by decide
theorem nu_m1le : ¬ (0 : Int32) ≤ -1 := by decide
theorem nu_ne1 {a : Nat} (h : a < 2 ^ 31) : ¬ nI a = -1 := by
  intro e
  have := nI_pos (n := a) h
  rw [e] at this
  exact this nu_m1lt
theorem nu_ne3 {a : Nat} (h : a < 2 ^ 31) : ¬ nI a = -3 := by
  intro e
  have := nI_pos (n := a) h
  rw [e] at this
  exact this (by decide)
theorem nu_im {a b : Nat} (h : nI a = nI b) (ha : a < 2 ^ 31) (hb : b < 2 ^ 31) : a = b := (nI_eq ha hb).mp h
theorem nu_pr {n : Nat} (h : 0 < n) : nI n - 1 = nI (n - 1) := pk_sub (b := 1) h
theorem nu_m {n : Nat} (h : 0 < n) : nI n + (-1) = nI (n - 1) := by
  obtain ⟨m, rfl⟩ : ∃ m, n = m + 1 := ⟨n - 1, by omega⟩
  exact pk_m1 m
theorem nu_0m : nI 0 - 1 = -1 := by decide
theorem nu_0p : nI 0 + (-1) = -1 := by decide
theorem nu_3 (j k : Nat) : 3 * nI j + nI k = nI (3 * j + k) := by
  rw [show (3 : Int32) = nI 3 from rfl, pk_mul, nI_add]
theorem nu_k1 (k : Nat) : nI k + 1 = nI (k + 1) := nI_1 k
theorem nu_k3 (k : Nat) : nI k + 3 = nI (k + 3) := nI_add k 3
theorem nu_k4 (k : Nat) : nI k + 4 = nI (k + 4) := nI_add k 4
end
section
/-! brackets over lists of codes: 0 none, k = 1 .. 3 opens, k + 3 closes -/
def bp_fl (c : Nat) : Nat := if c = 0 then 0 else if c ≤ 3 then c + 3 else if c ≤ 6 then c - 3 else c
theorem bp_fl_0 : bp_fl 0 = 0 := rfl
theorem bp_fl_o {c : Nat} (h0 : 0 < c) (h : c ≤ 3) : bp_fl c = c + 3 := by
  unfold bp_fl
  rw [if_neg (by omega), if_pos h]
theorem bp_fl_c {c : Nat} (h0 : 3 < c) (h : c ≤ 6) : bp_fl c = c - 3 := by
  unfold bp_fl
  rw [if_neg (by omega), if_neg (by omega), if_pos h]
theorem bp_fl_x {c : Nat} (h0 : 6 < c) : bp_fl c = c := by
  unfold bp_fl
  rw [if_neg (by omega), if_neg (by omega), if_neg (by omega)]
theorem bp_fl_cs (c : Nat) : (c = 0 ∧ bp_fl c = 0) ∨ (0 < c ∧ c ≤ 3 ∧ bp_fl c = c + 3) ∨ (3 < c ∧ c ≤ 6 ∧ bp_fl c = c - 3) ∨ (6 < c ∧ bp_fl c = c) := by
  by_cases h0 : c = 0
  · subst h0; exact Or.inl ⟨rfl, rfl⟩
  · by_cases h3 : c ≤ 3
    · exact Or.inr (Or.inl ⟨by omega, h3, bp_fl_o (by omega) h3⟩)
    · by_cases h6 : c ≤ 6
      · exact Or.inr (Or.inr (Or.inl ⟨by omega, h6, bp_fl_c (by omega) h6⟩))
      · exact Or.inr (Or.inr (Or.inr ⟨by omega, bp_fl_x (by omega)⟩))
theorem bp_fl_fl (c : Nat) : bp_fl (bp_fl c) = c := by
  have h1 := bp_fl_cs c
  have h2 := bp_fl_cs (bp_fl c)
  omega
theorem bp_fl_le {c : Nat} (h : c ≤ 6) : bp_fl c ≤ 6 := by
  have h1 := bp_fl_cs c
  omega
def bp_cl (k : Nat) : List Nat → Nat
  | [] => 0
  | c :: l => if c = k then bp_cl k l - 1 else if c = k + 3 then bp_cl k l + 1 else bp_cl k l
def bp_op (k : Nat) : List Nat → Nat
  | [] => 0
  | c :: l => if c = k then (if bp_cl k l = 0 then bp_op k l + 1 else bp_op k l) else bp_op k l
theorem bp_cl_e (k c : Nat) (l : List Nat) : bp_cl k (c :: l) = if c = k then bp_cl k l - 1 else if c = k + 3 then bp_cl k l + 1 else bp_cl k l := rfl
theorem bp_op_e (k c : Nat) (l : List Nat) : bp_op k (c :: l) = if c = k then (if bp_cl k l = 0 then bp_op k l + 1 else bp_op k l) else bp_op k l := rfl
theorem bp_app (k : Nat) (a b : List Nat) : bp_cl k (a ++ b) = bp_cl k a + (bp_cl k b - bp_op k a) ∧ bp_op k (a ++ b) = bp_op k b + (bp_op k a - bp_cl k b) := by
  induction a with
  | nil => simp [bp_cl, bp_op]
  | cons c a ih =>
    obtain ⟨h1, h2⟩ := ih
    simp only [List.cons_append, bp_cl, bp_op, h1, h2]
    constructor
    · by_cases hk : c = k
      · simp only [if_pos hk]; split <;> omega
      · simp only [if_neg hk]; split <;> omega
    · by_cases hk : c = k
      · simp only [if_pos hk]; repeat' split
        all_goals omega
      · simp only [if_neg hk]
theorem bp_cl_app (k : Nat) (a b : List Nat) : bp_cl k (a ++ b) = bp_cl k a + (bp_cl k b - bp_op k a) := (bp_app k a b).1
theorem bp_op_app (k : Nat) (a b : List Nat) : bp_op k (a ++ b) = bp_op k b + (bp_op k a - bp_cl k b) := (bp_app k a b).2
theorem bp_len (k : Nat) (l : List Nat) : bp_cl k l + bp_op k l ≤ l.length := by
  induction l with
  | nil => simp [bp_cl, bp_op]
  | cons c l ih =>
    simp only [bp_cl, bp_op, List.length_cons]
    repeat' split
    all_goals omega
/-- one code -/
theorem bp_cl_1 (k c : Nat) : bp_cl k [c] = if c = k + 3 then 1 else 0 := by
  simp only [bp_cl]
  by_cases h : c = k
  · rw [if_pos h, if_neg (by omega)]
  · rw [if_neg h]
theorem bp_op_1 (k c : Nat) : bp_op k [c] = if c = k then 1 else 0 := by
  simp only [bp_op, bp_cl]
  rfl
def bp_mc (l : List Nat) : List Nat := (l.map bp_fl).reverse
theorem bp_mc_nil : bp_mc [] = [] := rfl
theorem bp_mc_app (a b : List Nat) : bp_mc (a ++ b) = bp_mc b ++ bp_mc a := by
  unfold bp_mc
  rw [List.map_append, List.reverse_append]
theorem bp_mc_cons (c : Nat) (l : List Nat) : bp_mc (c :: l) = bp_mc l ++ [bp_fl c] := by
  unfold bp_mc
  rw [List.map_cons, List.reverse_cons]
theorem bp_mc_mc (l : List Nat) : bp_mc (bp_mc l) = l := by
  induction l with
  | nil => rfl
  | cons c l ih =>
    rw [bp_mc_cons, bp_mc_app, ih, bp_mc_cons, bp_mc_nil, bp_fl_fl]
    rfl
theorem bp_mc_len (l : List Nat) : (bp_mc l).length = l.length := by
  unfold bp_mc
  rw [List.length_reverse, List.length_map]
theorem bp_mir {k : Nat} (h1 : 1 ≤ k) (h3 : k ≤ 3) (l : List Nat) : bp_cl k (bp_mc l) = bp_op k l ∧ bp_op k (bp_mc l) = bp_cl k l := by
  induction l with
  | nil => exact ⟨rfl, rfl⟩
  | cons c l ih =>
    have hc := bp_fl_cs c
    rw [bp_mc_cons, bp_cl_app, bp_op_app, ih.1, ih.2, bp_cl_1, bp_op_1]
    rw [bp_cl_e, bp_op_e]
    constructor
    · by_cases hk : c = k
      · rw [if_pos hk, if_pos (c := bp_fl c = k + 3) (by omega)]; split <;> omega
      · rw [if_neg hk, if_neg (c := bp_fl c = k + 3) (by omega)]; omega
    · by_cases hk : c = k
      · rw [if_pos hk, if_neg (c := bp_fl c = k) (by omega), if_pos (c := bp_fl c = k + 3) (by omega)]; omega
      · rw [if_neg hk, if_neg (c := bp_fl c = k + 3) (by omega)]
        by_cases hz : c = k + 3
        · rw [if_pos hz, if_pos (c := bp_fl c = k) (by omega)]; omega
        · rw [if_neg hz, if_neg (c := bp_fl c = k) (by omega)]; omega
theorem bp_mcl {k : Nat} (h1 : 1 ≤ k) (h3 : k ≤ 3) (l : List Nat) : bp_cl k (bp_mc l) = bp_op k l := (bp_mir h1 h3 l).1
theorem bp_mop {k : Nat} (h1 : 1 ≤ k) (h3 : k ≤ 3) (l : List Nat) : bp_op k (bp_mc l) = bp_cl k l := (bp_mir h1 h3 l).2
/-- the first loose close, where o opens wait; f: the place of the list's head -/
def bp_fc (k : Nat) : Nat → Nat → List Nat → Option Nat
  | _, _, [] => none
  | o, f, c :: l => if c = k + 3 then (if o = 0 then some f else bp_fc k (o - 1) (f + 1) l) else if c = k then bp_fc k (o + 1) (f + 1) l else bp_fc k o (f + 1) l
theorem bp_fc_e (k o f c : Nat) (l : List Nat) : bp_fc k o f (c :: l) = if c = k + 3 then (if o = 0 then some f else bp_fc k (o - 1) (f + 1) l) else if c = k then bp_fc k (o + 1) (f + 1) l else bp_fc k o (f + 1) l := rfl
theorem bp_fc_nil {k o f : Nat} : bp_fc k o f [] = none := by simp only [bp_fc]
theorem bp_fc_z {k f : Nat} {l : List Nat} : bp_fc k 0 f ((k + 3) :: l) = some f := by
  rw [bp_fc_e]
  rw [if_pos rfl, if_pos rfl]
theorem bp_fc_s {k o f : Nat} {l : List Nat} (h : 0 < o) : bp_fc k o f ((k + 3) :: l) = bp_fc k (o - 1) (f + 1) l := by
  rw [bp_fc_e]
  rw [if_pos rfl, if_neg (by omega)]
theorem bp_fc_o {k o f : Nat} {l : List Nat} : bp_fc k o f (k :: l) = bp_fc k (o + 1) (f + 1) l := by
  rw [bp_fc_e]
  rw [if_neg (by omega), if_pos rfl]
theorem bp_fc_n {k o f c : Nat} {l : List Nat} (h1 : c ≠ k) (h2 : c ≠ k + 3) : bp_fc k o f (c :: l) = bp_fc k o (f + 1) l := by
  rw [bp_fc_e]
  rw [if_neg h2, if_neg h1]
theorem bp_fc_cg {k o o' f f' : Nat} {l : List Nat} (h : o = o') (g : f = f') : bp_fc k o f l = bp_fc k o' f' l := by
  rw [h, g]
theorem bp_fc_app (k : Nat) (b a : List Nat) : ∀ o f : Nat, bp_fc k o f (a ++ b) = if o < bp_cl k a then bp_fc k o f a else bp_fc k (o - bp_cl k a + bp_op k a) (f + a.length) b := by
  induction a with
  | nil =>
    intro o f
    simp [bp_cl, bp_op]
  | cons c a ih =>
    intro o f
    rw [List.cons_append]
    by_cases h3 : c = k + 3
    · subst h3
      have ec : bp_cl k ((k + 3) :: a) = bp_cl k a + 1 := by
        rw [bp_cl_e]
        rw [if_neg (by omega), if_pos rfl]
      have eo : bp_op k ((k + 3) :: a) = bp_op k a := by
        rw [bp_op_e]
        rw [if_neg (by omega)]
      by_cases h0 : o = 0
      · subst h0
        rw [bp_fc_z, bp_fc_z, ec, if_pos (by omega)]
      · rw [bp_fc_s (by omega), bp_fc_s (by omega), ih, ec, eo, List.length_cons]
        by_cases h : o - 1 < bp_cl k a
        · rw [if_pos h, if_pos (by omega)]
        · rw [if_neg h, if_neg (by omega)]
          exact bp_fc_cg (by omega) (by omega)
    · by_cases hk : c = k
      · subst hk
        have ec : bp_cl c (c :: a) = bp_cl c a - 1 := by
          rw [bp_cl_e]
          rw [if_pos rfl]
        have eo : bp_op c (c :: a) = if bp_cl c a = 0 then bp_op c a + 1 else bp_op c a := by
          rw [bp_op_e]
          rw [if_pos rfl]
        rw [bp_fc_o, bp_fc_o, ih, ec, eo, List.length_cons]
        by_cases h : o + 1 < bp_cl c a
        · rw [if_pos h, if_pos (by omega)]
        · rw [if_neg h, if_neg (by omega)]
          exact bp_fc_cg (by split <;> omega) (by omega)
      · have ec : bp_cl k (c :: a) = bp_cl k a := by
          rw [bp_cl_e]
          rw [if_neg hk, if_neg h3]
        have eo : bp_op k (c :: a) = bp_op k a := by
          rw [bp_op_e]
          rw [if_neg hk]
        rw [bp_fc_n hk h3, bp_fc_n hk h3, ih, ec, eo, List.length_cons]
        by_cases h : o < bp_cl k a
        · rw [if_pos h, if_pos h]
        · rw [if_neg h, if_neg h]
          exact bp_fc_cg rfl (by omega)
theorem bp_fc_of {k o f : Nat} {w v : List Nat} (h1 : bp_cl k w = o) (h2 : bp_op k w = 0) : bp_fc k o f (w ++ (k + 3) :: v) = some (f + w.length) := by
  rw [bp_fc_app, if_neg (by omega), h1, h2, show o - o + 0 = 0 by omega, bp_fc_z]
theorem bp_fc_some {k : Nat} (l : List Nat) : ∀ {o f q : Nat}, bp_fc k o f l = some q → ∃ w v : List Nat, l = w ++ (k + 3) :: v ∧ q = f + w.length ∧ bp_cl k w = o ∧ bp_op k w = 0 := by
  induction l with
  | nil =>
    intro o f q h
    rw [bp_fc_nil] at h
    exact nomatch h
  | cons c l ih =>
    intro o f q h
    by_cases h3 : c = k + 3
    · subst h3
      by_cases h0 : o = 0
      · subst h0
        rw [bp_fc_z] at h
        exact ⟨[], l, rfl, by injection h with h; simp [h], rfl, rfl⟩
      · rw [bp_fc_s (by omega)] at h
        obtain ⟨w, v, e, eq, e1, e2⟩ := ih h
        refine ⟨(k + 3) :: w, v, by rw [e]; rfl, by rw [eq, List.length_cons]; omega, ?_, ?_⟩
        · rw [bp_cl_e]
          rw [if_neg (by omega), if_pos rfl]; omega
        · rw [bp_op_e]
          rw [if_neg (by omega)]; exact e2
    · by_cases hk : c = k
      · subst hk
        rw [bp_fc_o] at h
        obtain ⟨w, v, e, eq, e1, e2⟩ := ih h
        refine ⟨c :: w, v, by rw [e]; rfl, by rw [eq, List.length_cons]; omega, ?_, ?_⟩
        · rw [bp_cl_e]
          rw [if_pos rfl]; omega
        · rw [bp_op_e]
          rw [if_pos rfl, if_neg (by omega)]; exact e2
      · rw [bp_fc_n hk h3] at h
        obtain ⟨w, v, e, eq, e1, e2⟩ := ih h
        refine ⟨c :: w, v, by rw [e]; rfl, by rw [eq, List.length_cons]; omega, ?_, ?_⟩
        · rw [bp_cl_e]
          rw [if_neg hk, if_neg h3]; exact e1
        · rw [bp_op_e]
          rw [if_neg hk]; exact e2
theorem bp_fc_none {k : Nat} (l : List Nat) : ∀ {o f : Nat}, bp_fc k o f l = none ↔ bp_cl k l ≤ o := by
  induction l with
  | nil =>
    intro o f
    rw [bp_fc_nil]
    simp [bp_cl]
  | cons c l ih =>
    intro o f
    by_cases h3 : c = k + 3
    · subst h3
      have ec : bp_cl k ((k + 3) :: l) = bp_cl k l + 1 := by
        rw [bp_cl_e]
        rw [if_neg (by omega), if_pos rfl]
      by_cases h0 : o = 0
      · subst h0
        rw [bp_fc_z, ec]
        exact ⟨(fun z => nomatch z), fun z => by omega⟩
      · rw [bp_fc_s (by omega), ih, ec]; omega
    · by_cases hk : c = k
      · subst hk
        have ec : bp_cl c (c :: l) = bp_cl c l - 1 := by
          rw [bp_cl_e]
          rw [if_pos rfl]
        rw [bp_fc_o, ih, ec]; omega
      · have ec : bp_cl k (c :: l) = bp_cl k l := by
          rw [bp_cl_e]
          rw [if_neg hk, if_neg h3]
        rw [bp_fc_n hk h3, ih, ec]
theorem bp_fc_ge {k o f q : Nat} {l : List Nat} (h : bp_fc k o f l = some q) : f ≤ q ∧ q < f + l.length := by
  obtain ⟨w, v, e, eq, _, _⟩ := bp_fc_some l h
  rw [e, List.length_append, List.length_cons]
  omega
theorem bp_fc_lt {k o f : Nat} {l : List Nat} (h : o < bp_cl k l) : ∃ q, bp_fc k o f l = some q := by
  cases e : bp_fc k o f l with
  | none => exact absurd ((bp_fc_none l).mp e) (by omega)
  | some q => exact ⟨q, rfl⟩
theorem bp_fc_sh {k : Nat} (l : List Nat) : ∀ {o f : Nat} (d : Nat), bp_fc k o (f + d) l = (bp_fc k o f l).map (· + d) := by
  induction l with
  | nil =>
    intro o f d
    rw [bp_fc_nil, bp_fc_nil]; rfl
  | cons c l ih =>
    intro o f d
    by_cases h3 : c = k + 3
    · subst h3
      by_cases h0 : o = 0
      · subst h0
        rw [bp_fc_z, bp_fc_z]; rfl
      · rw [bp_fc_s (by omega), bp_fc_s (by omega), ← ih]
        exact bp_fc_cg rfl (by omega)
    · by_cases hk : c = k
      · subst hk
        rw [bp_fc_o, bp_fc_o, ← ih]
        exact bp_fc_cg rfl (by omega)
      · rw [bp_fc_n hk h3, bp_fc_n hk h3, ← ih]
        exact bp_fc_cg rfl (by omega)
end
section
/-! stretches of a list, pairs, and what the two ways of counting have to do with each other -/
def bp_sg (tx : List Nat) (a b : Nat) : List Nat := (tx.drop a).take (b - a)
theorem bp_lt {tx : List Nat} {a c : Nat} (h : tx[a]? = some c) : a < tx.length := (List.getElem?_eq_some_iff.mp h).1
theorem bp_dr {tx : List Nat} {a c : Nat} (h : tx[a]? = some c) : tx.drop a = c :: tx.drop (a + 1) := by
  obtain ⟨ha, e⟩ := List.getElem?_eq_some_iff.mp h
  rw [List.drop_eq_getElem_cons ha, e]
theorem bp_sg_nil (tx : List Nat) (a : Nat) : bp_sg tx a a = [] := by
  unfold bp_sg
  rw [Nat.sub_self, List.take_zero]
theorem bp_sg_cons {tx : List Nat} {a b c : Nat} (h : tx[a]? = some c) (hab : a < b) : bp_sg tx a b = c :: bp_sg tx (a + 1) b := by
  unfold bp_sg
  rw [bp_dr h, show b - a = (b - (a + 1)) + 1 by omega, List.take_succ_cons]
theorem bp_sg_app (tx : List Nat) {a b c : Nat} (hab : a ≤ b) (hbc : b ≤ c) : bp_sg tx a b ++ bp_sg tx b c = bp_sg tx a c := by
  unfold bp_sg
  have e : tx.drop b = (tx.drop a).drop (b - a) := by
    rw [List.drop_drop]
    congr 1
    omega
  rw [e, show c - a = (b - a) + (c - b) by omega, List.take_add]
theorem bp_sg_len {tx : List Nat} (a : Nat) {b : Nat} (h : b ≤ tx.length) : (bp_sg tx a b).length = b - a := by
  unfold bp_sg
  rw [List.length_take, List.length_drop]
  omega
theorem bp_sg_end (tx : List Nat) (a : Nat) : bp_sg tx a tx.length = tx.drop a := by
  unfold bp_sg
  exact List.take_of_length_le (by rw [List.length_drop]; omega)
theorem bp_sg_0 (tx : List Nat) (b : Nat) : bp_sg tx 0 b = tx.take b := by
  unfold bp_sg
  rw [List.drop_zero, Nat.sub_zero]
theorem bp_sg_snoc {tx : List Nat} {a b c : Nat} (h : tx[b]? = some c) (hab : a ≤ b) : bp_sg tx a (b + 1) = bp_sg tx a b ++ [c] := by
  rw [← bp_sg_app tx hab (Nat.le_succ b), bp_sg_cons h (Nat.lt_succ_self b), bp_sg_nil]
theorem bp_sg_left {X Y : List Nat} {a : Nat} (h : a ≤ X.length) : bp_sg (X ++ Y) a X.length = X.drop a := by
  unfold bp_sg
  rw [List.drop_append_of_le_length h, List.take_append_of_le_length (by rw [List.length_drop]; omega)]
  exact List.take_of_length_le (by rw [List.length_drop]; omega)
theorem bp_sg_dr (tx : List Nat) {a b : Nat} (hab : a ≤ b) (hb : b ≤ tx.length) : tx.drop a = bp_sg tx a b ++ tx.drop b := by
  rw [← bp_sg_end tx a, ← bp_sg_end tx b, bp_sg_app tx hab hb]
def bp_pr (k : Nat) (tx : List Nat) (i j : Nat) : Prop := i < j ∧ tx[i]? = some k ∧ bp_fc k 0 (i + 1) (tx.drop (i + 1)) = some j
theorem bp_pr_to {k : Nat} {tx : List Nat} {i j : Nat} (h : bp_pr k tx i j) : ∃ u w v : List Nat, tx = (u ++ k :: w) ++ (k + 3) :: v ∧ i = u.length ∧ j = u.length + 1 + w.length ∧ bp_cl k w = 0 ∧ bp_op k w = 0 := by
  obtain ⟨hij, hi, hf⟩ := h
  obtain ⟨w, v, e, eq, e1, e2⟩ := bp_fc_some _ hf
  have hl : (tx.take i).length = i := List.length_take_of_le (Nat.le_of_lt (bp_lt hi))
  refine ⟨tx.take i, w, v, ?_, hl.symm, by rw [hl]; exact eq, e1, e2⟩
  rw [List.append_assoc, List.cons_append, ← e, ← bp_dr hi, List.take_append_drop]
theorem bp_pr_of {k : Nat} {u w v : List Nat} (e1 : bp_cl k w = 0) (e2 : bp_op k w = 0) : bp_pr k ((u ++ k :: w) ++ (k + 3) :: v) u.length (u.length + 1 + w.length) := by
  have hx : (u ++ k :: w) ++ (k + 3) :: v = u ++ k :: (w ++ (k + 3) :: v) := by
    rw [List.append_assoc, List.cons_append]
  have hd : List.drop (u.length + 1) ((u ++ k :: w) ++ (k + 3) :: v) = w ++ (k + 3) :: v := by
    rw [hx, ← List.drop_drop, List.drop_left]
    rfl
  refine ⟨by omega, ?_, ?_⟩
  · rw [hx, List.getElem?_append_right (Nat.le_refl _), Nat.sub_self]
    rfl
  · rw [hd, bp_fc_of e1 e2]
theorem bp_pr_c {k : Nat} {tx : List Nat} {i j : Nat} (h : bp_pr k tx i j) : tx[j]? = some (k + 3) := by
  obtain ⟨u, w, v, e, ei, ej, _, _⟩ := bp_pr_to h
  have hl : (u ++ k :: w).length = j := by
    rw [List.length_append, List.length_cons]; omega
  rw [e, List.getElem?_append_right (by omega), hl, Nat.sub_self]
  rfl
theorem bp_pr_u {k : Nat} {tx : List Nat} {i j j' : Nat} (h : bp_pr k tx i j) (h' : bp_pr k tx i j') : j = j' := by
  have e := h.2.2.symm.trans h'.2.2
  injection e
/-- an opening bracket's partner within a stretch -/
theorem bp_po {k : Nat} {tx : List Nat} {i b : Nat} (hi : tx[i]? = some k) (hib : i < b) (hb : b ≤ tx.length) : (∃ j, j < b ∧ bp_pr k tx i j) ↔ 0 < bp_cl k (bp_sg tx (i + 1) b) := by
  have hd := bp_sg_dr tx (a := i + 1) hib hb
  have hl := bp_sg_len (i + 1) hb
  constructor
  · rintro ⟨j, hj, hij, _, hf⟩
    rw [hd, bp_fc_app] at hf
    by_cases h : 0 < bp_cl k (bp_sg tx (i + 1) b)
    · exact h
    · rw [if_neg h] at hf
      have := (bp_fc_ge hf).1
      omega
  · intro h
    obtain ⟨q, hq⟩ := bp_fc_lt (f := i + 1) h
    have := bp_fc_ge hq
    refine ⟨q, by omega, by omega, hi, ?_⟩
    rw [hd, bp_fc_app, if_pos h, hq]
/-- an opening bracket's partner behind a stretch -/
theorem bp_ct {k : Nat} {tx : List Nat} {i b : Nat} (hi : tx[i]? = some k) (hib : i < b) (hb : b ≤ tx.length) : (∃ j, b ≤ j ∧ bp_pr k tx i j) ↔ (bp_cl k (bp_sg tx (i + 1) b) = 0 ∧ bp_op k (bp_sg tx (i + 1) b) < bp_cl k (tx.drop b)) := by
  have hd := bp_sg_dr tx (a := i + 1) hib hb
  have hl := bp_sg_len (i + 1) hb
  constructor
  · rintro ⟨j, hj, hij, _, hf⟩
    rw [hd, bp_fc_app] at hf
    by_cases h : 0 < bp_cl k (bp_sg tx (i + 1) b)
    · rw [if_pos h] at hf
      have := (bp_fc_ge hf).2
      omega
    · rw [if_neg h] at hf
      have h0 : bp_cl k (bp_sg tx (i + 1) b) = 0 := by omega
      refine ⟨h0, ?_⟩
      rw [h0] at hf
      by_cases hh : bp_op k (bp_sg tx (i + 1) b) < bp_cl k (tx.drop b)
      · exact hh
      · rw [(bp_fc_none _).mpr (by omega)] at hf
        exact nomatch hf
  · rintro ⟨h0, h1⟩
    obtain ⟨q, hq⟩ := bp_fc_lt (f := i + 1 + (bp_sg tx (i + 1) b).length) h1
    have := bp_fc_ge hq
    refine ⟨q, by omega, by omega, hi, ?_⟩
    rw [hd, bp_fc_app, if_neg (by omega), h0, Nat.sub_zero, Nat.zero_add, hq]
theorem bp_flk {k : Nat} (h1 : 1 ≤ k) (h3 : k ≤ 3) : bp_fl (k + 3) = k ∧ bp_fl k = k + 3 := by
  have a := bp_fl_cs k
  have b := bp_fl_cs (k + 3)
  omega
/-- a closing bracket's partner: by the mirror -/
theorem bp_pq {k : Nat} {tx : List Nat} {q i a : Nat} (h1 : 1 ≤ k) (h3 : k ≤ 3) (hi : tx[i]? = some (k + 3)) (ha : a ≤ i) (hq : a ≤ q) : bp_pr k tx q i ↔ (q < i ∧ bp_fc k 0 0 (bp_mc (bp_sg tx a i)) = some (i - 1 - q)) := by
  have hf := bp_flk h1 h3
  constructor
  · intro h
    refine ⟨h.1, ?_⟩
    obtain ⟨u, w, v, e, eq, ei, e1, e2⟩ := bp_pr_to h
    have hl : (u ++ k :: w).length = i := by
      rw [List.length_append, List.length_cons]; omega
    have hs : bp_sg tx a i = u.drop a ++ k :: w := by
      rw [e, ← hl, bp_sg_left (by omega), List.drop_append_of_le_length (by omega)]
    have hm : bp_mc (bp_sg tx a i) = bp_mc w ++ (k + 3) :: bp_mc (u.drop a) := by
      rw [hs, bp_mc_app, bp_mc_cons, hf.2, List.append_assoc]
      rfl
    rw [hm, bp_fc_of (by rw [bp_mcl h1 h3]; exact e2) (by rw [bp_mop h1 h3]; exact e1), bp_mc_len]
    congr 1
    omega
  · rintro ⟨hqi, hc⟩
    obtain ⟨w, v, e, eq, e1, e2⟩ := bp_fc_some _ hc
    have hlen := bp_sg_len a (Nat.le_of_lt (bp_lt hi))
    have hs : bp_sg tx a i = bp_mc v ++ k :: bp_mc w := by
      rw [← bp_mc_mc (bp_sg tx a i), e, bp_mc_app, bp_mc_cons, hf.1, List.append_assoc]
      rfl
    have hlen2 : (bp_mc v).length + 1 + (bp_mc w).length = i - a := by
      rw [← hlen, hs, List.length_append, List.length_cons]; omega
    have hta : (tx.take a).length = a := List.length_take_of_le (by have := bp_lt hi; omega)
    have htx : tx = ((tx.take a ++ bp_mc v) ++ k :: bp_mc w) ++ (k + 3) :: tx.drop (i + 1) := by
      rw [List.append_assoc (tx.take a), ← hs, List.append_assoc, ← bp_dr hi, ← bp_sg_dr tx ha (Nat.le_of_lt (bp_lt hi)), List.take_append_drop]
    have hp := bp_pr_of (k := k) (u := tx.take a ++ bp_mc v) (w := bp_mc w) (v := tx.drop (i + 1)) (by rw [bp_mcl h1 h3]; exact e2) (by rw [bp_mop h1 h3]; exact e1)
    rw [← htx, List.length_append, hta] at hp
    have ew := bp_mc_len w
    rw [show a + (bp_mc v).length = q by omega, show q + 1 + (bp_mc w).length = i by omega] at hp
    exact hp
theorem bp_pcl {k : Nat} {tx : List Nat} {i a : Nat} (h1 : 1 ≤ k) (h3 : k ≤ 3) (hi : tx[i]? = some (k + 3)) (ha : a ≤ i) : (∃ q, a ≤ q ∧ bp_pr k tx q i) ↔ 0 < bp_op k (bp_sg tx a i) := by
  rw [← bp_mcl h1 h3]
  have hlen := bp_sg_len a (Nat.le_of_lt (bp_lt hi))
  constructor
  · rintro ⟨q, hq, hp⟩
    have hc := ((bp_pq h1 h3 hi ha hq).mp hp).2
    by_cases h : 0 < bp_cl k (bp_mc (bp_sg tx a i))
    · exact h
    · rw [(bp_fc_none _).mpr (by omega)] at hc
      exact nomatch hc
  · intro h
    obtain ⟨p, hp⟩ := bp_fc_lt (f := 0) h
    have hg := bp_fc_ge hp
    rw [bp_mc_len, hlen] at hg
    refine ⟨i - 1 - p, by omega, (bp_pq h1 h3 hi ha (by omega)).mpr ⟨by omega, ?_⟩⟩
    rw [hp]
    congr 1
    omega
/-- an opening bracket's partner: the first loose close behind it -/
theorem bp_pa {k : Nat} {tx : List Nat} {i j : Nat} (hi : tx[i]? = some k) : bp_pr k tx i j ↔ (i + 1 ≤ j ∧ bp_fc k 0 0 (tx.drop (i + 1)) = some (j - (i + 1))) := by
  have e := bp_fc_sh (k := k) (tx.drop (i + 1)) (o := 0) (f := 0) (i + 1)
  rw [Nat.zero_add] at e
  constructor
  · rintro ⟨h1, _, h2⟩
    refine ⟨h1, ?_⟩
    rw [e] at h2
    cases hc : bp_fc k 0 0 (tx.drop (i + 1)) with
    | none => rw [hc] at h2; exact nomatch h2
    | some p =>
      rw [hc] at h2
      have h3 : some (p + (i + 1)) = some j := h2
      injection h3 with h3
      congr 1
      omega
  · rintro ⟨h1, h2⟩
    refine ⟨h1, hi, ?_⟩
    rw [e, h2]
    show some (j - (i + 1) + (i + 1)) = some j
    congr 1
    omega
/-! pairs around a place: i counts if it opens before the place b - 1 and is closed behind it -/
def bp_cnt (k : Nat) (tx : List Nat) (b i : Nat) : Prop := tx[i]? = some k ∧ ∃ j, b ≤ j ∧ bp_pr k tx i j
def bp_f (k : Nat) (tx : List Nat) (b i : Nat) : Nat := min (bp_op k (bp_sg tx i b)) (bp_cl k (tx.drop b))
theorem bp_f_cnt {k : Nat} {tx : List Nat} {b i : Nat} (hib : i < b) (hb : b ≤ tx.length) (h : bp_cnt k tx b i) : bp_f k tx b i = bp_f k tx b (i + 1) + 1 := by
  obtain ⟨hi, hj⟩ := h
  obtain ⟨h0, h1⟩ := (bp_ct hi hib hb).mp hj
  unfold bp_f
  have e : bp_op k (bp_sg tx i b) = bp_op k (bp_sg tx (i + 1) b) + 1 := by
    rw [bp_sg_cons hi hib]
    rw [bp_op_e, if_pos rfl, if_pos h0]
  rw [e]
  omega
theorem bp_f_nct {k : Nat} {tx : List Nat} {b i : Nat} (hib : i < b) (hb : b ≤ tx.length) (h : ¬ bp_cnt k tx b i) : bp_f k tx b i = bp_f k tx b (i + 1) := by
  obtain ⟨c, hc⟩ : ∃ c, tx[i]? = some c := ⟨_, List.getElem?_eq_getElem (by omega)⟩
  unfold bp_f
  rw [bp_sg_cons hc hib, bp_op_e]
  by_cases hk : c = k
  · subst hk
    rw [if_pos rfl]
    have hn : ¬ (bp_cl c (bp_sg tx (i + 1) b) = 0 ∧ bp_op c (bp_sg tx (i + 1) b) < bp_cl c (tx.drop b)) := fun z => h ⟨hc, (bp_ct hc hib hb).mpr z⟩
    by_cases h0 : bp_cl c (bp_sg tx (i + 1) b) = 0
    · rw [if_pos h0]
      have : ¬ bp_op c (bp_sg tx (i + 1) b) < bp_cl c (tx.drop b) := fun z => hn ⟨h0, z⟩
      omega
    · rw [if_neg h0]
  · rw [if_neg hk]
theorem bp_op_mono (k : Nat) (tx : List Nat) {a a' b : Nat} (h : a ≤ a') (h' : a' ≤ b) : bp_op k (bp_sg tx a' b) ≤ bp_op k (bp_sg tx a b) := by
  rw [← bp_sg_app tx h h', bp_op_app]
  omega
theorem bp_f_mono (k : Nat) (tx : List Nat) {a a' b : Nat} (h : a ≤ a') (h' : a' ≤ b) : bp_f k tx b a' ≤ bp_f k tx b a := by
  have := bp_op_mono k tx h h'
  unfold bp_f
  omega
/-- the count of pairs around the place i: what the tree reckons -/
theorem bp_depth {k : Nat} {tx : List Nat} {i c : Nat} (hi : tx[i]? = some c) : bp_f k tx (i + 1) 0 - bp_f k tx (i + 1) i = min (if c = k + 3 then bp_op k (tx.take i) - 1 else bp_op k (tx.take i)) (if c = k then bp_cl k (tx.drop (i + 1)) - 1 else bp_cl k (tx.drop (i + 1))) := by
  unfold bp_f
  rw [bp_sg_snoc hi (Nat.zero_le i), bp_sg_cons hi (Nat.lt_succ_self i), bp_sg_nil, bp_sg_0, bp_op_app, bp_op_1, bp_cl_1]
  by_cases h3 : c = k + 3
  · rw [if_neg (by omega), if_pos h3, if_pos h3, if_neg (by omega)]
    omega
  · by_cases hk : c = k
    · rw [if_pos hk, if_neg h3, if_neg h3, if_pos hk]
      omega
    · rw [if_neg hk, if_neg h3, if_neg h3, if_neg hk]
      omega
theorem bp_ar0 {k : Nat} {tx : List Nat} {i : Nat} (hi : i < tx.length) (h : bp_f k tx (i + 1) 0 - bp_f k tx (i + 1) i = 0) {p : Nat} (hp : p < i) : ¬ bp_cnt k tx (i + 1) p := by
  intro hc
  have h1 := bp_f_cnt (by omega) (by omega) hc
  have h2 := bp_f_mono k tx (a := 0) (a' := p) (b := i + 1) (by omega) (by omega)
  have h3 := bp_f_mono k tx (a := p + 1) (a' := i) (b := i + 1) (by omega) (by omega)
  omega
theorem bp_ar1 {k : Nat} {tx : List Nat} {i c : Nat} (h1 : 1 ≤ k) (h3 : k ≤ 3) (hi : tx[i]? = some c) (h : 0 < bp_f k tx (i + 1) 0 - bp_f k tx (i + 1) i) : ∃ p, bp_fc k (if c = k + 3 then 1 else 0) 0 (bp_mc (tx.take i)) = some p ∧ p < i ∧ bp_cnt k tx (i + 1) (i - 1 - p) ∧ ∀ j, i - 1 - p < j → j < i → ¬ bp_cnt k tx (i + 1) j := by
  have hf := bp_flk h1 h3
  have hil := bp_lt hi
  rw [bp_depth hi] at h
  have htl : (tx.take i).length = i := List.length_take_of_le (by omega)
  have hop : (if c = k + 3 then 1 else 0) < bp_cl k (bp_mc (tx.take i)) := by
    rw [bp_mcl h1 h3]
    by_cases hc3 : c = k + 3
    · rw [if_pos hc3] at h ⊢; omega
    · rw [if_neg hc3] at h ⊢; omega
  obtain ⟨p, hp⟩ := bp_fc_lt (f := 0) hop
  have hg := bp_fc_ge hp
  rw [bp_mc_len, htl] at hg
  obtain ⟨w, v, e, eq, e1, e2⟩ := bp_fc_some _ hp
  have hs : tx.take i = bp_mc v ++ k :: bp_mc w := by
    rw [← bp_mc_mc (tx.take i), e, bp_mc_app, bp_mc_cons, hf.1, List.append_assoc]
    rfl
  have hlv := bp_mc_len v
  have hlw := bp_mc_len w
  have hlen : (bp_mc v).length + 1 + (bp_mc w).length = i := by
    rw [← htl, hs, List.length_append, List.length_cons]; omega
  have ex : i - 1 - p = (bp_mc v).length := by omega
  have htx : tx = (bp_mc v ++ k :: bp_mc w) ++ c :: tx.drop (i + 1) := by
    rw [← hs, ← bp_dr hi, List.take_append_drop]
  have hx : tx[i - 1 - p]? = some k := by
    rw [htx, ex, List.append_assoc, List.getElem?_append_right (Nat.le_refl _), Nat.sub_self]
    rfl
  have hw : bp_sg tx (i - 1 - p + 1) i = bp_mc w := by
    have e3 : (bp_mc v ++ k :: bp_mc w).length = i := by
      rw [List.length_append, List.length_cons]; omega
    have e4 := bp_sg_left (X := bp_mc v ++ k :: bp_mc w) (Y := c :: tx.drop (i + 1)) (a := i - 1 - p + 1) (by omega)
    rw [← htx, e3] at e4
    rw [e4, ex, ← List.drop_drop, List.drop_left]
    rfl
  have hwc : bp_cl k (bp_mc w) = 0 := by rw [bp_mcl h1 h3]; exact e2
  have hwo : bp_op k (bp_mc w) = if c = k + 3 then 1 else 0 := by rw [bp_mop h1 h3]; exact e1
  have hsb : bp_sg tx (i - 1 - p + 1) (i + 1) = bp_mc w ++ [c] := by
    rw [bp_sg_snoc hi (by omega), hw]
  have hc0 : bp_cl k (bp_sg tx (i - 1 - p + 1) (i + 1)) = 0 := by
    rw [hsb, bp_cl_app, hwc, hwo, bp_cl_1]; split <;> omega
  have ho0 : bp_op k (bp_sg tx (i - 1 - p + 1) (i + 1)) = if c = k then 1 else 0 := by
    rw [hsb, bp_op_app, hwo, bp_cl_1, bp_op_1]; split <;> omega
  refine ⟨p, hp, by omega, ⟨hx, (bp_ct hx (by omega) (by omega)).mpr ⟨hc0, ?_⟩⟩, ?_⟩
  · rw [ho0]
    by_cases hk : c = k
    · rw [if_pos hk] at h ⊢; omega
    · rw [if_neg hk] at h ⊢; omega
  · intro j hj hji hc
    obtain ⟨hjk, hjj⟩ := hc
    have hz := ((bp_ct hjk (by omega) (by omega)).mp hjj).1
    have m1 := bp_op_mono k tx (a := i - 1 - p + 1) (a' := j) (b := i + 1) (by omega) (by omega)
    have m2 := bp_op_mono k tx (a := j + 1) (a' := i) (b := i + 1) (by omega) (by omega)
    have m3 : bp_op k (bp_sg tx j (i + 1)) = bp_op k (bp_sg tx (j + 1) (i + 1)) + 1 := by
      rw [bp_sg_cons hjk (by omega)]
      rw [bp_op_e, if_pos rfl, if_pos hz]
    have m4 : bp_op k (bp_sg tx i (i + 1)) = if c = k then 1 else 0 := by
      rw [bp_sg_cons hi (Nat.lt_succ_self i), bp_sg_nil, bp_op_1]
    omega
end
section
/-! trees: a node's data, lists of (node, code), what a pointer reads -/
abbrev tr_N : Type := Int32 × Int32 × Int32 × Int32 × Int32 × (Nat → Int32) × (Nat → Int32)
abbrev tr_L : Type := List (Nat × Nat)
def tr_nd (c l r s t o q : Nat → Int32) (j : Nat) : tr_N := (c j, l j, r j, s j, t j, (fun k => if k < 3 then o (3 * j + k) else 0), (fun k => if k < 3 then q (3 * j + k) else 0))
abbrev tr_cd (d : tr_N) : Int32 := d.1
abbrev tr_lf (d : tr_N) : Int32 := d.2.1
abbrev tr_rg (d : tr_N) : Int32 := d.2.2.1
abbrev tr_sz (d : tr_N) : Int32 := d.2.2.2.1
abbrev tr_tn (d : tr_N) : Int32 := d.2.2.2.2.1
abbrev tr_os (d : tr_N) : Nat → Int32 := d.2.2.2.2.2.1
abbrev tr_qs (d : tr_N) : Nat → Int32 := d.2.2.2.2.2.2
def tr_cs (L : tr_L) : List Nat := L.map Prod.snd
def tr_ns (L : tr_L) : List Nat := L.map Prod.fst
def tr_mr (L : tr_L) : tr_L := (L.map (fun e => (e.1, bp_fl e.2))).reverse
theorem tr_cs_nil : tr_cs [] = [] := rfl
theorem tr_cs_app (A B : tr_L) : tr_cs (A ++ B) = tr_cs A ++ tr_cs B := List.map_append
theorem tr_cs_cons (e : Nat × Nat) (B : tr_L) : tr_cs (e :: B) = e.2 :: tr_cs B := rfl
theorem tr_cs_len (A : tr_L) : (tr_cs A).length = A.length := List.length_map _
theorem tr_ns_nil : tr_ns [] = [] := rfl
theorem tr_ns_app (A B : tr_L) : tr_ns (A ++ B) = tr_ns A ++ tr_ns B := List.map_append
theorem tr_ns_cons (e : Nat × Nat) (B : tr_L) : tr_ns (e :: B) = e.1 :: tr_ns B := rfl
theorem tr_ns_len (A : tr_L) : (tr_ns A).length = A.length := List.length_map _
theorem tr_mr_nil : tr_mr [] = [] := rfl
theorem tr_mr_app (A B : tr_L) : tr_mr (A ++ B) = tr_mr B ++ tr_mr A := by
  unfold tr_mr
  rw [List.map_append, List.reverse_append]
theorem tr_mr_cons (e : Nat × Nat) (B : tr_L) : tr_mr (e :: B) = tr_mr B ++ [(e.1, bp_fl e.2)] := by
  unfold tr_mr
  rw [List.map_cons, List.reverse_cons]
theorem tr_mr_mid (A B : tr_L) (e : Nat × Nat) : tr_mr (A ++ e :: B) = tr_mr B ++ (e.1, bp_fl e.2) :: tr_mr A := by
  rw [tr_mr_app, tr_mr_cons, List.append_assoc]
  rfl
theorem tr_mr_mr (L : tr_L) : tr_mr (tr_mr L) = L := by
  induction L with
  | nil => rfl
  | cons e L ih =>
    rw [tr_mr_cons, tr_mr_app, ih, tr_mr_cons, tr_mr_nil]
    show [(e.1, bp_fl (bp_fl e.2))] ++ L = e :: L
    rw [bp_fl_fl]
    rfl
theorem tr_mr_len (L : tr_L) : (tr_mr L).length = L.length := by
  unfold tr_mr
  rw [List.length_reverse, List.length_map]
theorem tr_cs_mr (L : tr_L) : tr_cs (tr_mr L) = bp_mc (tr_cs L) := by
  unfold tr_cs tr_mr bp_mc
  rw [List.map_reverse, List.map_map, List.map_map]
  rfl
theorem tr_ns_mr (L : tr_L) : tr_ns (tr_mr L) = (tr_ns L).reverse := by
  unfold tr_ns tr_mr
  rw [List.map_reverse, List.map_map]
  rfl
def tr_rd (t : Int32) (A : tr_L) (e : Nat × Nat) (B : tr_L) : tr_L := if t = 0 then A ++ e :: B else tr_mr A ++ e :: tr_mr B
theorem tr_rd_0 (A : tr_L) (e : Nat × Nat) (B : tr_L) : tr_rd 0 A e B = A ++ e :: B := if_pos rfl
theorem tr_rd_1 (A : tr_L) (e : Nat × Nat) (B : tr_L) : tr_rd 1 A e B = tr_mr A ++ e :: tr_mr B := if_neg (by decide)
theorem tr_rd_mem {t : Int32} {A B : tr_L} {e : Nat × Nat} {i : Nat} : i ∈ tr_ns (tr_rd t A e B) ↔ i ∈ tr_ns A ∨ i = e.1 ∨ i ∈ tr_ns B := by
  unfold tr_rd
  split
  · rw [tr_ns_app, tr_ns_cons, List.mem_append, List.mem_cons]
  · rw [tr_ns_app, tr_ns_cons, List.mem_append, List.mem_cons, tr_ns_mr, tr_ns_mr, List.mem_reverse, List.mem_reverse]
theorem tr_rd_len {t : Int32} {A B : tr_L} {e : Nat × Nat} : (tr_rd t A e B).length = A.length + 1 + B.length := by
  unfold tr_rd
  split
  · rw [List.length_append, List.length_cons]; omega
  · rw [List.length_append, List.length_cons, tr_mr_len, tr_mr_len]; omega
theorem tr_nd_app {A B : tr_L} {e : Nat × Nat} (h : (tr_ns (A ++ e :: B)).Nodup) : (tr_ns A).Nodup ∧ (tr_ns B).Nodup ∧ e.1 ∉ tr_ns A ∧ e.1 ∉ tr_ns B ∧ ∀ i, i ∈ tr_ns A → i ∉ tr_ns B := by
  rw [tr_ns_app, tr_ns_cons, List.nodup_append, List.nodup_cons] at h
  obtain ⟨h1, ⟨h2, h3⟩, h4⟩ := h
  refine ⟨h1, h3, ?_, h2, ?_⟩
  · intro z
    exact h4 _ z _ List.mem_cons_self rfl
  · intro i z y
    exact h4 _ z _ (List.mem_cons_of_mem _ y) rfl
theorem tr_rd_nd {t : Int32} {A B : tr_L} {e : Nat × Nat} (h : (tr_ns (tr_rd t A e B)).Nodup) : (tr_ns A).Nodup ∧ (tr_ns B).Nodup ∧ e.1 ∉ tr_ns A ∧ e.1 ∉ tr_ns B ∧ ∀ i, i ∈ tr_ns A → i ∉ tr_ns B := by
  unfold tr_rd at h
  split at h
  · exact tr_nd_app h
  · have := tr_nd_app h
    simp only [tr_ns_mr, List.mem_reverse] at this
    obtain ⟨h1, h2, h3, h4, h5⟩ := this
    exact ⟨(List.reverse_perm _).nodup h1, (List.reverse_perm _).nodup h2, h3, h4, h5⟩
def tr_s (d : tr_N) (L : tr_L) : Prop := tr_sz d = nI L.length ∧ (∀ k, k < 3 → tr_os d k = nI (bp_op (k + 1) (tr_cs L))) ∧ (∀ k, k < 3 → tr_qs d k = nI (bp_cl (k + 1) (tr_cs L)))
def tr_ok (d : tr_N) (j c : Nat) (L : tr_L) : Prop := j < 60 ∧ c ≤ 6 ∧ tr_cd d = nI c ∧ (tr_tn d = 0 ∨ tr_tn d = 1) ∧ tr_s d L
def tr_T (D : Nat → tr_N) : Nat → Int32 → tr_L → Prop
  | 0 => fun x L => x = -1 ∧ L = []
  | n + 1 => fun x L => (x = -1 ∧ L = []) ∨ ∃ (j c : Nat) (A B : tr_L), x = nI j ∧ tr_ok (D j) j c L ∧ tr_T D n (tr_lf (D j)) A ∧ tr_T D n (tr_rg (D j)) B ∧ L = tr_rd (tr_tn (D j)) A (j, c) B
def tr_t (D : Nat → tr_N) (x : Int32) (L : tr_L) : Prop := ∃ n, tr_T D n x L
theorem tr_up {D : Nat → tr_N} : ∀ (n : Nat) {x : Int32} {L : tr_L}, tr_T D n x L → tr_T D (n + 1) x L := by
  intro n
  induction n with
  | zero =>
    intro x L h
    exact Or.inl h
  | succ n ih =>
    intro x L h
    rcases h with h | ⟨j, c, A, B, e, ok, hA, hB, eL⟩
    · exact Or.inl h
    · exact Or.inr ⟨j, c, A, B, e, ok, ih hA, ih hB, eL⟩
theorem tr_upd {D : Nat → tr_N} {n : Nat} {x : Int32} {L : tr_L} (h : tr_T D n x L) : ∀ d : Nat, tr_T D (n + d) x L := by
  intro d
  induction d with
  | zero => exact h
  | succ d ih => exact tr_up (n + d) ih
theorem tr_nil (D : Nat → tr_N) : tr_t D (-1) [] := ⟨0, rfl, rfl⟩
theorem tr_node {D : Nat → tr_N} {j c : Nat} {A B L : tr_L} (ok : tr_ok (D j) j c L) (hA : tr_t D (tr_lf (D j)) A) (hB : tr_t D (tr_rg (D j)) B) (e : L = tr_rd (tr_tn (D j)) A (j, c) B) : tr_t D (nI j) L := by
  obtain ⟨n, hA⟩ := hA
  obtain ⟨m, hB⟩ := hB
  refine ⟨(n + m) + 1, Or.inr ⟨j, c, A, B, rfl, ok, tr_upd hA m, ?_, e⟩⟩
  rw [Nat.add_comm]
  exact tr_upd hB n
theorem tr_inv {D : Nat → tr_N} {x : Int32} {L : tr_L} (h : tr_t D x L) : (x = -1 ∧ L = []) ∨ ∃ (j c : Nat) (A B : tr_L), x = nI j ∧ tr_ok (D j) j c L ∧ tr_t D (tr_lf (D j)) A ∧ tr_t D (tr_rg (D j)) B ∧ L = tr_rd (tr_tn (D j)) A (j, c) B := by
  obtain ⟨n, h⟩ := h
  cases n with
  | zero => exact Or.inl h
  | succ n =>
    rcases h with h | ⟨j, c, A, B, e, ok, hA, hB, eL⟩
    · exact Or.inl h
    · exact Or.inr ⟨j, c, A, B, e, ok, ⟨n, hA⟩, ⟨n, hB⟩, eL⟩
theorem tr_invj {D : Nat → tr_N} {j : Nat} {L : tr_L} (hj : j < 60) (h : tr_t D (nI j) L) : ∃ (c : Nat) (A B : tr_L), tr_ok (D j) j c L ∧ tr_t D (tr_lf (D j)) A ∧ tr_t D (tr_rg (D j)) B ∧ L = tr_rd (tr_tn (D j)) A (j, c) B := by
  rcases tr_inv h with ⟨e, _⟩ | ⟨i, c, A, B, e, ok, hA, hB, eL⟩
  · exact absurd e (nu_ne1 (by omega))
  · have hi : i < 60 := ok.1
    have e2 : j = i := nu_im e (by omega) (by omega)
    subst e2
    exact ⟨c, A, B, ok, hA, hB, eL⟩
/-- a pointer is -1 or one of its tree's nodes -/
theorem tr_ptr {D : Nat → tr_N} {x : Int32} {L : tr_L} (h : tr_t D x L) : (x = -1 ∧ L = []) ∨ ∃ j, j < 60 ∧ x = nI j ∧ j ∈ tr_ns L ∧ 0 < L.length := by
  rcases tr_inv h with e | ⟨i, c, A, B, e, ok, hA, hB, eL⟩
  · exact Or.inl e
  · refine Or.inr ⟨i, ok.1, e, ?_, ?_⟩
    · rw [eL, tr_rd_mem]; exact Or.inr (Or.inl rfl)
    · rw [eL, tr_rd_len]; omega
theorem tr_frT {D D' : Nat → tr_N} : ∀ (n : Nat) {x : Int32} {L : tr_L}, tr_T D n x L → (∀ i, i ∈ tr_ns L → D' i = D i) → tr_T D' n x L := by
  intro n
  induction n with
  | zero =>
    intro x L h _
    exact h
  | succ n ih =>
    intro x L h hf
    rcases h with h | ⟨j, c, A, B, e, ok, hA, hB, eL⟩
    · exact Or.inl h
    · have hj : D' j = D j := hf j (by rw [eL, tr_rd_mem]; exact Or.inr (Or.inl rfl))
      refine Or.inr ⟨j, c, A, B, e, by rw [hj]; exact ok, ?_, ?_, by rw [hj]; exact eL⟩
      · rw [hj]; exact ih hA (fun i hi => hf i (by rw [eL, tr_rd_mem]; exact Or.inl hi))
      · rw [hj]; exact ih hB (fun i hi => hf i (by rw [eL, tr_rd_mem]; exact Or.inr (Or.inr hi)))
theorem tr_fr {D D' : Nat → tr_N} {x : Int32} {L : tr_L} (h : tr_t D x L) (hf : ∀ i, i ∈ tr_ns L → D' i = D i) : tr_t D' x L := by
  obtain ⟨n, h⟩ := h
  exact ⟨n, tr_frT n h hf⟩
theorem tr_leT {D : Nat → tr_N} : ∀ (n : Nat) {x : Int32} {L : tr_L}, tr_T D n x L → (∀ e, e ∈ L → e.1 < 60 ∧ e.2 ≤ 6) := by
  intro n
  induction n with
  | zero =>
    intro x L h e he
    rw [h.2] at he
    exact absurd he (by simp)
  | succ n ih =>
    intro x L h e he
    rcases h with h | ⟨j, c, A, B, _, ok, hA, hB, eL⟩
    · rw [h.2] at he
      exact absurd he (by simp)
    · rw [eL] at he
      unfold tr_rd at he
      split at he
      · rw [List.mem_append, List.mem_cons] at he
        rcases he with he | he | he
        · exact ih hA e he
        · rw [he]; exact ⟨ok.1, ok.2.1⟩
        · exact ih hB e he
      · unfold tr_mr at he
        rw [List.mem_append, List.mem_cons, List.mem_reverse, List.mem_reverse, List.mem_map, List.mem_map] at he
        rcases he with ⟨a, ha, e2⟩ | he | ⟨a, ha, e2⟩
        · have := ih hA a ha
          rw [← e2]; exact ⟨this.1, bp_fl_le this.2⟩
        · rw [he]; exact ⟨ok.1, ok.2.1⟩
        · have := ih hB a ha
          rw [← e2]; exact ⟨this.1, bp_fl_le this.2⟩
theorem tr_le {D : Nat → tr_N} {x : Int32} {L : tr_L} (h : tr_t D x L) : ∀ e, e ∈ L → e.1 < 60 ∧ e.2 ≤ 6 := by
  obtain ⟨n, h⟩ := h
  exact tr_leT n h
theorem tr_le6 {D : Nat → tr_N} {x : Int32} {L : tr_L} (h : tr_t D x L) : ∀ c, c ∈ tr_cs L → c ≤ 6 := by
  intro c hc
  obtain ⟨e, he, rfl⟩ := List.mem_map.mp hc
  exact (tr_le h e he).2
/-- a settled node with its subtrees; its sums may be stale -/
def tr_o (D : Nat → tr_N) (j c : Nat) (A B : tr_L) : Prop := j < 60 ∧ c ≤ 6 ∧ tr_cd (D j) = nI c ∧ tr_tn (D j) = 0 ∧ tr_t D (tr_lf (D j)) A ∧ tr_t D (tr_rg (D j)) B
theorem tr_ot {D : Nat → tr_N} {j c : Nat} {A B : tr_L} (h : tr_o D j c A B) (hs : tr_s (D j) (A ++ (j, c) :: B)) : tr_t D (nI j) (A ++ (j, c) :: B) :=
  tr_node ⟨h.1, h.2.1, h.2.2.1, Or.inl h.2.2.2.1, hs⟩ h.2.2.2.2.1 h.2.2.2.2.2 (by rw [h.2.2.2.1, tr_rd_0])
theorem tr_ofr {D D' : Nat → tr_N} {j c : Nat} {A B : tr_L} (h : tr_o D j c A B) (hf : ∀ i, i ∈ tr_ns (A ++ (j, c) :: B) → D' i = D i) : tr_o D' j c A B := by
  have hm : ∀ i, i ∈ tr_ns A ∨ i = j ∨ i ∈ tr_ns B → D' i = D i := by
    intro i hi
    refine hf i ?_
    rw [tr_ns_app, tr_ns_cons, List.mem_append, List.mem_cons]
    exact hi
  have hj := hm j (Or.inr (Or.inl rfl))
  unfold tr_o
  rw [hj]
  exact ⟨h.1, h.2.1, h.2.2.1, h.2.2.2.1, tr_fr h.2.2.2.2.1 (fun i hi => hm i (Or.inl hi)), tr_fr h.2.2.2.2.2 (fun i hi => hm i (Or.inr (Or.inr hi)))⟩
/-- a node turned -/
theorem tr_turn {D D' : Nat → tr_N} {j : Nat} {L : tr_L} (hj : j < 60) (h : tr_t D (nI j) L) (hn : (tr_ns L).Nodup) (hf : ∀ i, i ≠ j → D' i = D i)
    (hc : ∀ c, c ≤ 6 → tr_cd (D j) = nI c → tr_cd (D' j) = nI (bp_fl c)) (hl : tr_lf (D' j) = tr_rg (D j)) (hr : tr_rg (D' j) = tr_lf (D j))
    (ht : tr_tn (D j) = 0 → tr_tn (D' j) = 1) (ht' : tr_tn (D j) = 1 → tr_tn (D' j) = 0) (hs : tr_sz (D' j) = tr_sz (D j))
    (ho : ∀ k, k < 3 → tr_os (D' j) k = tr_qs (D j) k) (hq : ∀ k, k < 3 → tr_qs (D' j) k = tr_os (D j) k) : tr_t D' (nI j) (tr_mr L) := by
  obtain ⟨c, A, B, ok, hA, hB, eL⟩ := tr_invj hj h
  obtain ⟨_, hc6, hcd, htn, hsz, hos, hqs⟩ := ok
  have hnd := hn
  rw [eL] at hnd
  obtain ⟨_, _, hjA, hjB, _⟩ := tr_rd_nd hnd
  have fA : tr_t D' (tr_lf (D j)) A := tr_fr hA (fun i hi => hf i (fun z => hjA (z ▸ hi)))
  have fB : tr_t D' (tr_rg (D j)) B := tr_fr hB (fun i hi => hf i (fun z => hjB (z ▸ hi)))
  have ok' : tr_ok (D' j) j (bp_fl c) (tr_mr L) := by
    refine ⟨hj, bp_fl_le hc6, hc c hc6 hcd, ?_, ?_, ?_, ?_⟩
    · rcases htn with z | z
      · exact Or.inr (ht z)
      · exact Or.inl (ht' z)
    · rw [hs, hsz, tr_mr_len]
    · intro k hk
      rw [ho k hk, hqs k hk, tr_cs_mr, bp_mop (by omega) (by omega)]
    · intro k hk
      rw [hq k hk, hos k hk, tr_cs_mr, bp_mcl (by omega) (by omega)]
  refine tr_node ok' (A := B) (B := A) (by rw [hl]; exact fB) (by rw [hr]; exact fA) ?_
  rcases htn with z | z
  · rw [ht z, tr_rd_1, eL, z, tr_rd_0, tr_mr_mid]
  · rw [ht' z, tr_rd_0, eL, z, tr_rd_1, tr_mr_mid, tr_mr_mr, tr_mr_mr]
/-! a place for a pointer: right of a node, left of a node -/
def tr_p : Option Nat → Int32
  | none => -1
  | some a => nI a
def tr_sr (D : Nat → tr_N) (s : Option Nat) (v : Int32) (i : Nat) : tr_N := if s = some i then ((D i).1, (D i).2.1, v, (D i).2.2.2) else D i
def tr_sl (D : Nat → tr_N) (s : Option Nat) (v : Int32) (i : Nat) : tr_N := if s = some i then ((D i).1, v, (D i).2.2) else D i
theorem tr_sr_n {D : Nat → tr_N} {s : Option Nat} {v : Int32} {i : Nat} (h : s ≠ some i) : tr_sr D s v i = D i := if_neg h
theorem tr_sl_n {D : Nat → tr_N} {s : Option Nat} {v : Int32} {i : Nat} (h : s ≠ some i) : tr_sl D s v i = D i := if_neg h
theorem tr_sr_s {D : Nat → tr_N} {v : Int32} {i : Nat} : tr_sr D (some i) v i = ((D i).1, (D i).2.1, v, (D i).2.2.2) := if_pos rfl
theorem tr_sl_s {D : Nat → tr_N} {v : Int32} {i : Nat} : tr_sl D (some i) v i = ((D i).1, v, (D i).2.2) := if_pos rfl
theorem tr_sr_c {D E : Nat → tr_N} {s : Option Nat} {v : Int32} {i : Nat} (h : D i = E i) : tr_sr D s v i = tr_sr E s v i := by
  unfold tr_sr
  rw [h]
theorem tr_sl_c {D E : Nat → tr_N} {s : Option Nat} {v : Int32} {i : Nat} (h : D i = E i) : tr_sl D s v i = tr_sl E s v i := by
  unfold tr_sl
  rw [h]
theorem tr_sr_0 {D : Nat → tr_N} {v : Int32} : tr_sr D none v = D := by
  funext i
  exact if_neg (fun z => nomatch z)
theorem tr_sl_0 {D : Nat → tr_N} {v : Int32} : tr_sl D none v = D := by
  funext i
  exact if_neg (fun z => nomatch z)
theorem tr_nd_r (c l r s t o q : Nat → Int32) (a : Nat) (v : Int32) : tr_nd c l (upd r a v) s t o q = tr_sr (tr_nd c l r s t o q) (some a) v := by
  funext i
  unfold tr_nd tr_sr upd
  by_cases h : i = a
  · subst h
    rw [if_pos rfl, if_pos rfl]
  · rw [if_neg h, if_neg (fun z => h (by injection z with z; exact z.symm))]
theorem tr_nd_l (c l r s t o q : Nat → Int32) (a : Nat) (v : Int32) : tr_nd c (upd l a v) r s t o q = tr_sl (tr_nd c l r s t o q) (some a) v := by
  funext i
  unfold tr_nd tr_sl upd
  by_cases h : i = a
  · subst h
    rw [if_pos rfl, if_pos rfl]
  · rw [if_neg h, if_neg (fun z => h (by injection z with z; exact z.symm))]
end
section
section
variable {fR fS fC fP fL fG fB fM fA : Int32} {cA lA rA sA tA kA oA qA eA pA : Nat → Int32}
/-! X's small methods -/
theorem wk_x {c l r s t o q c' l' r' s' t' o' q' : Nat → Int32} {i : Nat} (hc : c' i = c i) (hl : l' i = l i) (hr : r' i = r i) (hs : s' i = s i) (ht : t' i = t i) (ho : ∀ k, k < 3 → o' (3 * i + k) = o (3 * i + k)) (hq : ∀ k, k < 3 → q' (3 * i + k) = q (3 * i + k)) : tr_nd c' l' r' s' t' o' q' i = tr_nd c l r s t o q i := by
  have e1 : (fun k => if k < 3 then o' (3 * i + k) else (0 : Int32)) = (fun k => if k < 3 then o (3 * i + k) else (0 : Int32)) := by
    funext k
    by_cases h : k < 3
    · rw [if_pos h, if_pos h, ho k h]
    · rw [if_neg h, if_neg h]
  have e2 : (fun k => if k < 3 then q' (3 * i + k) else (0 : Int32)) = (fun k => if k < 3 then q (3 * i + k) else (0 : Int32)) := by
    funext k
    by_cases h : k < 3
    · rw [if_pos h, if_pos h, hq k h]
    · rw [if_neg h, if_neg h]
  unfold tr_nd
  rw [hc, hl, hr, hs, ht, e1, e2]
theorem wk_os {j k : Nat} (hk : k < 3) : tr_os ((tr_nd cA lA rA sA tA oA qA) j) k = oA (3 * j + k) := if_pos hk
theorem wk_qs {j k : Nat} (hk : k < 3) : tr_qs ((tr_nd cA lA rA sA tA oA qA) j) k = qA (3 * j + k) := if_pos hk
theorem wk_pb {D : Nat → tr_N} {x : Int32} {L : tr_L} (h : tr_t D x L) : vp_nar .byte x = x := by
  rcases tr_ptr h with ⟨e, _⟩ | ⟨j, hj, e, _⟩
  · rw [e]; exact nu_vm
  · rw [e]; exact nu_vb (by omega)
theorem wk_pbb {D : Nat → tr_N} {x : Int32} {L : tr_L} (h : tr_t D x L) : vp_nar .byte x.toInt8.toInt32 = x := by
  rcases tr_ptr h with ⟨e, _⟩ | ⟨j, hj, e, _⟩
  · rw [e]; exact nu_vmb
  · rw [e]; exact nu_vbb (by omega)
theorem wk_size {post : Int32 → Prop} {x : Int32} {L : tr_L} (h : tr_t (tr_nd cA lA rA sA tA oA qA) x L) (hp : post (nI L.length)) : wpX_sizeOf post (fR, fS, fC, fP, fL, fG, fB, fM, fA, cA, lA, rA, sA, tA, kA, oA, qA, eA, pA) x := by
  rcases tr_inv h with ⟨e, eL⟩ | ⟨j, c, A, B, e, ok, _, _, _⟩
  · subst e; subst eL
    exact br_f nu_m1le hp
  · subst e
    have hj := ok.1
    have e : sA j = nI L.length := ok.2.2.2.2.1
    refine br_t (nI_pos' (by omega)) (And.intro (vp_in_nI hj (by omega)) ?_)
    rw [nI_clamp (by omega), e]
    exact hp
theorem wk_opens {post : Int32 → Prop} {x : Int32} {L : tr_L} {k : Nat} (hk : k < 3) (h : tr_t (tr_nd cA lA rA sA tA oA qA) x L) (hp : post (nI (bp_op (k + 1) (tr_cs L)))) : wpX_opensOf post (fR, fS, fC, fP, fL, fG, fB, fM, fA, cA, lA, rA, sA, tA, kA, oA, qA, eA, pA) x (nI k) := by
  rcases tr_inv h with ⟨e, eL⟩ | ⟨j, c, A, B, e, ok, _, _, _⟩
  · subst e; subst eL
    exact br_f nu_m1le hp
  · subst e
    have hj := ok.1
    have e : oA (3 * j + k) = nI (bp_op (k + 1) (tr_cs L)) := (wk_os hk).symm.trans (ok.2.2.2.2.2.1 k hk)
    refine br_t (nI_pos' (by omega)) ?_
    rw [nu_3]
    refine And.intro (vp_in_nI (by omega) (by omega)) ?_
    rw [nI_clamp (by omega), e]
    exact hp
theorem wk_closes {post : Int32 → Prop} {x : Int32} {L : tr_L} {k : Nat} (hk : k < 3) (h : tr_t (tr_nd cA lA rA sA tA oA qA) x L) (hp : post (nI (bp_cl (k + 1) (tr_cs L)))) : wpX_closesOf post (fR, fS, fC, fP, fL, fG, fB, fM, fA, cA, lA, rA, sA, tA, kA, oA, qA, eA, pA) x (nI k) := by
  rcases tr_inv h with ⟨e, eL⟩ | ⟨j, c, A, B, e, ok, _, _, _⟩
  · subst e; subst eL
    exact br_f nu_m1le hp
  · subst e
    have hj := ok.1
    have e : qA (3 * j + k) = nI (bp_cl (k + 1) (tr_cs L)) := (wk_qs hk).symm.trans (ok.2.2.2.2.2.2 k hk)
    refine br_t (nI_pos' (by omega)) ?_
    rw [nu_3]
    refine And.intro (vp_in_nI (by omega) (by omega)) ?_
    rw [nI_clamp (by omega), e]
    exact hp
theorem wk_push {post : SX → Prop} {m j : Nat} (hm : m < 64) (hj : j < 60) (hp : post (fR, fS, fC, nI (m + 1), fL, fG, fB, fM, fA, cA, lA, rA, sA, tA, kA, oA, qA, eA, upd pA m (nI j))) : wpX_pushPath post (fR, fS, fC, nI m, fL, fG, fB, fM, fA, cA, lA, rA, sA, tA, kA, oA, qA, eA, pA) (nI j) := by
  refine And.intro (vp_in_nI hm (by omega)) (nm_r (e' := upd pA m (nI j)) ?_ (nm_r (nI_1 m) hp))
  rw [nI_clamp (by omega), nu_vbb (by omega)]
/-! turn -/
theorem wk_turn92 {post : SX → Prop} {j : Nat} (hj : j < 60) {o0 q0 : Nat → Int32} (hb : ∀ k, k < 3 → vp_nar .byte (o0 (3 * j + k)) = o0 (3 * j + k) ∧ vp_nar .byte (q0 (3 * j + k)) = q0 (3 * j + k))
    (hp : ∀ o' q' : Nat → Int32, (∀ p, o' p = if 3 * j ≤ p ∧ p < 3 * j + 3 then q0 p else o0 p) → (∀ p, q' p = if 3 * j ≤ p ∧ p < 3 * j + 3 then o0 p else q0 p) → post (fR, fS, fC, fP, fL, fG, fB, fM, fA, cA, lA, rA, sA, tA, kA, o', q', eA, pA)) :
    ∀ d i : Nat, i + d = 3 → ∀ oA qA : Nat → Int32, (∀ p, oA p = if 3 * j ≤ p ∧ p < 3 * j + i then q0 p else o0 p) → (∀ p, qA p = if 3 * j ≤ p ∧ p < 3 * j + i then o0 p else q0 p) → wX_turn_92 post (nI j) fR fS fC fP fL fG fB fM fA (d + 1) (nI i) cA lA rA sA tA kA oA qA eA pA := by
  intro d
  induction d with
  | zero =>
    intro i hi oA qA ho hq
    have h3 : i = 3 := by omega
    subst h3
    exact br_t (by decide : (3 : Int32) ≤ nI 3) (hp _ _ ho hq)
  | succ d ih =>
    intro i hi oA qA ho hq
    have h3 : ¬ (3 : Int32) ≤ nI i := nI_ge (b := 3) (by omega) (by decide)
    have ei : (3 * nI j + nI i).toNatClampNeg = 3 * j + i := by rw [nu_3, nI_clamp (by omega)]
    have hin : vp_in (3 * nI j + nI i) 180 := by rw [nu_3]; exact vp_in_nI (by omega) (by omega)
    have eo : oA (3 * j + i) = o0 (3 * j + i) := by rw [ho, if_neg (by omega)]
    have eq : qA (3 * j + i) = q0 (3 * j + i) := by rw [hq, if_neg (by omega)]
    refine br_f h3 (And.intro hin (nm_r (e' := o0 (3 * j + i)) (by rw [ei, eo]) (And.intro hin (And.intro hin (nm_r (e' := upd oA (3 * j + i) (q0 (3 * j + i))) (by rw [ei, eq, (hb i (by omega)).2]) (And.intro hin (nm_r (e' := upd qA (3 * j + i) (o0 (3 * j + i))) (by rw [ei, (hb i (by omega)).1]) (nm_r (e' := nI (i + 1)) (nI_1 i) (ih (i + 1) (by omega) _ _ ?_ ?_)))))))))
    · intro p
      by_cases hpe : p = 3 * j + i
      · subst hpe
        rw [pk_us, if_pos (by omega)]
      · rw [pk_un hpe, ho]
        by_cases hh : 3 * j ≤ p ∧ p < 3 * j + i
        · rw [if_pos hh, if_pos (by omega)]
        · rw [if_neg hh, if_neg (by omega)]
    · intro p
      by_cases hpe : p = 3 * j + i
      · subst hpe
        rw [pk_us, if_pos (by omega)]
      · rw [pk_un hpe, hq]
        by_cases hh : 3 * j ≤ p ∧ p < 3 * j + i
        · rw [if_pos hh, if_pos (by omega)]
        · rw [if_neg hh, if_neg (by omega)]
theorem wk_turn45 {post : SX → Prop} {j c : Nat} {z : Int32} (hj : j < 60) (hz : vp_nar .boolean z = z) (hc : c ≤ 6) (hcd : cA j = nI c) (hb : ∀ k, k < 3 → vp_nar .byte (oA (3 * j + k)) = oA (3 * j + k) ∧ vp_nar .byte (qA (3 * j + k)) = qA (3 * j + k))
    (hp : ∀ c' o' q' : Nat → Int32, c' j = nI (bp_fl c) → (∀ i, i ≠ j → c' i = cA i) → (∀ p, o' p = if 3 * j ≤ p ∧ p < 3 * j + 3 then qA p else oA p) → (∀ p, q' p = if 3 * j ≤ p ∧ p < 3 * j + 3 then oA p else qA p) → post (fR, fS, fC, fP, fL, fG, fB, fM, fA, c', lA, rA, sA, upd tA j z, kA, o', q', eA, pA)) :
    wX_turn_45 post (nI j) z (nI j) fR fS fC fP fL fG fB fM fA cA lA rA sA tA kA oA qA eA pA := by
  have hin : vp_in (nI j) 60 := vp_in_nI hj (by omega)
  have ej : (nI j).toNatClampNeg = j := nI_clamp (by omega)
  have h92 : ∀ c' : Nat → Int32, c' j = nI (bp_fl c) → (∀ i, i ≠ j → c' i = cA i) → ∃ n92, wX_turn_92 post (nI j) fR fS fC fP fL fG fB fM fA n92 0 c' lA rA sA (upd tA j z) kA oA qA eA pA := by
    intro c' h1 h2
    exact ⟨4, wk_turn92 hj hb (fun o' q' h3 h4 => hp c' o' q' h1 h2 h3 h4) 3 0 rfl oA qA (fun p => (if_neg (by omega)).symm) (fun p => (if_neg (by omega)).symm)⟩
  refine And.intro hin (nm_r (e' := upd tA j z) (by rw [ej, hz]) (And.intro hin ?_))
  rw [ej, hcd]
  refine pk_le c 3 (fun h3 => And.intro hin (pk_le c 0 (fun h0 => ?_) (fun h0 => ?_))) (fun h3 => ?_)
  · exact h92 cA (by rw [hcd, show c = 0 by omega]; rfl) (fun i _ => rfl)
  · refine And.intro hin (And.intro hin (nm_r (e' := upd cA j (nI (c + 3))) (by rw [nu_k3, nu_vbb (by omega)]) (h92 _ ?_ ?_)))
    · rw [pk_us, bp_fl_o h0 h3]
    · intro i hi; exact pk_un hi
  · refine And.intro hin (And.intro hin (nm_r (e' := upd cA j (nI (c - 3))) (by rw [show (3 : Int32) = nI 3 from rfl, pk_sub (by omega), nu_vbb (by omega)]) (h92 _ ?_ ?_)))
    · rw [pk_us, bp_fl_c h3 hc]
    · intro i hi; exact pk_un hi
theorem wk_bytes {x : Int32} {L : tr_L} {j : Nat} (hj : j < 60) (h : tr_t (tr_nd cA lA rA sA tA oA qA) (nI j) L) (hL : L.length ≤ 60) : ∀ k, k < 3 → vp_nar .byte (oA (3 * j + k)) = oA (3 * j + k) ∧ vp_nar .byte (qA (3 * j + k)) = qA (3 * j + k) := by
  intro k hk
  obtain ⟨c, A, B, ok, hA, hB, eL⟩ := tr_invj hj h
  have e1 : oA (3 * j + k) = nI (bp_op (k + 1) (tr_cs L)) := (wk_os hk).symm.trans (ok.2.2.2.2.2.1 k hk)
  have e2 : qA (3 * j + k) = nI (bp_cl (k + 1) (tr_cs L)) := (wk_qs hk).symm.trans (ok.2.2.2.2.2.2 k hk)
  have hl := bp_len (k + 1) (tr_cs L)
  rw [tr_cs_len] at hl
  rw [e1, e2]
  exact ⟨nu_vb (by omega), nu_vb (by omega)⟩
theorem wk_turn {post : SX → Prop} {j : Nat} {L : tr_L} (hj : j < 60) (h : tr_t (tr_nd cA lA rA sA tA oA qA) (nI j) L) (hn : (tr_ns L).Nodup) (hL : L.length ≤ 60)
    (hp : ∀ cA' lA' rA' sA' tA' oA' qA' : Nat → Int32, tr_t (tr_nd cA' lA' rA' sA' tA' oA' qA') (nI j) (tr_mr L) → (∀ i, i ≠ j → (tr_nd cA' lA' rA' sA' tA' oA' qA') i = (tr_nd cA lA rA sA tA oA qA) i) → post (fR, fS, fC, fP, fL, fG, fB, fM, fA, cA', lA', rA', sA', tA', kA, oA', qA', eA, pA)) : wpX_turn post (fR, fS, fC, fP, fL, fG, fB, fM, fA, cA, lA, rA, sA, tA, kA, oA, qA, eA, pA) (nI j) := by
  obtain ⟨c, A, B, ok, hA, hB, eL⟩ := tr_invj hj h
  have hin : vp_in (nI j) 60 := vp_in_nI hj (by omega)
  have ej : (nI j).toNatClampNeg = j := nI_clamp (by omega)
  have hcd : cA j = nI c := ok.2.2.1
  have hb := wk_bytes (x := 0) hj h hL
  have el : vp_nar .byte (lA j) = lA j := wk_pb hA
  have er : vp_nar .byte (rA j) = rA j := wk_pb hB
  have fin : ∀ z : Int32, (tA j = 0 → z = 1) → (tA j = 1 → z = 0) → ∀ c' o' q' : Nat → Int32, c' j = nI (bp_fl c) → (∀ i, i ≠ j → c' i = cA i) → (∀ p, o' p = if 3 * j ≤ p ∧ p < 3 * j + 3 then qA p else oA p) → (∀ p, q' p = if 3 * j ≤ p ∧ p < 3 * j + 3 then oA p else qA p) → post (fR, fS, fC, fP, fL, fG, fB, fM, fA, c', upd lA j (rA j), upd rA j (lA j), sA, upd tA j z, kA, o', q', eA, pA) := by
    intro z hz0 hz1 c' o' q' h1 h2 h3 h4
    have hf : ∀ i, i ≠ j → (tr_nd c' (upd lA j (rA j)) (upd rA j (lA j)) sA (upd tA j z) o' q') i = (tr_nd cA lA rA sA tA oA qA) i := by
      intro i hi
      refine wk_x (h2 i hi) (pk_un hi) (pk_un hi) rfl (pk_un hi) ?_ ?_
      · intro k hk
        rw [h3, if_neg (by omega)]
      · intro k hk
        rw [h4, if_neg (by omega)]
    refine hp _ _ _ _ _ _ _ (tr_turn hj h hn hf ?_ pk_us pk_us ?_ ?_ rfl ?_ ?_) hf
    · intro c2 h6 e2
      have e3 : nI c = nI c2 := hcd.symm.trans e2
      have e4 : c = c2 := nu_im e3 (by have := ok.2.1; omega) (by omega)
      rw [← e4]
      exact h1
    · intro e
      exact pk_us.trans (hz0 e)
    · intro e
      exact pk_us.trans (hz1 e)
    · intro k hk
      rw [wk_os hk, wk_qs hk, h3, if_pos (by omega)]
    · intro k hk
      rw [wk_os hk, wk_qs hk, h4, if_pos (by omega)]
  refine And.intro hin (nm_r (e' := lA j) (by rw [ej]) (And.intro hin (And.intro hin (nm_r (e' := upd lA j (rA j)) (by rw [ej, er]) (And.intro hin (nm_r (e' := upd rA j (lA j)) (by rw [ej, el]) (And.intro hin ?_)))))))
  rw [ej]
  have ht : tA j = 0 ∨ tA j = 1 := ok.2.2.2.1
  rcases ht with ht | ht
  · refine br_t ht (wk_turn45 hj nu_z1 ok.2.1 hcd hb (fin 1 (fun _ => rfl) ?_))
    intro e
    rw [ht] at e
    exact absurd e (by decide)
  · refine br_f (by rw [ht]; decide) (wk_turn45 hj nu_z0 ok.2.1 hcd hb (fin 0 ?_ (fun _ => rfl)))
    intro e
    rw [ht] at e
    exact absurd e (by decide)
/-! settle -/
theorem wk_s36 {post : SX → Prop} {j : Nat} {B : tr_L} (hj : j < 60) (hB : tr_t (tr_nd cA lA rA sA tA oA qA) (rA j) B) (hn : (tr_ns B).Nodup) (hL : B.length ≤ 60)
    (hp : ∀ cA' lA' rA' sA' tA' oA' qA' : Nat → Int32, tr_t (tr_nd cA' lA' rA' sA' tA' oA' qA') (rA j) (tr_mr B) → (∀ i, i ∉ tr_ns B → (tr_nd cA' lA' rA' sA' tA' oA' qA') i = (tr_nd cA lA rA sA tA oA qA) i) → post (fR, fS, fC, fP, fL, fG, fB, fM, fA, cA', lA', rA', sA', tA', kA, oA', qA', eA, pA)) : wX_settle_36 post (nI j) fR fS fC fP fL fG fB fM fA cA lA rA sA tA kA oA qA eA pA := by
  have hin : vp_in (nI j) 60 := vp_in_nI hj (by omega)
  have ej : (nI j).toNatClampNeg = j := nI_clamp (by omega)
  refine And.intro hin ?_
  rw [ej]
  rcases tr_ptr hB with ⟨e, eB⟩ | ⟨b, hb, e, hm, _⟩
  · refine br_t (by rw [e]; decide) (hp _ _ _ _ _ _ _ ?_ (fun _ _ => rfl))
    rw [eB] at hB ⊢
    exact hB
  · rw [e] at hB hp ⊢
    refine br_f (nI_pos (by omega)) (And.intro hin (wk_turn hb hB hn hL (fun cA' lA' rA' sA' tA' oA' qA' h1 h2 => hp _ _ _ _ _ _ _ h1 ?_)))
    intro i hi
    exact h2 i (fun z => hi (z ▸ hm))
theorem wk_settle {post : SX → Prop} {j : Nat} {L : tr_L} (hj : j < 60) (h : tr_t (tr_nd cA lA rA sA tA oA qA) (nI j) L) (hn : (tr_ns L).Nodup) (hL : L.length ≤ 60)
    (hp : ∀ (cA' lA' rA' sA' tA' oA' qA' : Nat → Int32) (A B : tr_L) (c : Nat), L = A ++ (j, c) :: B → tr_o (tr_nd cA' lA' rA' sA' tA' oA' qA') j c A B → tr_s ((tr_nd cA' lA' rA' sA' tA' oA' qA') j) L → (∀ i, i ∉ tr_ns L → (tr_nd cA' lA' rA' sA' tA' oA' qA') i = (tr_nd cA lA rA sA tA oA qA) i) → post (fR, fS, fC, fP, fL, fG, fB, fM, fA, cA', lA', rA', sA', tA', kA, oA', qA', eA, pA)) : wpX_settle post (fR, fS, fC, fP, fL, fG, fB, fM, fA, cA, lA, rA, sA, tA, kA, oA, qA, eA, pA) (nI j) := by
  obtain ⟨c, A, B, ok, hA, hB, eL⟩ := tr_invj hj h
  have hin : vp_in (nI j) 60 := vp_in_nI hj (by omega)
  have ej : (nI j).toNatClampNeg = j := nI_clamp (by omega)
  have ht : tA j = 0 ∨ tA j = 1 := ok.2.2.2.1
  have eL2 : L = tr_rd (tA j) A (j, c) B := eL
  have hnd := hn
  rw [eL] at hnd
  obtain ⟨nA, nB, hjA, hjB, hAB⟩ := tr_rd_nd hnd
  have hlen := congrArg List.length eL
  rw [tr_rd_len] at hlen
  refine And.intro hin ?_
  rw [ej]
  rcases ht with ht | ht
  · rw [ht, tr_rd_0] at eL2
    exact br_t ht (hp _ _ _ _ _ _ _ A B c eL2 ⟨hj, ok.2.1, ok.2.2.1, ht, hA, hB⟩ ok.2.2.2.2 (fun _ _ => rfl))
  · rw [ht, tr_rd_1] at eL2
    have mA : ∀ i, i ∈ tr_ns A → i ∈ tr_ns L := fun i hi => by rw [eL, tr_rd_mem]; exact Or.inl hi
    have mB : ∀ i, i ∈ tr_ns B → i ∈ tr_ns L := fun i hi => by rw [eL, tr_rd_mem]; exact Or.inr (Or.inr hi)
    have mj : j ∈ tr_ns L := by rw [eL, tr_rd_mem]; exact Or.inr (Or.inl rfl)
    have f1 : ∀ i, i ≠ j → (tr_nd cA lA rA sA (upd tA j 0) oA qA) i = (tr_nd cA lA rA sA tA oA qA) i := fun i hi => wk_x rfl rfl rfl rfl (pk_un hi) (fun _ _ => rfl) (fun _ _ => rfl)
    have hA1 : tr_t (tr_nd cA lA rA sA (upd tA j 0) oA qA) (lA j) A := tr_fr hA (fun i hi => f1 i (fun z => hjA (z ▸ hi)))
    have hB1 : tr_t (tr_nd cA lA rA sA (upd tA j 0) oA qA) (rA j) B := tr_fr hB (fun i hi => f1 i (fun z => hjB (z ▸ hi)))
    have key : ∀ cA' lA' rA' sA' tA' oA' qA' : Nat → Int32, tr_t (tr_nd cA' lA' rA' sA' tA' oA' qA') (lA j) (tr_mr A) → (∀ i, i ∉ tr_ns A → (tr_nd cA' lA' rA' sA' tA' oA' qA') i = (tr_nd cA lA rA sA (upd tA j 0) oA qA) i) → wX_settle_36 post (nI j) fR fS fC fP fL fG fB fM fA cA' lA' rA' sA' tA' kA oA' qA' eA pA := by
      intro cA' lA' rA' sA' tA' oA' qA' h1 h2
      have e2 := h2 j hjA
      have er : rA' j = rA j := congrArg tr_rg e2
      have hB2 : tr_t (tr_nd cA' lA' rA' sA' tA' oA' qA') (rA' j) B := by
        rw [er]
        exact tr_fr hB1 (fun i hi => h2 i (fun z => hAB i z hi))
      refine wk_s36 hj hB2 nB (by omega) (fun cA'' lA'' rA'' sA'' tA'' oA'' qA'' h3 h4 => ?_)
      have e3 : (tr_nd cA'' lA'' rA'' sA'' tA'' oA'' qA'') j = (tr_nd cA lA rA sA (upd tA j 0) oA qA) j := (h4 j hjB).trans e2
      have ec : cA'' j = cA j := congrArg tr_cd e3
      have el : lA'' j = lA j := congrArg tr_lf e3
      have er2 : rA'' j = rA j := congrArg tr_rg e3
      have et : tA'' j = upd tA j 0 j := congrArg tr_tn e3
      refine hp _ _ _ _ _ _ _ (tr_mr A) (tr_mr B) c eL2 ⟨hj, ok.2.1, ec.trans ok.2.2.1, et.trans pk_us, ?_, ?_⟩ ?_ ?_
      · show tr_t (tr_nd cA'' lA'' rA'' sA'' tA'' oA'' qA'') (lA'' j) (tr_mr A)
        rw [el]
        refine tr_fr h1 (fun i hi => h4 i (fun z => hAB i ?_ z))
        rw [tr_ns_mr, List.mem_reverse] at hi
        exact hi
      · show tr_t (tr_nd cA'' lA'' rA'' sA'' tA'' oA'' qA'') (rA'' j) (tr_mr B)
        rw [er2, ← er]
        exact h3
      · rw [e3]
        exact ok.2.2.2.2
      · intro i hi
        rw [h4 i (fun z => hi (mB i z)), h2 i (fun z => hi (mA i z)), f1 i (fun z => hi (z ▸ mj))]
    refine br_f (by rw [ht]; decide) (And.intro hin (nm_r (e' := upd tA j 0) (by rw [nu_z0]) (And.intro hin ?_)))
    rcases tr_ptr hA1 with ⟨e, eA⟩ | ⟨a, ha, e, hm, _⟩
    · refine br_t (by rw [e]; decide) (key _ _ _ _ _ _ _ ?_ (fun _ _ => rfl))
      rw [eA] at hA1 ⊢
      exact hA1
    · rw [e] at hA1 key ⊢
      refine br_f (nI_pos (by omega)) (And.intro hin (wk_turn ha hA1 nA (by omega) (fun cA' lA' rA' sA' tA' oA' qA' h1 h2 => key _ _ _ _ _ _ _ h1 ?_)))
      intro i hi
      exact h2 i (fun z => hi (z ▸ hm))
end
end
section
section
variable {fR fS fC fP fL fG fB fM fA : Int32} {cA lA rA sA tA kA oA qA eA pA : Nat → Int32}
/-! refresh -/
theorem wk_r136 {post : SX → Prop} {J : Int32 → (Nat → Int32) → (Nat → Int32) → (Nat → Int32) → (Nat → Int32) → (Nat → Int32) → (Nat → Int32) → (Nat → Int32) → (Nat → Int32) → (Nat → Int32) → (Nat → Int32) → Prop} {x2 x3 : Int32} {j i a b e f z : Nat} (hj : j < 60) (hi : i < 3) (hza : z ≤ a) (hzf : z ≤ f) (h1 : a - z + e < 128) (h2 : b + f - z < 128)
    (hp : J (nI (i + 1)) cA lA rA sA tA kA (upd oA (3 * j + i) (nI (a - z + e))) (upd qA (3 * j + i) (nI (b + f - z))) eA pA) : wX_refresh_136 post J (nI j) x2 x3 (nI i) (nI a) (nI b) (nI e) (nI f) (nI z) fR fS fC fP fL fG fB fM fA cA lA rA sA tA kA oA qA eA pA := by
  have ei : (3 * nI j + nI i).toNatClampNeg = 3 * j + i := by rw [nu_3, nI_clamp (by omega)]
  have hin : vp_in (3 * nI j + nI i) 180 := by rw [nu_3]; exact vp_in_nI (by omega) (by omega)
  refine And.intro hin (nm_r (e' := upd oA (3 * j + i) (nI (a - z + e))) ?_ (And.intro hin (nm_r (e' := upd qA (3 * j + i) (nI (b + f - z))) ?_ (nm_r (e' := nI (i + 1)) (nI_1 i) hp))))
  · rw [ei, pk_sub hza, nI_add, nu_vbb h1]
  · rw [ei, nI_add, pk_sub (by omega), nu_vbb h2]
theorem wk_r104 {post : SX → Prop} {J : Int32 → (Nat → Int32) → (Nat → Int32) → (Nat → Int32) → (Nat → Int32) → (Nat → Int32) → (Nat → Int32) → (Nat → Int32) → (Nat → Int32) → (Nat → Int32) → (Nat → Int32) → Prop} {x2 x3 : Int32} {j i : Nat} {X : List Nat} {B : tr_L} (hj : j < 60) (hi : i < 3) (hB : tr_t (tr_nd cA lA rA sA tA oA qA) x3 B) (hl : X.length + B.length ≤ 60)
    (hp : J (nI (i + 1)) cA lA rA sA tA kA (upd oA (3 * j + i) (nI (bp_op (i + 1) (X ++ tr_cs B)))) (upd qA (3 * j + i) (nI (bp_cl (i + 1) (X ++ tr_cs B)))) eA pA) : wX_refresh_104 post J (nI j) x2 x3 (nI i) (nI (bp_op (i + 1) X)) (nI (bp_cl (i + 1) X)) fR fS fC fP fL fG fB fM fA cA lA rA sA tA kA oA qA eA pA := by
  have l1 := bp_len (i + 1) X
  have l2 := bp_len (i + 1) (tr_cs B)
  rw [tr_cs_len] at l2
  refine wk_opens hi hB (wk_closes hi hB ?_)
  rw [bp_op_app, bp_cl_app] at hp
  refine pk_le _ _ (fun h => wk_r136 hj hi h (Nat.le_refl _) (by omega) (by omega) ?_) (fun h => wk_r136 hj hi (Nat.le_refl _) (Nat.le_of_lt h) (by omega) (by omega) ?_)
  · rw [show bp_op (i + 1) X - bp_cl (i + 1) (tr_cs B) + bp_op (i + 1) (tr_cs B) = bp_op (i + 1) (tr_cs B) + (bp_op (i + 1) X - bp_cl (i + 1) (tr_cs B)) by omega,
      show bp_cl (i + 1) X + bp_cl (i + 1) (tr_cs B) - bp_cl (i + 1) (tr_cs B) = bp_cl (i + 1) X + (bp_cl (i + 1) (tr_cs B) - bp_op (i + 1) X) by omega]
    exact hp
  · rw [show bp_op (i + 1) X - bp_op (i + 1) X + bp_op (i + 1) (tr_cs B) = bp_op (i + 1) (tr_cs B) + (bp_op (i + 1) X - bp_cl (i + 1) (tr_cs B)) by omega,
      show bp_cl (i + 1) X + bp_cl (i + 1) (tr_cs B) - bp_op (i + 1) X = bp_cl (i + 1) X + (bp_cl (i + 1) (tr_cs B) - bp_op (i + 1) X) by omega]
    exact hp
/-- the node's own code behind the left subtree's, whatever way the code took -/
theorem wk_r77 {post : SX → Prop} {J : Int32 → (Nat → Int32) → (Nat → Int32) → (Nat → Int32) → (Nat → Int32) → (Nat → Int32) → (Nat → Int32) → (Nat → Int32) → (Nat → Int32) → (Nat → Int32) → (Nat → Int32) → Prop} {x2 x3 : Int32} {j i c : Nat} {X : List Nat} {B : tr_L} (hj : j < 60) (hi : i < 3) (hc : c ≤ 6) (hcd : cA j = nI c) (hB : tr_t (tr_nd cA lA rA sA tA oA qA) x3 B) (hl : X.length + 1 + B.length ≤ 60)
    (hp : J (nI (i + 1)) cA lA rA sA tA kA (upd oA (3 * j + i) (nI (bp_op (i + 1) (X ++ c :: tr_cs B)))) (upd qA (3 * j + i) (nI (bp_cl (i + 1) (X ++ c :: tr_cs B)))) eA pA) :
    ((cA (nI j).toNatClampNeg = nI i + 1 → ∀ y, y = nI (bp_op (i + 1) X) + 1 → wX_refresh_77 post J (nI j) x2 x3 (nI i) y (nI (bp_cl (i + 1) X)) fR fS fC fP fL fG fB fM fA cA lA rA sA tA kA oA qA eA pA) ∧ (¬ cA (nI j).toNatClampNeg = nI i + 1 → wX_refresh_77 post J (nI j) x2 x3 (nI i) (nI (bp_op (i + 1) X)) (nI (bp_cl (i + 1) X)) fR fS fC fP fL fG fB fM fA cA lA rA sA tA kA oA qA eA pA)) := by
  have hin : vp_in (nI j) 60 := vp_in_nI hj (by omega)
  have ej : (nI j).toNatClampNeg = j := nI_clamp (by omega)
  have l1 := bp_len (i + 1) X
  have hx : X ++ c :: tr_cs B = (X ++ [c]) ++ tr_cs B := by rw [List.append_assoc]; rfl
  rw [hx] at hp
  have hl2 : (X ++ [c]).length + B.length ≤ 60 := by
    rw [List.length_append, List.length_singleton]; omega
  have K : wX_refresh_104 post J (nI j) x2 x3 (nI i) (nI (bp_op (i + 1) (X ++ [c]))) (nI (bp_cl (i + 1) (X ++ [c]))) fR fS fC fP fL fG fB fM fA cA lA rA sA tA kA oA qA eA pA := wk_r104 hj hi hB hl2 hp
  rw [bp_op_app, bp_cl_app, bp_op_1, bp_cl_1] at K
  rw [ej, hcd, nI_1]
  refine pk_eq c (i + 1) (fun h => nm_r (nI_1 _) ?_) (fun h => ?_)
  · refine And.intro hin ?_
    rw [ej, hcd, nu_k4]
    refine br_f (by rw [nI_eq (by omega) (by omega)]; omega) ?_
    rw [if_pos h, if_neg (by omega), Nat.sub_zero, Nat.add_comm, Nat.zero_sub, Nat.add_zero] at K
    exact K
  · refine And.intro hin ?_
    rw [ej, hcd, nu_k4]
    refine pk_eq c (i + 4) (fun h4 => ?_) (fun h4 => ?_)
    · rw [if_neg h, if_pos (by omega), Nat.zero_add] at K
      refine pk_le (bp_op (i + 1) X) 0 (fun h0 => nm_r (nI_1 _) ?_) (fun h0 => nm_r (nu_m h0) ?_)
      · rw [show bp_op (i + 1) X - 1 = bp_op (i + 1) X by omega, show bp_cl (i + 1) X + (1 - bp_op (i + 1) X) = bp_cl (i + 1) X + 1 by omega] at K
        exact K
      · rw [show bp_cl (i + 1) X + (1 - bp_op (i + 1) X) = bp_cl (i + 1) X by omega] at K
        exact K
    · rw [if_neg h, if_neg (by omega), Nat.zero_add, Nat.sub_zero, Nat.zero_sub, Nat.add_zero] at K
      exact K
theorem wk_r37 {post : SX → Prop} {j c : Nat} {x2 x3 : Int32} {A B : tr_L} {o0 q0 : Nat → Int32} (hj : j < 60) (hc : c ≤ 6) (hcd : cA j = nI c) (hl : A.length + 1 + B.length ≤ 60)
    (hA : ∀ o' q' : Nat → Int32, (∀ p, ¬ (3 * j ≤ p ∧ p < 3 * j + 3) → o' p = o0 p) → (∀ p, ¬ (3 * j ≤ p ∧ p < 3 * j + 3) → q' p = q0 p) → tr_t (tr_nd cA lA rA sA tA o' q') x2 A)
    (hB : ∀ o' q' : Nat → Int32, (∀ p, ¬ (3 * j ≤ p ∧ p < 3 * j + 3) → o' p = o0 p) → (∀ p, ¬ (3 * j ≤ p ∧ p < 3 * j + 3) → q' p = q0 p) → tr_t (tr_nd cA lA rA sA tA o' q') x3 B)
    (hp : ∀ o' q' : Nat → Int32, (∀ p, ¬ (3 * j ≤ p ∧ p < 3 * j + 3) → o' p = o0 p) → (∀ p, ¬ (3 * j ≤ p ∧ p < 3 * j + 3) → q' p = q0 p) → (∀ k, k < 3 → o' (3 * j + k) = nI (bp_op (k + 1) (tr_cs (A ++ (j, c) :: B)))) → (∀ k, k < 3 → q' (3 * j + k) = nI (bp_cl (k + 1) (tr_cs (A ++ (j, c) :: B)))) → post (fR, fS, fC, fP, fL, fG, fB, fM, fA, cA, lA, rA, sA, tA, kA, o', q', eA, pA)) :
    ∀ d i : Nat, i + d = 3 → ∀ oA qA : Nat → Int32, (∀ p, ¬ (3 * j ≤ p ∧ p < 3 * j + 3) → oA p = o0 p) → (∀ p, ¬ (3 * j ≤ p ∧ p < 3 * j + 3) → qA p = q0 p) → (∀ k, k < i → oA (3 * j + k) = nI (bp_op (k + 1) (tr_cs (A ++ (j, c) :: B)))) → (∀ k, k < i → qA (3 * j + k) = nI (bp_cl (k + 1) (tr_cs (A ++ (j, c) :: B)))) → wX_refresh_37 post (nI j) x2 x3 fR fS fC fP fL fG fB fM fA (d + 1) (nI i) cA lA rA sA tA kA oA qA eA pA := by
  intro d
  induction d with
  | zero =>
    intro i hi oA qA ho hq ho2 hq2
    have h3 : i = 3 := by omega
    subst h3
    exact br_t (by decide : (3 : Int32) ≤ nI 3) (hp _ _ ho hq ho2 hq2)
  | succ d ih =>
    intro i hi oA qA ho hq ho2 hq2
    have h3 : ¬ (3 : Int32) ≤ nI i := nI_ge (b := 3) (by omega) (by decide)
    refine br_f h3 (wk_opens (by omega) (hA _ _ ho hq) (wk_closes (by omega) (hA _ _ ho hq) (And.intro (vp_in_nI hj (by omega)) (wk_r77 hj (by omega) hc hcd (hB _ _ ho hq) (by rw [tr_cs_len]; exact hl) ?_))))
    refine ih (i + 1) (by omega) _ _ ?_ ?_ ?_ ?_
    · intro p hp
      rw [pk_un (by omega), ho p hp]
    · intro p hp
      rw [pk_un (by omega), hq p hp]
    · intro k hk
      by_cases hki : k = i
      · rw [hki, pk_us, tr_cs_app, tr_cs_cons]
      · rw [pk_un (by omega), ho2 k (by omega)]
    · intro k hk
      by_cases hki : k = i
      · rw [hki, pk_us, tr_cs_app, tr_cs_cons]
      · rw [pk_un (by omega), hq2 k (by omega)]
theorem wk_refresh {post : SX → Prop} {j c : Nat} {A B : tr_L} (h : tr_o (tr_nd cA lA rA sA tA oA qA) j c A B) (hn : (tr_ns (A ++ (j, c) :: B)).Nodup) (hL : (A ++ (j, c) :: B).length ≤ 60)
    (hp : ∀ cA' lA' rA' sA' tA' oA' qA' : Nat → Int32, tr_t (tr_nd cA' lA' rA' sA' tA' oA' qA') (nI j) (A ++ (j, c) :: B) → (∀ i, i ≠ j → (tr_nd cA' lA' rA' sA' tA' oA' qA') i = (tr_nd cA lA rA sA tA oA qA) i) → post (fR, fS, fC, fP, fL, fG, fB, fM, fA, cA', lA', rA', sA', tA', kA, oA', qA', eA, pA)) : wpX_refresh post (fR, fS, fC, fP, fL, fG, fB, fM, fA, cA, lA, rA, sA, tA, kA, oA, qA, eA, pA) (nI j) := by
  obtain ⟨hj, hc6, hcd, ht, hA, hB⟩ := h
  obtain ⟨nA, nB, hjA, hjB, hAB⟩ := tr_nd_app hn
  have hlen : A.length + 1 + B.length ≤ 60 := by
    rw [List.length_append, List.length_cons] at hL; omega
  have hlen2 : (A ++ (j, c) :: B).length = A.length + 1 + B.length := by
    rw [List.length_append, List.length_cons]; omega
  have hin : vp_in (nI j) 60 := vp_in_nI hj (by omega)
  have ej : (nI j).toNatClampNeg = j := nI_clamp (by omega)
  have fr : ∀ o' q' : Nat → Int32, (∀ p, ¬ (3 * j ≤ p ∧ p < 3 * j + 3) → o' p = oA p) → (∀ p, ¬ (3 * j ≤ p ∧ p < 3 * j + 3) → q' p = qA p) → ∀ i, i ≠ j → (tr_nd cA lA rA (upd sA j (nI (A.length + 1 + B.length))) tA o' q') i = (tr_nd cA lA rA sA tA oA qA) i := by
    intro o' q' h1 h2 i hi
    exact wk_x rfl rfl rfl (pk_un hi) rfl (fun k hk => h1 _ (by omega)) (fun k hk => h2 _ (by omega))
  refine And.intro hin (nm_r (e' := lA j) (by rw [ej]) (And.intro hin (nm_r (e' := rA j) (by rw [ej]) (wk_size hA (wk_size hB (And.intro hin (nm_r (e' := upd sA j (nI (A.length + 1 + B.length))) ?_ ⟨4, ?_⟩)))))))
  · rw [ej, nI_1, nI_add, nu_vbb (by omega)]
  · refine wk_r37 (o0 := oA) (q0 := qA) hj hc6 hcd hlen ?_ ?_ ?_ 3 0 rfl oA qA (fun _ _ => rfl) (fun _ _ => rfl) (fun k hk => absurd hk (Nat.not_lt_zero k)) (fun k hk => absurd hk (Nat.not_lt_zero k))
    · intro o' q' h1 h2
      exact tr_fr hA (fun i hi => fr o' q' h1 h2 i (fun z => hjA (z ▸ hi)))
    · intro o' q' h1 h2
      exact tr_fr hB (fun i hi => fr o' q' h1 h2 i (fun z => hjB (z ▸ hi)))
    · intro o' q' h1 h2 h3 h4
      refine hp _ _ _ _ _ _ _ (tr_ot ⟨hj, hc6, hcd, ht, ?_, ?_⟩ ⟨?_, ?_, ?_⟩) (fr o' q' h1 h2)
      · exact tr_fr hA (fun i hi => fr o' q' h1 h2 i (fun z => hjA (z ▸ hi)))
      · exact tr_fr hB (fun i hi => fr o' q' h1 h2 i (fun z => hjB (z ▸ hi)))
      · rw [hlen2]; exact pk_us
      · intro k hk
        rw [wk_os hk]; exact h3 k hk
      · intro k hk
        rw [wk_qs hk]; exact h4 k hk
end
end
section
section
variable {fR fS fC fP fL fG fB fM fA : Int32} {cA lA rA sA tA kA oA qA eA pA : Nat → Int32}
/-! cut: the loop and the refreshing of its path as one recursion -/
def tr_k (o : Option Nat) (a b : Int32) : Int32 := match o with
  | none => a
  | some _ => b
theorem tr_slr {D : Nat → tr_N} {s t : Option Nat} {u v : Int32} {i : Nat} : tr_sr (tr_sl D t v) s u i = tr_sl (tr_sr D s u) t v i := by
  unfold tr_sr tr_sl
  by_cases h1 : s = some i <;> by_cases h2 : t = some i <;> simp [h1, h2]
theorem nu_pm (m : Nat) : nI m + (-1) = nI m - 1 := (Int32.sub_eq_add_neg _ _).symm
theorem wk_rp {post : SX → Prop} {m j c n : Nat} {A B : tr_L} (hm : m < 64) (hpa : pA m = nI j) (h : tr_o (tr_nd cA lA rA sA tA oA qA) j c A B) (hn : (tr_ns (A ++ (j, c) :: B)).Nodup) (hL : (A ++ (j, c) :: B).length ≤ 60)
    (hp : ∀ cA' lA' rA' sA' tA' oA' qA' : Nat → Int32, tr_t (tr_nd cA' lA' rA' sA' tA' oA' qA') (nI j) (A ++ (j, c) :: B) → (∀ i, i ≠ j → (tr_nd cA' lA' rA' sA' tA' oA' qA') i = (tr_nd cA lA rA sA tA oA qA) i) → wX_refreshPath_7 post n (nI m - 1) fR fS fC fP fL fG fB fM fA cA' lA' rA' sA' tA' kA oA' qA' eA pA) : wX_refreshPath_7 post (n + 1) (nI m) fR fS fC fP fL fG fB fM fA cA lA rA sA tA kA oA qA eA pA := by
  refine br_f (nI_pos (by omega)) (And.intro (vp_in_nI hm (by omega)) ?_)
  rw [nI_clamp (by omega), hpa]
  refine wk_refresh h hn hL (fun cA' lA' rA' sA' tA' oA' qA' h1 h2 => ?_)
  exact nm_r (nu_pm m) (hp _ _ _ _ _ _ _ h1 h2)
theorem wk_c177 {post : SX → Prop} {m : Nat} (h : wX_refreshPath_7 post (m + 1) (nI m - 1) fR fS fC (nI m) fL fG fB fM fA cA lA rA sA tA kA oA qA eA pA) : wX_cut_177 post fR fS fC (nI m) fL fG fB fM fA cA lA rA sA tA kA oA qA eA pA :=
  nm_e (e := nI m - 1) ⟨m + 1, h⟩
theorem wk_c151 {post : SX → Prop} {lt rt : Option Nat} {m : Nat} (h1 : ∀ a, lt = some a → a < 60) (h2 : ∀ a, rt = some a → a < 60)
    (hp : ∀ lA' rA' : Nat → Int32, (tr_nd cA lA' rA' sA tA oA qA) = tr_sl (tr_sr (tr_nd cA lA rA sA tA oA qA) lt (-1)) rt (-1) → wX_refreshPath_7 post (m + 1) (nI m - 1) fR fS fC (nI m) fL fG fB fM fA cA lA' rA' sA tA kA oA qA eA pA) : wX_cut_151 post (tr_p lt) (tr_p rt) fR fS fC (nI m) fL fG fB fM fA cA lA rA sA tA kA oA qA eA pA := by
  have k164 : ∀ rA' : Nat → Int32, (tr_nd cA lA rA' sA tA oA qA) = tr_sr (tr_nd cA lA rA sA tA oA qA) lt (-1) → wX_cut_164 post (tr_p rt) fR fS fC (nI m) fL fG fB fM fA cA lA rA' sA tA kA oA qA eA pA := by
    intro rA' e
    cases rt with
    | none => exact br_t nu_m1lt (wk_c177 (hp lA rA' (by rw [tr_sl_0]; exact e)))
    | some b =>
      have hb := h2 b rfl
      refine br_f (nI_pos (n := b) (by omega)) (And.intro (vp_in_nI hb (by omega)) (nm_r (e' := upd lA b (-1)) ?_ (wk_c177 (hp _ rA' ?_))))
      · show upd lA (nI b).toNatClampNeg _ = _
        rw [nI_clamp (by omega), nu_vm]
      · rw [tr_nd_l, e]
  cases lt with
  | none => exact br_t nu_m1lt (k164 rA (by rw [tr_sr_0]))
  | some a =>
    have ha := h1 a rfl
    refine br_f (nI_pos (n := a) (by omega)) (And.intro (vp_in_nI ha (by omega)) (nm_r (e' := upd rA a (-1)) ?_ (k164 _ ?_)))
    · show upd rA (nI a).toNatClampNeg _ = _
      rw [nI_clamp (by omega), nu_vm]
    · rw [tr_nd_r]
theorem wk_cut29 {post : SX → Prop} : ∀ (N : Nat) (L : tr_L), L.length ≤ N → ∀ (lt rt : Option Nat) (x : Int32) (r st m : Nat) (fL fG : Int32) (cA lA rA sA tA oA qA pA : Nat → Int32),
    tr_t (tr_nd cA lA rA sA tA oA qA) x L → (tr_ns L).Nodup → r ≤ L.length → st + L.length ≤ 60 → m + L.length ≤ 60 →
    (∀ a, lt = some a → a < 60 ∧ a ∉ tr_ns L) → (∀ a, rt = some a → a < 60 ∧ a ∉ tr_ns L) → tr_k lt (-1) fL = fL → tr_k rt (-1) fG = fG →
    (∀ (xl xr fL' fG' fP' : Int32) (cA' lA' rA' sA' tA' oA' qA' pA' : Nat → Int32), tr_t (tr_nd cA' lA' rA' sA' tA' oA' qA') xl (L.take r) → tr_t (tr_nd cA' lA' rA' sA' tA' oA' qA') xr (L.drop r) →
      (∀ i, i ∉ tr_ns L → (tr_nd cA' lA' rA' sA' tA' oA' qA') i = tr_sl (tr_sr (tr_nd cA lA rA sA tA oA qA) lt xl) rt xr i) → fL' = tr_k lt xl fL → fG' = tr_k rt xr fG → (∀ i, i < m → pA' i = pA i) →
      ∀ n, m < n → wX_refreshPath_7 post n (nI m - 1) fR fS fC fP' fL' fG' fB fM fA cA' lA' rA' sA' tA' kA oA' qA' eA pA') →
    ∀ n, N < n → wX_cut_29 post n x (nI r) (tr_p lt) (tr_p rt) (nI st) fR fS fC (nI m) fL fG fB fM fA cA lA rA sA tA kA oA qA eA pA := by
  have base : ∀ (lt rt : Option Nat) (r st m n : Nat) (fL fG : Int32) (cA lA rA sA tA oA qA pA : Nat → Int32), r ≤ 0 →
      (∀ a, lt = some a → a < 60 ∧ a ∉ tr_ns []) → (∀ a, rt = some a → a < 60 ∧ a ∉ tr_ns []) →
      (∀ (xl xr fL' fG' fP' : Int32) (cA' lA' rA' sA' tA' oA' qA' pA' : Nat → Int32), tr_t (tr_nd cA' lA' rA' sA' tA' oA' qA') xl (List.take r []) → tr_t (tr_nd cA' lA' rA' sA' tA' oA' qA') xr (List.drop r []) →
        (∀ i, i ∉ tr_ns [] → (tr_nd cA' lA' rA' sA' tA' oA' qA') i = tr_sl (tr_sr (tr_nd cA lA rA sA tA oA qA) lt xl) rt xr i) → fL' = tr_k lt xl fL → fG' = tr_k rt xr fG → (∀ i, i < m → pA' i = pA i) →
        ∀ n, m < n → wX_refreshPath_7 post n (nI m - 1) fR fS fC fP' fL' fG' fB fM fA cA' lA' rA' sA' tA' kA oA' qA' eA pA') →
      ∀ x7 : Int32, tr_k lt (-1) fL = fL → tr_k rt (-1) fG = fG → wX_cut_29 post (n + 1) (-1) (nI r) (tr_p lt) (tr_p rt) x7 fR fS fC (nI m) fL fG fB fM fA cA lA rA sA tA kA oA qA eA pA := by
    intro lt rt r st m n fL fG cA lA rA sA tA oA qA pA hr h1 h2 hp x7 e1 e2
    have H : wX_cut_151 post (tr_p lt) (tr_p rt) fR fS fC (nI m) fL fG fB fM fA cA lA rA sA tA kA oA qA eA pA := by
      refine wk_c151 (fun a e => (h1 a e).1) (fun a e => (h2 a e).1) (fun lA' rA' e => ?_)
      refine hp (-1) (-1) fL fG (nI m) _ _ _ _ _ _ _ pA ?_ ?_ ?_ e1.symm e2.symm (fun _ _ => rfl) (m + 1) (Nat.lt_succ_self m)
      · rw [List.take_nil]; exact tr_nil _
      · rw [List.drop_nil]; exact tr_nil _
      · intro i _
        rw [e]
    exact br_c (fun _ => H) (fun _ => br_t nu_m1lt H)
  intro N
  induction N with
  | zero =>
    intro L hL lt rt x r st m fL fG cA lA rA sA tA oA qA pA h hn hr hst hm h1 h2 e1 e2 hp n hN
    obtain ⟨n, rfl⟩ : ∃ k, n = k + 1 := ⟨n - 1, by omega⟩
    rcases tr_ptr h with ⟨e, eL⟩ | ⟨j, hj, e, hm2, hl⟩
    · subst e; subst eL
      exact base lt rt r st m n fL fG _ _ _ _ _ _ _ _ hr h1 h2 hp _ e1 e2
    · omega
  | succ N ih =>
    intro L hL lt rt x r st m fL fG cA lA rA sA tA oA qA pA h hn hr hst hm h1 h2 e1 e2 hp n hN
    obtain ⟨n, rfl⟩ : ∃ k, n = k + 1 := ⟨n - 1, by omega⟩
    rcases tr_ptr h with ⟨e, eL⟩ | ⟨j, hj, e, hm2, hl⟩
    · subst e; subst eL
      exact base lt rt r st m n fL fG _ _ _ _ _ _ _ _ hr h1 h2 hp _ e1 e2
    · subst e
      have ej : (nI j).toNatClampNeg = j := nI_clamp (by omega)
      have hin : vp_in (nI j) 60 := vp_in_nI hj (by omega)
      refine br_f (nI_ge (b := 60) (by omega) (by decide)) (br_f (nI_pos (by omega)) ?_)
      refine wk_settle hj h hn (by omega) (fun cA1 lA1 rA1 sA1 tA1 oA1 qA1 A B c eL ho hs hf => ?_)
      refine wk_push (by omega) hj (And.intro hin ?_)
      rw [ej]
      subst eL
      obtain ⟨nA, nB, hjA, hjB, hAB⟩ := tr_nd_app hn
      have hlen : (A ++ (j, c) :: B).length = A.length + 1 + B.length := by
        rw [List.length_append, List.length_cons]; omega
      have mem : ∀ i, i ∈ tr_ns (A ++ (j, c) :: B) ↔ i ∈ tr_ns A ∨ i = j ∨ i ∈ tr_ns B := by
        intro i
        rw [tr_ns_app, tr_ns_cons, List.mem_append, List.mem_cons]
      have mj : j ∈ tr_ns (A ++ (j, c) :: B) := (mem j).mpr (Or.inr (Or.inl rfl))
      have mA : ∀ i, i ∈ tr_ns A → i ∈ tr_ns (A ++ (j, c) :: B) := fun i hi => (mem i).mpr (Or.inl hi)
      have mB : ∀ i, i ∈ tr_ns B → i ∈ tr_ns (A ++ (j, c) :: B) := fun i hi => (mem i).mpr (Or.inr (Or.inr hi))
      have nrt : ∀ i, i ∈ tr_ns (A ++ (j, c) :: B) → rt ≠ some i := fun i hi z => (h2 i z).2 hi
      have nlt : ∀ i, i ∈ tr_ns (A ++ (j, c) :: B) → lt ≠ some i := fun i hi z => (h1 i z).2 hi
      refine wk_size ho.2.2.2.2.1 ?_
      refine pk_le r A.length (fun hle => ?_) (fun hlt => nm_r (e' := nI (r - (A.length + 1))) (by rw [nI_1, pk_sub (by omega)]) ?_)
      · have key : ∀ (lW : Nat → Int32) (fG2 : Int32), (tr_nd cA1 lW rA1 sA1 tA1 oA1 qA1) = tr_sl (tr_nd cA1 lA1 rA1 sA1 tA1 oA1 qA1) rt (nI j) → fG2 = tr_k rt (nI j) fG → wX_cut_135 post (wX_cut_29 post n) (nI j) (nI r) (tr_p lt) (nI st) fR fS fC (nI (m + 1)) fL fG2 fB fM fA cA1 lW rA1 sA1 tA1 kA oA1 qA1 eA (upd pA m (nI j)) := by
          intro lW fG2 eD eG
          have d2 : ∀ i, i ∈ tr_ns (A ++ (j, c) :: B) → (tr_nd cA1 lW rA1 sA1 tA1 oA1 qA1) i = (tr_nd cA1 lA1 rA1 sA1 tA1 oA1 qA1) i := fun i hi => by rw [eD]; exact tr_sl_n (nrt i hi)
          have el : lW j = lA1 j := congrArg tr_lf (d2 j mj)
          have hA2 : tr_t (tr_nd cA1 lW rA1 sA1 tA1 oA1 qA1) (lW j) A := by
            rw [el]
            exact tr_fr ho.2.2.2.2.1 (fun i hi => d2 i (mA i hi))
          refine And.intro hin (nm_r (e' := lW j) (by rw [ej]) (nm_r (nI_1 st) ?_))
          refine ih A (by omega) lt (some j) (lW j) r (st + 1) (m + 1) fL fG2 _ _ _ _ _ _ _ _ hA2 nA hle (by omega) (by omega) ?_ ?_ e1 rfl ?_ n (by omega)
          · intro a ea
            exact ⟨(h1 a ea).1, fun z => (h1 a ea).2 (mA a z)⟩
          · intro a ea
            injection ea with ea
            subst ea
            exact ⟨hj, hjA⟩
          · intro xl xr fL' fG' fP' cA2 lA2 rA2 sA2 tA2 oA2 qA2 pA2 hxl hxr hfr eL' eG' epa n2 hn2
            obtain ⟨n2, rfl⟩ : ∃ k, n2 = k + 1 := ⟨n2 - 1, by omega⟩
            rw [nI_pred]
            have dj := hfr j hjA
            rw [tr_sl_s, tr_sr_n (nlt j mj), d2 j mj] at dj
            have ec : cA2 j = cA1 j := congrArg tr_cd dj
            have el2 : lA2 j = xr := congrArg tr_lf dj
            have er2 : rA2 j = rA1 j := congrArg tr_rg dj
            have et2 : tA2 j = tA1 j := congrArg tr_tn dj
            have dB : ∀ i, i ∈ tr_ns B → (tr_nd cA2 lA2 rA2 sA2 tA2 oA2 qA2) i = (tr_nd cA1 lA1 rA1 sA1 tA1 oA1 qA1) i := by
              intro i hi
              rw [hfr i (fun z => hAB i z hi), tr_sl_n (fun z => hjB (by injection z with z; rw [z]; exact hi)), tr_sr_n (nlt i (mB i hi)), d2 i (mB i hi)]
            have ho2 : tr_o (tr_nd cA2 lA2 rA2 sA2 tA2 oA2 qA2) j c (A.drop r) B := by
              refine ⟨hj, ho.2.1, ec.trans ho.2.2.1, et2.trans ho.2.2.2.1, ?_, ?_⟩
              · show tr_t _ (lA2 j) _
                rw [el2]; exact hxr
              · show tr_t _ (rA2 j) _
                rw [er2]; exact tr_fr ho.2.2.2.2.2 dB
            refine wk_rp (by omega) ?_ ho2 ?_ ?_ (fun cA3 lA3 rA3 sA3 tA3 oA3 qA3 hT hF => ?_)
            · rw [epa m (Nat.lt_succ_self m), pk_us]
            · exact List.Sublist.nodup (List.Sublist.map Prod.fst (List.Sublist.append_right (List.drop_sublist r A) _)) hn
            · rw [List.length_append, List.length_cons, List.length_drop]; omega
            · refine hp xl (nI j) fL' fG' fP' _ _ _ _ _ _ _ pA2 ?_ ?_ ?_ eL' (eG'.trans eG) ?_ n2 (by omega)
              · rw [List.take_append_of_le_length hle]
                exact tr_fr hxl (fun i hi => hF i (fun z => hjA (z ▸ (List.Sublist.map Prod.fst (List.take_sublist r A)).subset hi)))
              · rw [List.drop_append_of_le_length hle]; exact hT
              · intro i hi
                have hij : i ≠ j := fun z => hi (z ▸ mj)
                rw [hF i hij, hfr i (fun z => hi (mA i z)), tr_sl_n (fun z => hij (by injection z with z; exact z.symm)), tr_sr_c (congrFun eD i), tr_slr]
                exact tr_sl_c (tr_sr_c (hf i hi))
              · intro i hi
                rw [epa i (by omega), pk_un (by omega)]
        cases rt with
        | none => exact br_f nu_m1le (key lA1 (nI j) (by rw [tr_sl_0]) rfl)
        | some b =>
          have hb := (h2 b rfl).1
          refine br_t (nI_pos' (n := b) (by omega)) (And.intro (vp_in_nI hb (by omega)) (nm_r (e' := upd lA1 b (nI j)) ?_ (key _ fG (by rw [tr_nd_l]) rfl)))
          show upd lA1 (nI b).toNatClampNeg _ = _
          rw [nI_clamp (by omega), nu_vbb (by omega)]
      · have key : ∀ (rW : Nat → Int32) (fL2 : Int32), (tr_nd cA1 lA1 rW sA1 tA1 oA1 qA1) = tr_sr (tr_nd cA1 lA1 rA1 sA1 tA1 oA1 qA1) lt (nI j) → fL2 = tr_k lt (nI j) fL → wX_cut_100 post (wX_cut_29 post n) (nI j) (nI (r - (A.length + 1))) (tr_p rt) (nI st) fR fS fC (nI (m + 1)) fL2 fG fB fM fA cA1 lA1 rW sA1 tA1 kA oA1 qA1 eA (upd pA m (nI j)) := by
          intro rW fL2 eD eG
          have d2 : ∀ i, i ∈ tr_ns (A ++ (j, c) :: B) → (tr_nd cA1 lA1 rW sA1 tA1 oA1 qA1) i = (tr_nd cA1 lA1 rA1 sA1 tA1 oA1 qA1) i := fun i hi => by rw [eD]; exact tr_sr_n (nlt i hi)
          have er : rW j = rA1 j := congrArg tr_rg (d2 j mj)
          have hB2 : tr_t (tr_nd cA1 lA1 rW sA1 tA1 oA1 qA1) (rW j) B := by
            rw [er]
            exact tr_fr ho.2.2.2.2.2 (fun i hi => d2 i (mB i hi))
          refine And.intro hin (nm_r (e' := rW j) (by rw [ej]) (nm_r (nI_1 st) ?_))
          refine ih B (by omega) (some j) rt (rW j) (r - (A.length + 1)) (st + 1) (m + 1) fL2 fG _ _ _ _ _ _ _ _ hB2 nB (by omega) (by omega) (by omega) ?_ ?_ rfl e2 ?_ n (by omega)
          · intro a ea
            injection ea with ea
            subst ea
            exact ⟨hj, hjB⟩
          · intro a ea
            exact ⟨(h2 a ea).1, fun z => (h2 a ea).2 (mB a z)⟩
          · intro xl xr fL' fG' fP' cA2 lA2 rA2 sA2 tA2 oA2 qA2 pA2 hxl hxr hfr eL' eG' epa n2 hn2
            obtain ⟨n2, rfl⟩ : ∃ k, n2 = k + 1 := ⟨n2 - 1, by omega⟩
            rw [nI_pred]
            have dj := hfr j hjB
            rw [tr_sl_n (nrt j mj), tr_sr_s, d2 j mj] at dj
            have ec : cA2 j = cA1 j := congrArg tr_cd dj
            have el2 : lA2 j = lA1 j := congrArg tr_lf dj
            have er2 : rA2 j = xl := congrArg tr_rg dj
            have et2 : tA2 j = tA1 j := congrArg tr_tn dj
            have dA : ∀ i, i ∈ tr_ns A → (tr_nd cA2 lA2 rA2 sA2 tA2 oA2 qA2) i = (tr_nd cA1 lA1 rA1 sA1 tA1 oA1 qA1) i := by
              intro i hi
              rw [hfr i (hAB i hi), tr_sl_n (nrt i (mA i hi)), tr_sr_n (fun z => hjA (by injection z with z; rw [z]; exact hi)), d2 i (mA i hi)]
            have ho2 : tr_o (tr_nd cA2 lA2 rA2 sA2 tA2 oA2 qA2) j c A (B.take (r - (A.length + 1))) := by
              refine ⟨hj, ho.2.1, ec.trans ho.2.2.1, et2.trans ho.2.2.2.1, ?_, ?_⟩
              · show tr_t _ (lA2 j) _
                rw [el2]; exact tr_fr ho.2.2.2.2.1 dA
              · show tr_t _ (rA2 j) _
                rw [er2]; exact hxl
            refine wk_rp (by omega) ?_ ho2 ?_ ?_ (fun cA3 lA3 rA3 sA3 tA3 oA3 qA3 hT hF => ?_)
            · rw [epa m (Nat.lt_succ_self m), pk_us]
            · exact List.Sublist.nodup (List.Sublist.map Prod.fst (List.Sublist.append_left (List.Sublist.cons_cons (j, c) (List.take_sublist _ B)) A)) hn
            · rw [List.length_append, List.length_cons, List.length_take]; omega
            · have et : (A ++ (j, c) :: B).take r = A ++ (j, c) :: B.take (r - (A.length + 1)) := by
                rw [List.take_append, List.take_of_length_le (by omega), show r - A.length = (r - (A.length + 1)) + 1 by omega, List.take_succ_cons]
              have ed : (A ++ (j, c) :: B).drop r = B.drop (r - (A.length + 1)) := by
                rw [List.drop_append, List.drop_of_length_le (by omega), show r - A.length = (r - (A.length + 1)) + 1 by omega, List.drop_succ_cons]
                rfl
              refine hp (nI j) xr fL' fG' fP' _ _ _ _ _ _ _ pA2 ?_ ?_ ?_ (eL'.trans eG) eG' ?_ n2 (by omega)
              · rw [et]; exact hT
              · rw [ed]
                exact tr_fr hxr (fun i hi => hF i (fun z => hjB (z ▸ (List.Sublist.map Prod.fst (List.drop_sublist _ B)).subset hi)))
              · intro i hi
                have hij : i ≠ j := fun z => hi (z ▸ mj)
                rw [hF i hij, hfr i (fun z => hi (mB i z))]
                refine tr_sl_c ?_
                rw [tr_sr_n (fun z => hij (by injection z with z; exact z.symm)), eD]
                exact tr_sr_c (hf i hi)
              · intro i hi
                rw [epa i (by omega), pk_un (by omega)]
        cases lt with
        | none => exact br_f nu_m1le (key rA1 (nI j) (by rw [tr_sr_0]) rfl)
        | some b =>
          have hb := (h1 b rfl).1
          refine br_t (nI_pos' (n := b) (by omega)) (And.intro (vp_in_nI hb (by omega)) (nm_r (e' := upd rA1 b (nI j)) ?_ (key _ fL (by rw [tr_nd_r]) rfl)))
          show upd rA1 (nI b).toNatClampNeg _ = _
          rw [nI_clamp (by omega), nu_vbb (by omega)]
end
end
section
section
variable {fR fS fC fP fL fG fB fM fA : Int32} {cA lA rA sA tA kA oA qA eA pA : Nat → Int32}
theorem wk_cut {post : SX → Prop} {x : Int32} {L : tr_L} {r : Nat} (h : tr_t (tr_nd cA lA rA sA tA oA qA) x L) (hn : (tr_ns L).Nodup) (hr : r ≤ L.length) (hL : L.length ≤ 60)
    (hp : ∀ (xl xr fP' : Int32) (cA' lA' rA' sA' tA' oA' qA' pA' : Nat → Int32), tr_t (tr_nd cA' lA' rA' sA' tA' oA' qA') xl (L.take r) → tr_t (tr_nd cA' lA' rA' sA' tA' oA' qA') xr (L.drop r) → (∀ i, i ∉ tr_ns L → (tr_nd cA' lA' rA' sA' tA' oA' qA') i = (tr_nd cA lA rA sA tA oA qA) i) → post (fR, fS, fC, fP', xl, xr, fB, fM, fA, cA', lA', rA', sA', tA', kA, oA', qA', eA, pA')) : wpX_cut post (fR, fS, fC, fP, fL, fG, fB, fM, fA, cA, lA, rA, sA, tA, kA, oA, qA, eA, pA) x (nI r) := by
  refine ⟨L.length + 1, wk_cut29 L.length L (Nat.le_refl _) none none x r 0 0 (-1) (-1) _ _ _ _ _ _ _ _ h hn hr (by omega) (by omega) (fun a z => nomatch z) (fun a z => nomatch z) rfl rfl (fun xl xr fL' fG' fP' cA' lA' rA' sA' tA' oA' qA' pA' h1 h2 hf e1 e2 _ n hn2 => ?_) _ (Nat.lt_succ_self _)⟩
  obtain ⟨n, rfl⟩ : ∃ k, n = k + 1 := ⟨n - 1, by omega⟩
  have e1' : fL' = xl := e1
  have e2' : fG' = xr := e2
  subst e1'
  subst e2'
  refine br_t (by rw [nu_0m]; decide) (hp _ _ _ _ _ _ _ _ _ _ _ h1 h2 ?_)
  intro i hi
  rw [hf i hi, tr_sl_0, tr_sr_0]
/-! join -/
def tr_h (D : Nat → tr_N) (z : Int32) (s : Option Nat) (v : Int32) (i : Nat) : tr_N := if z = 0 then tr_sl D s v i else tr_sr D s v i
theorem tr_h_n {D : Nat → tr_N} {z : Int32} {s : Option Nat} {v : Int32} {i : Nat} (h : s ≠ some i) : tr_h D z s v i = D i := by
  unfold tr_h
  rw [tr_sl_n h, tr_sr_n h]
  split <;> rfl
theorem tr_h_c {D E : Nat → tr_N} {z : Int32} {s : Option Nat} {v : Int32} {i : Nat} (h : D i = E i) : tr_h D z s v i = tr_h E z s v i := by
  unfold tr_h
  rw [tr_sl_c h, tr_sr_c h]
theorem tr_h_0 {D : Nat → tr_N} {z : Int32} {v : Int32} : tr_h D z none v = D := by
  funext i
  exact tr_h_n (fun z => nomatch z)
theorem tr_h_l {D : Nat → tr_N} {v : Int32} {i : Nat} : tr_h D 0 (some i) v i = ((D i).1, v, (D i).2.2) := by
  unfold tr_h
  rw [if_pos rfl, tr_sl_s]
theorem tr_h_r {D : Nat → tr_N} {v : Int32} {i : Nat} : tr_h D 1 (some i) v i = ((D i).1, (D i).2.1, v, (D i).2.2.2) := by
  unfold tr_h
  rw [if_neg (by decide), tr_sr_s]
theorem wk_hang {post : SX → Prop} {a : Nat} {z v : Int32} (ha : a < 60) (hv : vp_nar .byte v.toInt8.toInt32 = v)
    (hp : ∀ lA' rA' : Nat → Int32, (tr_nd cA lA' rA' sA tA oA qA) = tr_h (tr_nd cA lA rA sA tA oA qA) z (some a) v → post (fR, fS, fC, fP, fL, fG, fB, fM, fA, cA, lA', rA', sA, tA, kA, oA, qA, eA, pA)) : wpX_hang post (fR, fS, fC, fP, fL, fG, fB, fM, fA, cA, lA, rA, sA, tA, kA, oA, qA, eA, pA) (nI a) z v := by
  by_cases hz : z = 0
  · refine br_t hz (And.intro (vp_in_nI ha (by omega)) (nm_r (e' := upd lA a v) (by rw [nI_clamp (by omega), hv]) (hp _ _ ?_)))
    rw [tr_nd_l]
    funext i
    exact (if_pos hz).symm
  · refine br_f hz (And.intro (vp_in_nI ha (by omega)) (nm_r (e' := upd rA a v) (by rw [nI_clamp (by omega), hv]) (hp _ _ ?_)))
    rw [tr_nd_r]
    funext i
    exact (if_neg hz).symm
theorem wk_j180 {post : Int32 → SX → Prop} {m : Nat} {x5 : Int32} (h : wX_refreshPath_7 (post x5) (m + 1) (nI m - 1) fR fS fC (nI m) fL fG fB fM fA cA lA rA sA tA kA oA qA eA pA) : wX_join_180 post x5 fR fS fC (nI m) fL fG fB fM fA cA lA rA sA tA kA oA qA eA pA :=
  nm_e (e := nI m - 1) ⟨m + 1, h⟩
theorem wk_j156 {post : Int32 → SX → Prop} {tl : Option Nat} {z top v : Int32} {m : Nat} {M : tr_L} (ht : ∀ a, tl = some a → a < 60) (hv : tr_t (tr_nd cA lA rA sA tA oA qA) v M)
    (hp : ∀ lA' rA' : Nat → Int32, (tr_nd cA lA' rA' sA tA oA qA) = tr_h (tr_nd cA lA rA sA tA oA qA) z tl v → wX_refreshPath_7 (post (tr_k tl v top)) (m + 1) (nI m - 1) fR fS fC (nI m) fL fG fB fM fA cA lA' rA' sA tA kA oA qA eA pA) : wX_join_156 post top (tr_p tl) z v fR fS fC (nI m) fL fG fB fM fA cA lA rA sA tA kA oA qA eA pA := by
  cases tl with
  | none => exact br_f nu_m1le (wk_j180 (hp lA rA tr_h_0.symm))
  | some a => exact br_t (nI_pos' (n := a) (by have := ht a rfl; omega)) (wk_hang (ht a rfl) (wk_pbb hv) (fun lA' rA' e => wk_j180 (hp lA' rA' e)))
theorem wk_join22 {post : Int32 → SX → Prop} : ∀ (N : Nat) (LA LB : tr_L), LA.length + LB.length ≤ N → ∀ (tl : Option Nat) (z x y top : Int32) (st m : Nat) (cA lA rA sA tA oA qA pA : Nat → Int32),
    tr_t (tr_nd cA lA rA sA tA oA qA) x LA → tr_t (tr_nd cA lA rA sA tA oA qA) y LB → (tr_ns (LA ++ LB)).Nodup → st + (LA.length + LB.length) ≤ 60 → m + (LA.length + LB.length) ≤ 60 → (∀ a, tl = some a → a < 60 ∧ a ∉ tr_ns (LA ++ LB)) →
    (∀ (tp fP' : Int32) (cA' lA' rA' sA' tA' oA' qA' pA' : Nat → Int32), tr_t (tr_nd cA' lA' rA' sA' tA' oA' qA') tp (LA ++ LB) → (∀ i, i ∉ tr_ns (LA ++ LB) → (tr_nd cA' lA' rA' sA' tA' oA' qA') i = tr_h (tr_nd cA lA rA sA tA oA qA) z tl tp i) → (∀ i, i < m → pA' i = pA i) → ∀ n, m < n → wX_refreshPath_7 (post (tr_k tl tp top)) n (nI m - 1) fR fS fC fP' fL fG fB fM fA cA' lA' rA' sA' tA' kA oA' qA' eA pA') →
    ∀ n, N < n → wX_join_22 post n x y top (tr_p tl) z (nI st) fR fS fC (nI m) fL fG fB fM fA cA lA rA sA tA kA oA qA eA pA := by
  intro N
  induction N with
  | zero =>
    intro LA LB hl tl z x y top st m cA lA rA sA tA oA qA pA hx hy hn hst hm h1 hp n hN
    obtain ⟨n, rfl⟩ : ∃ k, n = k + 1 := ⟨n - 1, by omega⟩
    have fin : ∀ v, tr_t (tr_nd cA lA rA sA tA oA qA) v (LA ++ LB) → wX_join_156 post top (tr_p tl) z v fR fS fC (nI m) fL fG fB fM fA cA lA rA sA tA kA oA qA eA pA := by
      intro v hv
      exact wk_j156 (fun a e => (h1 a e).1) hv (fun lA' rA' e => hp v (nI m) _ _ _ _ _ _ _ pA (tr_fr hv (fun i hi => by rw [e]; exact tr_h_n (fun z => (h1 i z).2 hi))) (fun i _ => by rw [e]) (fun _ _ => rfl) (m + 1) (Nat.lt_succ_self m))
    rcases tr_ptr hx with ⟨e, eL⟩ | ⟨a, ha, e, ma, la⟩
    · subst e; subst eL
      have H : wX_join_146 post (-1) y top (tr_p tl) z fR fS fC (nI m) fL fG fB fM fA cA lA rA sA tA kA oA qA eA pA := br_t nu_m1lt (fin y hy)
      exact br_c (fun _ => H) (fun _ => br_t nu_m1lt H)
    · omega
  | succ N ih =>
    intro LA LB hl tl z x y top st m cA lA rA sA tA oA qA pA hx hy hn hst hm h1 hp n hN
    obtain ⟨n, rfl⟩ : ∃ k, n = k + 1 := ⟨n - 1, by omega⟩
    have fin : ∀ v, tr_t (tr_nd cA lA rA sA tA oA qA) v (LA ++ LB) → wX_join_156 post top (tr_p tl) z v fR fS fC (nI m) fL fG fB fM fA cA lA rA sA tA kA oA qA eA pA := by
      intro v hv
      exact wk_j156 (fun a e => (h1 a e).1) hv (fun lA' rA' e => hp v (nI m) _ _ _ _ _ _ _ pA (tr_fr hv (fun i hi => by rw [e]; exact tr_h_n (fun z => (h1 i z).2 hi))) (fun i _ => by rw [e]) (fun _ _ => rfl) (m + 1) (Nat.lt_succ_self m))
    rcases tr_ptr hx with ⟨e, eL⟩ | ⟨a, ha, e, ma, la⟩
    · subst e; subst eL
      have H : wX_join_146 post (-1) y top (tr_p tl) z fR fS fC (nI m) fL fG fB fM fA cA lA rA sA tA kA oA qA eA pA := br_t nu_m1lt (fin y hy)
      exact br_c (fun _ => H) (fun _ => br_t nu_m1lt H)
    · rcases tr_ptr hy with ⟨e', eL'⟩ | ⟨b, hb, e', mb, lb⟩
      · subst e'; subst eL'; subst e
        have H : wX_join_146 post (nI a) (-1) top (tr_p tl) z fR fS fC (nI m) fL fG fB fM fA cA lA rA sA tA kA oA qA eA pA := br_f (nI_pos (by omega)) (fin (nI a) (by rw [List.append_nil]; exact hx))
        exact br_c (fun _ => H) (fun _ => br_f (nI_pos (by omega)) (br_t nu_m1lt H))
      · subst e; subst e'
        have hnn := hn
        rw [tr_ns_app, List.nodup_append] at hnn
        obtain ⟨nA0, nB0, hdj⟩ := hnn
        have memAB : ∀ i, i ∈ tr_ns (LA ++ LB) ↔ i ∈ tr_ns LA ∨ i ∈ tr_ns LB := fun i => by rw [tr_ns_app, List.mem_append]
        have nAB : ∀ i, i ∈ tr_ns LA → i ∉ tr_ns LB := fun i hi z => hdj i hi i z rfl
        refine br_f (nI_ge (b := 120) (by omega) (by decide)) (br_f (nI_pos (by omega)) (br_f (nI_pos (by omega)) (And.intro (vp_in_nI ha (by omega)) (And.intro (vp_in_nI hb (by omega)) (br_c (fun _ => br_t rfl ?_) (fun _ => br_f (by decide) ?_))))))
        · refine wk_settle hb hy nB0 (by omega) (fun cA1 lA1 rA1 sA1 tA1 oA1 qA1 A B c eL ho hs hf => ?_)
          subst eL
          have ej : (nI b).toNatClampNeg = b := nI_clamp (by omega)
          have hin : vp_in (nI b) 60 := vp_in_nI hb (by omega)
          obtain ⟨nA, nB, hjA, hjB, hAB⟩ := tr_nd_app nB0
          have hlen : (A ++ (b, c) :: B).length = A.length + 1 + B.length := by
            rw [List.length_append, List.length_cons]; omega
          have mem : ∀ i, i ∈ tr_ns (A ++ (b, c) :: B) ↔ i ∈ tr_ns A ∨ i = b ∨ i ∈ tr_ns B := by
            intro i
            rw [tr_ns_app, tr_ns_cons, List.mem_append, List.mem_cons]
          have mL : ∀ i, i ∈ tr_ns LA → i ∈ tr_ns (LA ++ (A ++ (b, c) :: B)) := fun i hi => (memAB i).mpr (Or.inl hi)
          have mR : ∀ i, i ∈ tr_ns (A ++ (b, c) :: B) → i ∈ tr_ns (LA ++ (A ++ (b, c) :: B)) := fun i hi => (memAB i).mpr (Or.inr hi)
          have mj : b ∈ tr_ns (A ++ (b, c) :: B) := (mem b).mpr (Or.inr (Or.inl rfl))
          have mA : ∀ i, i ∈ tr_ns A → i ∈ tr_ns (A ++ (b, c) :: B) := fun i hi => (mem i).mpr (Or.inl hi)
          have mB : ∀ i, i ∈ tr_ns B → i ∈ tr_ns (A ++ (b, c) :: B) := fun i hi => (mem i).mpr (Or.inr (Or.inr hi))
          have nt : ∀ i, i ∈ tr_ns (LA ++ (A ++ (b, c) :: B)) → tl ≠ some i := fun i hi z => (h1 i z).2 hi
          have key : ∀ (lW rW : Nat → Int32) (top2 : Int32), (tr_nd cA1 lW rW sA1 tA1 oA1 qA1) = tr_h (tr_nd cA1 lA1 rA1 sA1 tA1 oA1 qA1) z tl (nI b) → top2 = tr_k tl (nI b) top → wX_join_102 post (wX_join_22 post n) (nI a) (nI b) top2 (nI st) 0 (nI b) fR fS fC (nI m) fL fG fB fM fA cA1 lW rW sA1 tA1 kA oA1 qA1 eA pA := by
            intro lW rW top2 eD eT
            subst eT
            have d2 : ∀ i, i ∈ tr_ns (LA ++ (A ++ (b, c) :: B)) → (tr_nd cA1 lW rW sA1 tA1 oA1 qA1) i = (tr_nd cA1 lA1 rA1 sA1 tA1 oA1 qA1) i := fun i hi => by rw [eD]; exact tr_h_n (nt i hi)
            have dL : ∀ i, i ∈ tr_ns LA → (tr_nd cA1 lW rW sA1 tA1 oA1 qA1) i = (tr_nd cA lA rA sA tA oA qA) i := fun i hi => (d2 i (mL i hi)).trans (hf i (nAB i hi))
            have el : lW b = lA1 b := congrArg tr_lf (d2 b (mR b mj))
            have hA2 : tr_t (tr_nd cA1 lW rW sA1 tA1 oA1 qA1) (lW b) A := by
              rw [el]
              exact tr_fr ho.2.2.2.2.1 (fun i hi => d2 i (mR i (mA i hi)))
            have hx2 : tr_t (tr_nd cA1 lW rW sA1 tA1 oA1 qA1) (nI a) LA := tr_fr hx dL
            refine wk_push (by omega) hb (br_t rfl (And.intro hin (nm_r (e' := lW b) (by rw [ej]) (nm_r (nI_1 st) ?_))))
            refine ih LA A (by omega) (some b) 0 (nI a) (lW b) _ (st + 1) (m + 1) _ _ _ _ _ _ _ _ hx2 hA2 ?_ (by omega) (by omega) ?_ ?_ n (by omega)
            · exact List.Sublist.nodup (List.Sublist.map Prod.fst (List.Sublist.append_left (List.sublist_append_left A _) LA)) hn
            · intro i ei
              injection ei with ei
              subst ei
              refine ⟨hb, ?_⟩
              rw [tr_ns_app, List.mem_append]
              rintro (z | z)
              · exact nAB _ z mj
              · exact hjA z
            · intro tp fP' cA2 lA2 rA2 sA2 tA2 oA2 qA2 pA2 hT hfr epa n2 hn2
              obtain ⟨n2, rfl⟩ : ∃ k, n2 = k + 1 := ⟨n2 - 1, by omega⟩
              rw [nI_pred]
              have nj : b ∉ tr_ns (LA ++ A) := by
                rw [tr_ns_app, List.mem_append]
                rintro (z | z)
                · exact nAB _ z mj
                · exact hjA z
              have dj := hfr b nj
              rw [tr_h_l, d2 b (mR b mj)] at dj
              have ec : cA2 b = cA1 b := congrArg tr_cd dj
              have el2 : lA2 b = tp := congrArg tr_lf dj
              have er2 : rA2 b = rA1 b := congrArg tr_rg dj
              have et2 : tA2 b = tA1 b := congrArg tr_tn dj
              have dB : ∀ i, i ∈ tr_ns B → (tr_nd cA2 lA2 rA2 sA2 tA2 oA2 qA2) i = (tr_nd cA1 lA1 rA1 sA1 tA1 oA1 qA1) i := by
                intro i hi
                have ni : i ∉ tr_ns (LA ++ A) := by
                  rw [tr_ns_app, List.mem_append]
                  rintro (z | z)
                  · exact nAB _ z (mB i hi)
                  · exact hAB i z hi
                rw [hfr i ni, tr_h_n (fun z => hjB (by injection z with z; rw [z]; exact hi)), d2 i (mR i (mB i hi))]
              have ho2 : tr_o (tr_nd cA2 lA2 rA2 sA2 tA2 oA2 qA2) b c (LA ++ A) B := by
                refine ⟨hb, ho.2.1, ec.trans ho.2.2.1, et2.trans ho.2.2.2.1, ?_, ?_⟩
                · show tr_t _ (lA2 b) _
                  rw [el2]; exact hT
                · show tr_t _ (rA2 b) _
                  rw [er2]; exact tr_fr ho.2.2.2.2.2 dB
              refine wk_rp (by omega) ?_ ho2 ?_ ?_ (fun cA3 lA3 rA3 sA3 tA3 oA3 qA3 hT3 hF => ?_)
              · rw [epa m (Nat.lt_succ_self m), pk_us]
              · rw [List.append_assoc]; exact hn
              · rw [List.length_append, List.length_append, List.length_cons]; omega
              · refine hp (nI b) fP' _ _ _ _ _ _ _ pA2 ?_ ?_ ?_ n2 (by omega)
                · rw [← List.append_assoc]; exact hT3
                · intro i hi
                  have hij : i ≠ b := fun z => hi (z ▸ mR b mj)
                  have ni : i ∉ tr_ns (LA ++ A) := by
                    rw [tr_ns_app, List.mem_append]
                    rintro (z | z)
                    · exact hi (mL i z)
                    · exact hi (mR i (mA i z))
                  rw [hF i hij, hfr i ni, tr_h_n (fun z => hij (by injection z with z; exact z.symm)), eD]
                  exact tr_h_c (hf i (fun z => hi (mR i z)))
                · intro i hi
                  rw [epa i (by omega), pk_un (by omega)]
          cases tl with
          | none => exact br_f nu_m1le (key lA1 rA1 (nI b) tr_h_0.symm rfl)
          | some d => exact br_t (nI_pos' (n := d) (by have := (h1 d rfl).1; omega)) (wk_hang (h1 d rfl).1 (nu_vbb (by omega)) (fun lA' rA' e => key lA' rA' top e rfl))
        · refine wk_settle ha hx nA0 (by omega) (fun cA1 lA1 rA1 sA1 tA1 oA1 qA1 A B c eL ho hs hf => ?_)
          subst eL
          have ej : (nI a).toNatClampNeg = a := nI_clamp (by omega)
          have hin : vp_in (nI a) 60 := vp_in_nI ha (by omega)
          obtain ⟨nA, nB, hjA, hjB, hAB⟩ := tr_nd_app nA0
          have hlen : (A ++ (a, c) :: B).length = A.length + 1 + B.length := by
            rw [List.length_append, List.length_cons]; omega
          have mem : ∀ i, i ∈ tr_ns (A ++ (a, c) :: B) ↔ i ∈ tr_ns A ∨ i = a ∨ i ∈ tr_ns B := by
            intro i
            rw [tr_ns_app, tr_ns_cons, List.mem_append, List.mem_cons]
          have mL : ∀ i, i ∈ tr_ns LB → i ∈ tr_ns ((A ++ (a, c) :: B) ++ LB) := fun i hi => (memAB i).mpr (Or.inr hi)
          have mR : ∀ i, i ∈ tr_ns (A ++ (a, c) :: B) → i ∈ tr_ns ((A ++ (a, c) :: B) ++ LB) := fun i hi => (memAB i).mpr (Or.inl hi)
          have mj : a ∈ tr_ns (A ++ (a, c) :: B) := (mem a).mpr (Or.inr (Or.inl rfl))
          have mA : ∀ i, i ∈ tr_ns A → i ∈ tr_ns (A ++ (a, c) :: B) := fun i hi => (mem i).mpr (Or.inl hi)
          have mB : ∀ i, i ∈ tr_ns B → i ∈ tr_ns (A ++ (a, c) :: B) := fun i hi => (mem i).mpr (Or.inr (Or.inr hi))
          have nt : ∀ i, i ∈ tr_ns ((A ++ (a, c) :: B) ++ LB) → tl ≠ some i := fun i hi z => (h1 i z).2 hi
          have key : ∀ (lW rW : Nat → Int32) (top2 : Int32), (tr_nd cA1 lW rW sA1 tA1 oA1 qA1) = tr_h (tr_nd cA1 lA1 rA1 sA1 tA1 oA1 qA1) z tl (nI a) → top2 = tr_k tl (nI a) top → wX_join_102 post (wX_join_22 post n) (nI a) (nI b) top2 (nI st) 1 (nI a) fR fS fC (nI m) fL fG fB fM fA cA1 lW rW sA1 tA1 kA oA1 qA1 eA pA := by
            intro lW rW top2 eD eT
            subst eT
            have d2 : ∀ i, i ∈ tr_ns ((A ++ (a, c) :: B) ++ LB) → (tr_nd cA1 lW rW sA1 tA1 oA1 qA1) i = (tr_nd cA1 lA1 rA1 sA1 tA1 oA1 qA1) i := fun i hi => by rw [eD]; exact tr_h_n (nt i hi)
            have dL : ∀ i, i ∈ tr_ns LB → (tr_nd cA1 lW rW sA1 tA1 oA1 qA1) i = (tr_nd cA lA rA sA tA oA qA) i := fun i hi => (d2 i (mL i hi)).trans (hf i (fun z => nAB i z hi))
            have er : rW a = rA1 a := congrArg tr_rg (d2 a (mR a mj))
            have hB2 : tr_t (tr_nd cA1 lW rW sA1 tA1 oA1 qA1) (rW a) B := by
              rw [er]
              exact tr_fr ho.2.2.2.2.2 (fun i hi => d2 i (mR i (mB i hi)))
            have hy2 : tr_t (tr_nd cA1 lW rW sA1 tA1 oA1 qA1) (nI b) LB := tr_fr hy dL
            refine wk_push (by omega) ha (br_f (by decide) (And.intro hin (nm_r (e' := rW a) (by rw [ej]) (nm_r (nI_1 st) ?_))))
            have nj : a ∉ tr_ns (B ++ LB) := by
              rw [tr_ns_app, List.mem_append]
              rintro (z | z)
              · exact hjB z
              · exact nAB _ mj z
            refine ih B LB (by omega) (some a) 1 (rW a) (nI b) _ (st + 1) (m + 1) _ _ _ _ _ _ _ _ hB2 hy2 ?_ (by omega) (by omega) ?_ ?_ n (by omega)
            · refine List.Sublist.nodup (List.Sublist.map Prod.fst (List.Sublist.append_right ?_ LB)) hn
              exact List.Sublist.trans (List.sublist_cons_self _ _) (List.sublist_append_right A _)
            · intro i ei
              injection ei with ei
              subst ei
              exact ⟨ha, nj⟩
            · intro tp fP' cA2 lA2 rA2 sA2 tA2 oA2 qA2 pA2 hT hfr epa n2 hn2
              obtain ⟨n2, rfl⟩ : ∃ k, n2 = k + 1 := ⟨n2 - 1, by omega⟩
              rw [nI_pred]
              have dj := hfr a nj
              rw [tr_h_r, d2 a (mR a mj)] at dj
              have ec : cA2 a = cA1 a := congrArg tr_cd dj
              have el2 : lA2 a = lA1 a := congrArg tr_lf dj
              have er2 : rA2 a = tp := congrArg tr_rg dj
              have et2 : tA2 a = tA1 a := congrArg tr_tn dj
              have dA : ∀ i, i ∈ tr_ns A → (tr_nd cA2 lA2 rA2 sA2 tA2 oA2 qA2) i = (tr_nd cA1 lA1 rA1 sA1 tA1 oA1 qA1) i := by
                intro i hi
                have ni : i ∉ tr_ns (B ++ LB) := by
                  rw [tr_ns_app, List.mem_append]
                  rintro (z | z)
                  · exact hAB i hi z
                  · exact nAB _ (mA i hi) z
                rw [hfr i ni, tr_h_n (fun z => hjA (by injection z with z; rw [z]; exact hi)), d2 i (mR i (mA i hi))]
              have ho2 : tr_o (tr_nd cA2 lA2 rA2 sA2 tA2 oA2 qA2) a c A (B ++ LB) := by
                refine ⟨ha, ho.2.1, ec.trans ho.2.2.1, et2.trans ho.2.2.2.1, ?_, ?_⟩
                · show tr_t _ (lA2 a) _
                  rw [el2]; exact tr_fr ho.2.2.2.2.1 dA
                · show tr_t _ (rA2 a) _
                  rw [er2]; exact hT
              have eLL : (A ++ (a, c) :: B) ++ LB = A ++ (a, c) :: (B ++ LB) := by
                rw [List.append_assoc, List.cons_append]
              refine wk_rp (by omega) ?_ ho2 ?_ ?_ (fun cA3 lA3 rA3 sA3 tA3 oA3 qA3 hT3 hF => ?_)
              · rw [epa m (Nat.lt_succ_self m), pk_us]
              · rw [← eLL]; exact hn
              · rw [List.length_append, List.length_cons, List.length_append]; omega
              · refine hp (nI a) fP' _ _ _ _ _ _ _ pA2 ?_ ?_ ?_ n2 (by omega)
                · rw [eLL]; exact hT3
                · intro i hi
                  have hij : i ≠ a := fun z => hi (z ▸ mR a mj)
                  have ni : i ∉ tr_ns (B ++ LB) := by
                    rw [tr_ns_app, List.mem_append]
                    rintro (z | z)
                    · exact hi (mR i (mB i z))
                    · exact hi (mL i z)
                  rw [hF i hij, hfr i ni, tr_h_n (fun z => hij (by injection z with z; exact z.symm)), eD]
                  exact tr_h_c (hf i (fun z => hi (mR i z)))
                · intro i hi
                  rw [epa i (by omega), pk_un (by omega)]
          cases tl with
          | none => exact br_f nu_m1le (key lA1 rA1 (nI a) tr_h_0.symm rfl)
          | some d => exact br_t (nI_pos' (n := d) (by have := (h1 d rfl).1; omega)) (wk_hang (h1 d rfl).1 (nu_vbb (by omega)) (fun lA' rA' e => key lA' rA' top e rfl))
theorem wk_join {post : Int32 → SX → Prop} {x y : Int32} {LA LB : tr_L} (hx : tr_t (tr_nd cA lA rA sA tA oA qA) x LA) (hy : tr_t (tr_nd cA lA rA sA tA oA qA) y LB) (hn : (tr_ns (LA ++ LB)).Nodup) (hL : LA.length + LB.length ≤ 60)
    (hp : ∀ (tp fP' : Int32) (cA' lA' rA' sA' tA' oA' qA' pA' : Nat → Int32), tr_t (tr_nd cA' lA' rA' sA' tA' oA' qA') tp (LA ++ LB) → (∀ i, i ∉ tr_ns (LA ++ LB) → (tr_nd cA' lA' rA' sA' tA' oA' qA') i = (tr_nd cA lA rA sA tA oA qA) i) → post tp (fR, fS, fC, fP', fL, fG, fB, fM, fA, cA', lA', rA', sA', tA', kA, oA', qA', eA, pA')) : wpX_join post (fR, fS, fC, fP, fL, fG, fB, fM, fA, cA, lA, rA, sA, tA, kA, oA, qA, eA, pA) x y := by
  refine ⟨LA.length + LB.length + 1, wk_join22 (LA.length + LB.length) LA LB (Nat.le_refl _) none 0 x y (-1) 0 0 _ _ _ _ _ _ _ _ hx hy hn (by omega) (by omega) (fun a z => nomatch z) (fun tp fP' cA' lA' rA' sA' tA' oA' qA' pA' h1 hf _ n hn2 => ?_) _ (Nat.lt_succ_self _)⟩
  obtain ⟨n, rfl⟩ : ∃ k, n = k + 1 := ⟨n - 1, by omega⟩
  refine br_t (by rw [nu_0m]; decide) (hp _ _ _ _ _ _ _ _ _ _ h1 ?_)
  intro i hi
  rw [hf i hi, tr_h_0]
end
end
section
section
variable {fR fS fC fP fL fG fB fM fA : Int32} {cA lA rA sA tA kA oA qA eA pA : Nat → Int32}
/-! the pool: release, newNode -/
def tr_ar (a : Nat → Int32) (F : List Nat) : Prop := ∀ i j, F[i]? = some j → a i = nI j
theorem tr_ar_push {a : Nat → Int32} {F : List Nat} {j : Nat} (h : tr_ar a F) : tr_ar (upd a F.length (nI j)) (F ++ [j]) := by
  intro i k hk
  by_cases hi : i < F.length
  · rw [List.getElem?_append_left hi] at hk
    rw [pk_un (by omega)]
    exact h i k hk
  · rw [List.getElem?_append_right (by omega)] at hk
    have h0 : i - F.length = 0 := by
      have := (List.getElem?_eq_some_iff.mp hk).1
      rw [List.length_singleton] at this
      omega
    rw [h0] at hk
    have h1 : j = k := by
      have h2 : some j = some k := hk
      injection h2
    rw [show i = F.length by omega, pk_us, h1]
theorem tr_ar_left {a : Nat → Int32} {F G : List Nat} (h : tr_ar a (F ++ G)) : tr_ar a F := by
  intro i k hk
  refine h i k ?_
  rw [List.getElem?_append_left (List.getElem?_eq_some_iff.mp hk).1]
  exact hk
def tr_sk (D : Nat → tr_N) (pa : Nat → Int32) : List (Nat × tr_L) → Prop
  | [] => True
  | e :: S => e.1 < 60 ∧ pa S.length = nI e.1 ∧ tr_t D (nI e.1) e.2 ∧ tr_sk D pa S
def tr_sn : List (Nat × tr_L) → List Nat
  | [] => []
  | e :: S => tr_ns e.2 ++ tr_sn S
theorem tr_sk_p {D : Nat → tr_N} {pa pa' : Nat → Int32} : ∀ S : List (Nat × tr_L), (∀ i, i < S.length → pa' i = pa i) → tr_sk D pa S → tr_sk D pa' S := by
  intro S
  induction S with
  | nil => intro _ h; exact h
  | cons e S ih =>
    intro hf h
    rw [List.length_cons] at hf
    exact ⟨h.1, by rw [hf _ (by omega)]; exact h.2.1, h.2.2.1, ih (fun i hi => hf i (by omega)) h.2.2.2⟩
theorem tr_sk_len {D : Nat → tr_N} {pa : Nat → Int32} : ∀ S : List (Nat × tr_L), tr_sk D pa S → S.length ≤ (tr_sn S).length := by
  intro S
  induction S with
  | nil => intro _; exact Nat.le_refl _
  | cons e S ih =>
    intro h
    have h1 := ih h.2.2.2
    have h2 : 0 < e.2.length := by
      rcases tr_ptr h.2.2.1 with ⟨z, _⟩ | ⟨_, _, _, _, z⟩
      · exact absurd z (nu_ne1 (by have := h.1; omega))
      · exact z
    show S.length + 1 ≤ (tr_ns e.2 ++ tr_sn S).length
    rw [List.length_append, tr_ns_len]
    omega
theorem tr_rd_perm {t : Int32} {A B : tr_L} {e : Nat × Nat} : (tr_ns (tr_rd t A e B)).Perm (tr_ns A ++ e.1 :: tr_ns B) := by
  unfold tr_rd
  split
  · rw [tr_ns_app, tr_ns_cons]
  · rw [tr_ns_app, tr_ns_cons, tr_ns_mr, tr_ns_mr]
    exact (List.reverse_perm _).append ((List.reverse_perm _).cons _)
theorem wk_rel16 {post : SX → Prop} : ∀ (N : Nat) (S : List (Nat × tr_L)), (tr_sn S).length ≤ N → ∀ (F : List Nat) (st : Nat) (eA pA : Nat → Int32), tr_sk (tr_nd cA lA rA sA tA oA qA) pA S → st + (tr_sn S).length ≤ 60 → F.length + (tr_sn S).length ≤ 60 → tr_ar eA F →
    (∀ (H : List Nat) (fP' : Int32) (eA' pA' : Nat → Int32), H.Perm (tr_sn S) → tr_ar eA' (F ++ H) → post (fR, fS, nI (F.length + H.length), fP', fL, fG, fB, fM, fA, cA, lA, rA, sA, tA, kA, oA, qA, eA', pA')) →
    ∀ n, N < n → wX_release_16 post n (nI st) fR fS (nI F.length) (nI S.length) fL fG fB fM fA cA lA rA sA tA kA oA qA eA pA := by
  have base : ∀ (F : List Nat) (eA pA : Nat → Int32) (x : Int32) (n : Nat), tr_ar eA F →
      (∀ (H : List Nat) (fP' : Int32) (eA' pA' : Nat → Int32), H.Perm (tr_sn []) → tr_ar eA' (F ++ H) → post (fR, fS, nI (F.length + H.length), fP', fL, fG, fB, fM, fA, cA, lA, rA, sA, tA, kA, oA, qA, eA', pA')) →
      wX_release_16 post (n + 1) x fR fS (nI F.length) (nI 0) fL fG fB fM fA cA lA rA sA tA kA oA qA eA pA := by
    intro F eA pA x n ha hp
    have P : post (fR, fS, nI F.length, nI 0, fL, fG, fB, fM, fA, cA, lA, rA, sA, tA, kA, oA, qA, eA, pA) := hp [] (nI 0) eA pA (List.Perm.refl _) (by rw [List.append_nil]; exact ha)
    exact br_c (fun _ => P) (fun _ => br_t (by decide) P)
  intro N
  induction N with
  | zero =>
    intro S hS F st eA pA hk hst hF ha hp n hN
    obtain ⟨n, rfl⟩ : ∃ k, n = k + 1 := ⟨n - 1, by omega⟩
    have hl := tr_sk_len S hk
    have h0 : S = [] := List.eq_nil_of_length_eq_zero (by omega)
    subst h0
    exact base F eA pA _ n ha hp
  | succ N ih =>
    intro S hS F st eA pA hk hst hF ha hp n hN
    obtain ⟨n, rfl⟩ : ∃ k, n = k + 1 := ⟨n - 1, by omega⟩
    cases S with
    | nil => exact base F eA pA _ n ha hp
    | cons e S =>
      obtain ⟨j, M⟩ := e
      obtain ⟨hj, hpa, hT, hS2⟩ := hk
      have hj : j < 60 := hj
      have hpa : pA S.length = nI j := hpa
      have hT : tr_t (tr_nd cA lA rA sA tA oA qA) (nI j) M := hT
      obtain ⟨c, A, B, ok, hA, hB, eM⟩ := tr_invj hj hT
      have hA : tr_t (tr_nd cA lA rA sA tA oA qA) (lA j) A := hA
      have hB : tr_t (tr_nd cA lA rA sA tA oA qA) (rA j) B := hB
      have esn : tr_sn ((j, M) :: S) = tr_ns M ++ tr_sn S := rfl
      have hMl : M.length = A.length + 1 + B.length := by rw [eM, tr_rd_len]
      rw [esn, List.length_append, tr_ns_len] at hS hst hF
      have hSl := tr_sk_len S hS2
      have ej : (nI j).toNatClampNeg = j := nI_clamp (by omega)
      have hin : vp_in (nI j) 60 := vp_in_nI hj (by omega)
      have k87 : ∀ (S2 : List (Nat × tr_L)) (pA2 : Nat → Int32), tr_sk (tr_nd cA lA rA sA tA oA qA) pA2 S2 → tr_sn S2 = tr_ns B ++ (tr_ns A ++ tr_sn S) → wX_release_87 post (wX_release_16 post n) (nI st) (nI j) fR fS (nI F.length) (nI S2.length) fL fG fB fM fA cA lA rA sA tA kA oA qA eA pA2 := by
        intro S2 pA2 hk2 es2
        have hl2 : (tr_sn S2).length = B.length + (A.length + (tr_sn S).length) := by
          rw [es2, List.length_append, List.length_append, tr_ns_len, tr_ns_len]
        refine And.intro (vp_in_nI (by omega) (by omega)) (nm_r (e' := upd eA F.length (nI j)) (by rw [nI_clamp (by omega), nu_vbb (by omega)]) (nm_r (e' := nI (F ++ [j]).length) (by rw [nI_1, List.length_append]; rfl) (nm_r (nI_1 st) ?_)))
        refine ih S2 (by omega) (F ++ [j]) (st + 1) _ pA2 hk2 (by omega) (by rw [List.length_append, List.length_singleton]; omega) (tr_ar_push ha) ?_ n (by omega)
        intro H fP' eA' pA' hH har
        have P := hp (j :: H) fP' eA' pA' ?_ (by rw [List.append_assoc] at har; exact har)
        · rw [List.length_append, List.length_singleton, show F.length + 1 + H.length = F.length + (H.length + 1) by omega]
          exact P
        · rw [es2] at hH
          rw [esn, eM]
          refine (hH.cons j).trans ?_
          refine List.Perm.symm ?_
          refine (tr_rd_perm.append_right _).trans ?_
          refine (List.perm_middle.append_right _).trans ?_
          show (j :: ((tr_ns A ++ tr_ns B) ++ tr_sn S)).Perm _
          refine List.Perm.cons j ?_
          rw [← List.append_assoc]
          exact List.perm_append_comm.append_right _
      have k68 : ∀ (S1 : List (Nat × tr_L)) (pA1 : Nat → Int32), tr_sk (tr_nd cA lA rA sA tA oA qA) pA1 S1 → tr_sn S1 = tr_ns A ++ tr_sn S → wX_release_68 post (wX_release_16 post n) (nI st) (nI j) fR fS (nI F.length) (nI S1.length) fL fG fB fM fA cA lA rA sA tA kA oA qA eA pA1 := by
        intro S1 pA1 hk1 es1
        have hl1 := tr_sk_len S1 hk1
        rw [es1, List.length_append, tr_ns_len] at hl1
        refine And.intro hin ?_
        rw [ej]
        rcases tr_ptr hB with ⟨e, eB⟩ | ⟨b, hb, e, _, _⟩
        · refine br_t (by rw [e]; decide) (k87 S1 pA1 hk1 ?_)
          rw [es1, eB]
          rfl
        · rw [e] at hB ⊢
          refine br_f (nI_pos (by omega)) (And.intro hin (wk_push (by omega) hb (k87 ((b, B) :: S1) _ ⟨hb, pk_us, hB, tr_sk_p S1 (fun i hi => pk_un (by omega)) hk1⟩ ?_)))
          rw [← es1]
          rfl
      refine br_f (nI_ge (b := 60) (by omega) (by decide)) (br_f (nI_nle (by rw [List.length_cons]; omega) (by rw [List.length_cons]; omega)) (nm_r (e' := nI S.length) (nI_pred _) (And.intro (vp_in_nI (by omega) (by omega)) (nm_r (e' := nI j) (by rw [nI_clamp (by omega), hpa]) (And.intro hin ?_)))))
      rw [ej]
      rcases tr_ptr hA with ⟨e, eA0⟩ | ⟨a, ha2, e, _, _⟩
      · refine br_t (by rw [e]; decide) (k68 S pA hS2 ?_)
        rw [eA0]
        rfl
      · rw [e] at hA ⊢
        exact br_f (nI_pos (by omega)) (And.intro hin (wk_push (by omega) ha2 (k68 ((a, A) :: S) _ ⟨ha2, pk_us, hA, tr_sk_p S (fun i hi => pk_un (by omega)) hS2⟩ rfl)))
theorem wk_release {post : SX → Prop} {x : Int32} {M : tr_L} {F : List Nat} (h : tr_t (tr_nd cA lA rA sA tA oA qA) x M) (hF : F.length + M.length ≤ 60) (ha : tr_ar eA F)
    (hp : ∀ (H : List Nat) (fP' : Int32) (eA' pA' : Nat → Int32), H.Perm (tr_ns M) → tr_ar eA' (F ++ H) → post (fR, fS, nI (F.length + H.length), fP', fL, fG, fB, fM, fA, cA, lA, rA, sA, tA, kA, oA, qA, eA', pA')) : wpX_release post (fR, fS, nI F.length, fP, fL, fG, fB, fM, fA, cA, lA, rA, sA, tA, kA, oA, qA, eA, pA) x := by
  rcases tr_ptr h with ⟨e, eM⟩ | ⟨j, hj, e, _, _⟩
  · subst e; subst eM
    exact br_t nu_m1lt ⟨1, wk_rel16 0 [] (Nat.le_refl _) F 0 eA pA trivial (by decide) (by show F.length + 0 ≤ 60; omega) ha hp 1 (by decide)⟩
  · subst e
    refine br_f (nI_pos (by omega)) (wk_push (m := 0) (by decide) hj ?_)
    have es : tr_sn [(j, M)] = tr_ns M := by
      show tr_ns M ++ [] = tr_ns M
      rw [List.append_nil]
    refine ⟨61, wk_rel16 60 [(j, M)] ?_ F 0 eA _ ⟨hj, pk_us, h, trivial⟩ ?_ ?_ ha ?_ 61 (by decide)⟩
    · rw [es, tr_ns_len]; omega
    · rw [es, tr_ns_len]; omega
    · rw [es, tr_ns_len]; omega
    · rw [es]
      exact hp
theorem wk_new {post : Int32 → SX → Prop} {F : List Nat} {j c : Nat} (hj : j < 60) (hF : F.length < 60) (hc : c ≤ 6) (ha : tr_ar eA (F ++ [j]))
    (hp : ∀ (fS' : Int32) (kA' cA' lA' rA' sA' tA' oA' qA' : Nat → Int32), tr_t (tr_nd cA' lA' rA' sA' tA' oA' qA') (nI j) [(j, c)] → (∀ i, i ≠ j → (tr_nd cA' lA' rA' sA' tA' oA' qA') i = (tr_nd cA lA rA sA tA oA qA) i) → post (nI j) (fR, fS', nI F.length, fP, fL, fG, fB, fM, fA, cA', lA', rA', sA', tA', kA', oA', qA', eA, pA)) : wpX_newNode post (fR, fS, nI (F.length + 1), fP, fL, fG, fB, fM, fA, cA, lA, rA, sA, tA, kA, oA, qA, eA, pA) (nI c) := by
  have ej : (nI j).toNatClampNeg = j := nI_clamp (by omega)
  have hin : vp_in (nI j) 60 := vp_in_nI hj (by omega)
  have hej : eA F.length = nI j := ha _ _ (by rw [List.getElem?_append_right (Nat.le_refl _), Nat.sub_self]; rfl)
  have fr : ∀ i, i ≠ j → (tr_nd (upd cA j (nI c)) (upd lA j (-1)) (upd rA j (-1)) sA (upd tA j 0) oA qA) i = (tr_nd cA lA rA sA tA oA qA) i := fun i hi => wk_x (pk_un hi) (pk_un hi) (pk_un hi) rfl (pk_un hi) (fun _ _ => rfl) (fun _ _ => rfl)
  refine nm_r (e' := nI F.length) (nI_pred _) (And.intro (vp_in_nI hF (by omega)) (nm_r (e' := nI j) (by rw [nI_clamp (by omega), hej]) (nm_e (And.intro hin (nm_e (And.intro hin (nm_r (e' := upd cA j (nI c)) (by rw [ej, nu_vbb (by omega)]) (And.intro hin (nm_r (e' := upd lA j (-1)) (by rw [ej, nu_vm]) (And.intro hin (nm_r (e' := upd rA j (-1)) (by rw [ej, nu_vm]) (And.intro hin (nm_r (e' := upd tA j 0) (by rw [ej, nu_z0]) ?_)))))))))))))
  refine wk_refresh (c := c) (A := []) (B := []) ⟨hj, hc, pk_us, pk_us, ?_, ?_⟩ ?_ ?_ (fun cA' lA' rA' sA' tA' oA' qA' h1 h2 => hp _ _ _ _ _ _ _ _ _ h1 (fun i hi => (h2 i hi).trans (fr i hi)))
  · show tr_t _ (upd lA j (-1) j) []
    rw [pk_us]; exact tr_nil _
  · show tr_t _ (upd rA j (-1) j) []
    rw [pk_us]; exact tr_nil _
  · show [j].Nodup
    exact List.nodup_cons.mpr ⟨List.not_mem_nil, List.nodup_nil⟩
  · show 1 ≤ 60
    decide
end
end
section
section
variable {fR fS fC fP fL fG fB fM fA : Int32} {cA lA rA sA tA kA oA qA eA pA : Nat → Int32}
/-! the searches: each keeps its tree -/
theorem tr_reL {D1 D2 : Nat → tr_N} {j c : Nat} {A B : tr_L} (ho : tr_o D1 j c A B) (hs : tr_s (D1 j) (A ++ (j, c) :: B)) (hn : (tr_ns (A ++ (j, c) :: B)).Nodup) (hA : tr_t D2 (tr_lf (D1 j)) A) (hf : ∀ i, i ∉ tr_ns A → D2 i = D1 i) : tr_t D2 (nI j) (A ++ (j, c) :: B) := by
  obtain ⟨nA, nB, hjA, hjB, hAB⟩ := tr_nd_app hn
  have hj := hf j hjA
  refine tr_ot ⟨ho.1, ho.2.1, by rw [hj]; exact ho.2.2.1, by rw [hj]; exact ho.2.2.2.1, by rw [hj]; exact hA, ?_⟩ (by rw [hj]; exact hs)
  rw [hj]
  exact tr_fr ho.2.2.2.2.2 (fun i hi => hf i (fun z => hAB i z hi))
theorem tr_reR {D1 D2 : Nat → tr_N} {j c : Nat} {A B : tr_L} (ho : tr_o D1 j c A B) (hs : tr_s (D1 j) (A ++ (j, c) :: B)) (hn : (tr_ns (A ++ (j, c) :: B)).Nodup) (hB : tr_t D2 (tr_rg (D1 j)) B) (hf : ∀ i, i ∉ tr_ns B → D2 i = D1 i) : tr_t D2 (nI j) (A ++ (j, c) :: B) := by
  obtain ⟨nA, nB, hjA, hjB, hAB⟩ := tr_nd_app hn
  have hj := hf j hjB
  refine tr_ot ⟨ho.1, ho.2.1, by rw [hj]; exact ho.2.2.1, by rw [hj]; exact ho.2.2.2.1, ?_, by rw [hj]; exact hB⟩ (by rw [hj]; exact hs)
  rw [hj]
  exact tr_fr ho.2.2.2.2.1 (fun i hi => hf i (hAB i hi))
theorem wk_node10 {post : Int32 → SX → Prop} : ∀ (N : Nat) (L : tr_L), L.length ≤ N → ∀ (x : Int32) (k st : Nat) (cA lA rA sA tA oA qA : Nat → Int32), tr_t (tr_nd cA lA rA sA tA oA qA) x L → (tr_ns L).Nodup → k < L.length → st + L.length ≤ 60 →
    (∀ (j c : Nat) (cA' lA' rA' sA' tA' oA' qA' : Nat → Int32), tr_t (tr_nd cA' lA' rA' sA' tA' oA' qA') x L → (∀ i, i ∉ tr_ns L → (tr_nd cA' lA' rA' sA' tA' oA' qA') i = (tr_nd cA lA rA sA tA oA qA) i) → L[k]? = some (j, c) → j < 60 → cA' j = nI c → post (nI j) (fR, fS, fC, fP, fL, fG, fB, fM, fA, cA', lA', rA', sA', tA', kA, oA', qA', eA, pA)) →
    ∀ n, N < n → wX_nodeAt_10 post n x (nI k) (nI st) fR fS fC fP fL fG fB fM fA cA lA rA sA tA kA oA qA eA pA := by
  intro N
  induction N with
  | zero =>
    intro L hL x k st cA lA rA sA tA oA qA h hn hk hst hp n hN
    omega
  | succ N ih =>
    intro L hL x k st cA lA rA sA tA oA qA h hn hk hst hp n hN
    obtain ⟨n, rfl⟩ : ∃ k, n = k + 1 := ⟨n - 1, by omega⟩
    rcases tr_ptr h with ⟨e, eL⟩ | ⟨j, hj, e, hm2, hl⟩
    · subst eL
      exact absurd hk (Nat.not_lt_zero k)
    · subst e
      have ej : (nI j).toNatClampNeg = j := nI_clamp (by omega)
      have hin : vp_in (nI j) 60 := vp_in_nI hj (by omega)
      refine br_f (nI_ge (b := 60) (by omega) (by decide)) ?_
      refine wk_settle hj h hn (by omega) (fun cA1 lA1 rA1 sA1 tA1 oA1 qA1 A B c eL ho hs hf => And.intro hin ?_)
      rw [ej]
      subst eL
      obtain ⟨nA, nB, hjA, hjB, hAB⟩ := tr_nd_app hn
      have hlen : (A ++ (j, c) :: B).length = A.length + 1 + B.length := by
        rw [List.length_append, List.length_cons]; omega
      have mem : ∀ i, i ∈ tr_ns (A ++ (j, c) :: B) ↔ i ∈ tr_ns A ∨ i = j ∨ i ∈ tr_ns B := by
        intro i
        rw [tr_ns_app, tr_ns_cons, List.mem_append, List.mem_cons]
      refine wk_size ho.2.2.2.2.1 (pk_eq k A.length (fun hk2 => ?_) (fun hk2 => pk_le A.length k (fun hle => nm_r (e' := nI (k - (A.length + 1))) (by rw [nI_1, pk_sub (by omega)]) (And.intro hin (nm_r (e' := rA1 j) rfl (nm_r (nI_1 st) ?_)))) (fun hlt => And.intro hin (nm_r (e' := lA1 j) rfl (nm_r (nI_1 st) ?_)))))
      · refine hp j c _ _ _ _ _ _ _ (tr_ot ho hs) hf ?_ hj ho.2.2.1
        rw [hk2, List.getElem?_append_right (Nat.le_refl _), Nat.sub_self]
        rfl
      · refine ih B (by omega) (rA1 j) _ (st + 1) _ _ _ _ _ _ _ ho.2.2.2.2.2 nB (by omega) (by omega) (fun i d cA2 lA2 rA2 sA2 tA2 oA2 qA2 h2 hf2 hk3 hi hc => ?_) n (by omega)
        refine hp i d _ _ _ _ _ _ _ (tr_reR ho hs hn h2 hf2) ?_ ?_ hi hc
        · intro q hq
          rw [hf2 q (fun z => hq ((mem q).mpr (Or.inr (Or.inr z)))), hf q hq]
        · rw [List.getElem?_append_right (by omega), show k - A.length = (k - (A.length + 1)) + 1 by omega, List.getElem?_cons_succ]
          exact hk3
      · refine ih A (by omega) (lA1 j) _ (st + 1) _ _ _ _ _ _ _ ho.2.2.2.2.1 nA hlt (by omega) (fun i d cA2 lA2 rA2 sA2 tA2 oA2 qA2 h2 hf2 hk3 hi hc => ?_) n (by omega)
        refine hp i d _ _ _ _ _ _ _ (tr_reL ho hs hn h2 hf2) ?_ ?_ hi hc
        · intro q hq
          rw [hf2 q (fun z => hq ((mem q).mpr (Or.inl z))), hf q hq]
        · rw [List.getElem?_append_left hlt]
          exact hk3
theorem wk_nodeAt {post : Int32 → SX → Prop} {L : tr_L} {k : Nat} (h : tr_t (tr_nd cA lA rA sA tA oA qA) fR L) (hn : (tr_ns L).Nodup) (hk : k < L.length) (hL : L.length ≤ 60)
    (hp : ∀ (j c : Nat) (cA' lA' rA' sA' tA' oA' qA' : Nat → Int32), tr_t (tr_nd cA' lA' rA' sA' tA' oA' qA') fR L → (∀ i, i ∉ tr_ns L → (tr_nd cA' lA' rA' sA' tA' oA' qA') i = (tr_nd cA lA rA sA tA oA qA) i) → L[k]? = some (j, c) → j < 60 → cA' j = nI c → post (nI j) (fR, fS, fC, fP, fL, fG, fB, fM, fA, cA', lA', rA', sA', tA', kA, oA', qA', eA, pA)) : wpX_nodeAt post (fR, fS, fC, fP, fL, fG, fB, fM, fA, cA, lA, rA, sA, tA, kA, oA, qA, eA, pA) (nI k) :=
  ⟨L.length + 1, wk_node10 L.length L (Nat.le_refl _) fR k 0 _ _ _ _ _ _ _ h hn hk (by omega) hp _ (Nat.lt_succ_self _)⟩
/-! the first loose close -/
def tr_an : Option Nat → Int32
  | none => -1
  | some p => nI p
theorem nu_osb {o p q : Nat} (h : q ≤ o) : nI o + (nI p - nI q) = nI (o - q + p) := by
  rw [← nI_add, ← pk_sub h, Int32.sub_eq_add_neg, Int32.sub_eq_add_neg, Int32.add_assoc, Int32.add_comm (nI p)]
theorem wk_flc11 {post : Int32 → SX → Prop} {k : Nat} (hk : k < 3) : ∀ (N : Nat) (L : tr_L), L.length ≤ N → ∀ (x : Int32) (o f st : Nat) (cA lA rA sA tA oA qA : Nat → Int32), tr_t (tr_nd cA lA rA sA tA oA qA) x L → (tr_ns L).Nodup → o + L.length ≤ 120 → f + L.length ≤ 120 → st + L.length ≤ 60 →
    (∀ cA' lA' rA' sA' tA' oA' qA' : Nat → Int32, tr_t (tr_nd cA' lA' rA' sA' tA' oA' qA') x L → (∀ i, i ∉ tr_ns L → (tr_nd cA' lA' rA' sA' tA' oA' qA') i = (tr_nd cA lA rA sA tA oA qA) i) → post (tr_an (bp_fc (k + 1) o f (tr_cs L))) (fR, fS, fC, fP, fL, fG, fB, fM, fA, cA', lA', rA', sA', tA', kA, oA', qA', eA, pA)) →
    ∀ n, N < n → wX_firstLooseClose_11 post (nI k) n x (nI o) (nI f) (nI st) fR fS fC fP fL fG fB fM fA cA lA rA sA tA kA oA qA eA pA := by
  intro N
  induction N with
  | zero =>
    intro L hL x o f st cA lA rA sA tA oA qA h hn ho2 hf2 hst hp n hN
    obtain ⟨n, rfl⟩ : ∃ k, n = k + 1 := ⟨n - 1, by omega⟩
    rcases tr_ptr h with ⟨e, eL⟩ | ⟨j, hj, e, hm2, hl⟩
    · subst e; subst eL
      have P : post (-1) (fR, fS, fC, fP, fL, fG, fB, fM, fA, cA, lA, rA, sA, tA, kA, oA, qA, eA, pA) := hp _ _ _ _ _ _ _ h (fun _ _ => rfl)
      exact br_c (fun _ => P) (fun _ => br_t nu_m1lt P)
    · omega
  | succ N ih =>
    intro L hL x o f st cA lA rA sA tA oA qA h hn ho2 hf2 hst hp n hN
    obtain ⟨n, rfl⟩ : ∃ k, n = k + 1 := ⟨n - 1, by omega⟩
    rcases tr_ptr h with ⟨e, eL⟩ | ⟨j, hj, e, hm2, hl⟩
    · subst e; subst eL
      have P : post (-1) (fR, fS, fC, fP, fL, fG, fB, fM, fA, cA, lA, rA, sA, tA, kA, oA, qA, eA, pA) := hp _ _ _ _ _ _ _ h (fun _ _ => rfl)
      exact br_c (fun _ => P) (fun _ => br_t nu_m1lt P)
    · subst e
      have ej : (nI j).toNatClampNeg = j := nI_clamp (by omega)
      have hin : vp_in (nI j) 60 := vp_in_nI hj (by omega)
      refine br_f (nI_ge (b := 60) (by omega) (by decide)) (br_f (nI_pos (by omega)) ?_)
      refine wk_settle hj h hn (by omega) (fun cA1 lA1 rA1 sA1 tA1 oA1 qA1 A B c eL ho hs hf => And.intro hin (nm_r (e' := lA1 j) (by rw [ej]) ?_))
      subst eL
      obtain ⟨nA, nB, hjA, hjB, hAB⟩ := tr_nd_app hn
      have hlen : (A ++ (j, c) :: B).length = A.length + 1 + B.length := by
        rw [List.length_append, List.length_cons]; omega
      have mem : ∀ i, i ∈ tr_ns (A ++ (j, c) :: B) ↔ i ∈ tr_ns A ∨ i = j ∨ i ∈ tr_ns B := by
        intro i
        rw [tr_ns_app, tr_ns_cons, List.mem_append, List.mem_cons]
      have hA : tr_t (tr_nd cA1 lA1 rA1 sA1 tA1 oA1 qA1) (lA1 j) A := ho.2.2.2.2.1
      have hB : tr_t (tr_nd cA1 lA1 rA1 sA1 tA1 oA1 qA1) (rA1 j) B := ho.2.2.2.2.2
      have hc6 := ho.2.1
      have hcd : cA1 j = nI c := ho.2.2.1
      have lA0 := bp_len (k + 1) (tr_cs A)
      rw [tr_cs_len] at lA0
      have eapp := bp_fc_app (k + 1) (c :: tr_cs B) (tr_cs A) o f
      have ecs : tr_cs (A ++ (j, c) :: B) = tr_cs A ++ c :: tr_cs B := by rw [tr_cs_app, tr_cs_cons]
      rw [ecs] at hp
      refine wk_closes hk hA (pk_le (bp_cl (k + 1) (tr_cs A)) o (fun hle => ?_) (fun hlt => nm_r (nI_1 st) ?_))
      · rw [if_neg (by omega), tr_cs_len] at eapp
        have k122 : ∀ o2 : Nat, bp_fc (k + 1) o f (tr_cs A ++ c :: tr_cs B) = bp_fc (k + 1) o2 (f + A.length + 1) (tr_cs B) → o2 + B.length ≤ 120 → wX_firstLooseClose_122 post (wX_firstLooseClose_11 post (nI k) n) (nI k) (nI j) (nI o2) (nI (f + A.length)) (nI st) fR fS fC fP fL fG fB fM fA cA1 lA1 rA1 sA1 tA1 kA oA1 qA1 eA pA := by
          intro o2 e2 hb
          rw [e2] at hp
          refine nm_r (nI_1 _) (And.intro hin (nm_r (e' := rA1 j) (by rw [ej]) (nm_r (nI_1 st) ?_)))
          refine ih B (by omega) (rA1 j) o2 _ (st + 1) _ _ _ _ _ _ _ hB nB hb (by omega) (by omega) (fun cA2 lA2 rA2 sA2 tA2 oA2 qA2 h2 hf2 => ?_) n (by omega)
          refine hp _ _ _ _ _ _ _ (tr_reR ho hs hn h2 hf2) ?_
          intro q hq
          rw [hf2 q (fun z => hq ((mem q).mpr (Or.inr (Or.inr z)))), hf q hq]
        have k107 : ∀ o2 : Nat, o2 + B.length + 1 ≤ 120 → (c = k + 1 → bp_fc (k + 1) o f (tr_cs A ++ c :: tr_cs B) = bp_fc (k + 1) (o2 + 1) (f + A.length + 1) (tr_cs B)) → (c ≠ k + 1 → bp_fc (k + 1) o f (tr_cs A ++ c :: tr_cs B) = bp_fc (k + 1) o2 (f + A.length + 1) (tr_cs B)) → wX_firstLooseClose_107 post (wX_firstLooseClose_11 post (nI k) n) (nI k) (nI j) (nI o2) (nI (f + A.length)) (nI st) fR fS fC fP fL fG fB fM fA cA1 lA1 rA1 sA1 tA1 kA oA1 qA1 eA pA := by
          intro o2 hb e1 e2
          refine And.intro hin ?_
          rw [ej, hcd, nI_1]
          exact pk_eq c (k + 1) (fun h => nm_r (nI_1 _) (k122 (o2 + 1) (e1 h) (by omega))) (fun h => k122 o2 (e2 h) (by omega))
        refine wk_opens hk hA (wk_closes hk hA (nm_r (nu_osb hle) (wk_size hA (nm_r (nI_add _ _) (And.intro hin ?_)))))
        rw [ej, hcd, nu_k4]
        refine pk_eq c (k + 4) (fun h4 => pk_eq (o - bp_cl (k + 1) (tr_cs A) + bp_op (k + 1) (tr_cs A)) 0 (fun h0 => ?_) (fun h0 => nm_r (nu_m (by omega)) (k107 _ (by omega) (fun z => by omega) (fun _ => ?_)))) (fun h4 => k107 _ (by omega) (fun z => ?_) (fun z => ?_))
        · subst h4
          rw [h0] at eapp
          have e3 : bp_fc (k + 1) o f (tr_cs A ++ (k + 4) :: tr_cs B) = some (f + A.length) := eapp.trans (bp_fc_z (k := k + 1))
          rw [e3] at hp
          exact hp _ _ _ _ _ _ _ (tr_ot ho hs) hf
        · subst h4
          exact eapp.trans (bp_fc_s (k := k + 1) (by omega))
        · subst z
          exact eapp.trans bp_fc_o
        · exact eapp.trans (bp_fc_n z h4)
      · rw [if_pos hlt] at eapp
        rw [eapp] at hp
        refine ih A (by omega) (lA1 j) o f (st + 1) _ _ _ _ _ _ _ hA nA (by omega) (by omega) (by omega) (fun cA2 lA2 rA2 sA2 tA2 oA2 qA2 h2 hf2 => ?_) n (by omega)
        refine hp _ _ _ _ _ _ _ (tr_reL ho hs hn h2 hf2) ?_
        intro q hq
        rw [hf2 q (fun z => hq ((mem q).mpr (Or.inl z))), hf q hq]
theorem wk_flc {post : Int32 → SX → Prop} {x : Int32} {L : tr_L} {k : Nat} (hk : k < 3) (h : tr_t (tr_nd cA lA rA sA tA oA qA) x L) (hn : (tr_ns L).Nodup) (hL : L.length ≤ 60)
    (hp : ∀ cA' lA' rA' sA' tA' oA' qA' : Nat → Int32, tr_t (tr_nd cA' lA' rA' sA' tA' oA' qA') x L → (∀ i, i ∉ tr_ns L → (tr_nd cA' lA' rA' sA' tA' oA' qA') i = (tr_nd cA lA rA sA tA oA qA) i) → post (tr_an (bp_fc (k + 1) 0 0 (tr_cs L))) (fR, fS, fC, fP, fL, fG, fB, fM, fA, cA', lA', rA', sA', tA', kA, oA', qA', eA, pA)) : wpX_firstLooseClose post (fR, fS, fC, fP, fL, fG, fB, fM, fA, cA, lA, rA, sA, tA, kA, oA, qA, eA, pA) x (nI k) :=
  ⟨L.length + 1, wk_flc11 hk L.length L (Nat.le_refl _) x 0 0 0 _ _ _ _ _ _ _ h hn (by omega) (by omega) (by omega) hp _ (Nat.lt_succ_self _)⟩
/-! the last loose one that waits for a close: the same over the mirror -/
def tr_al (E : Nat) : Option Nat → Int32
  | none => -1
  | some p => nI (E - 1 - p)
theorem wk_llo16 {post : Int32 → SX → Prop} {k E : Nat} (hk : k < 3) (hE : E ≤ 60) : ∀ (N : Nat) (L : tr_L), L.length ≤ N → ∀ (x : Int32) (o f st : Nat) (cA lA rA sA tA oA qA : Nat → Int32), tr_t (tr_nd cA lA rA sA tA oA qA) x L → (tr_ns L).Nodup → o + L.length ≤ 120 → f + L.length ≤ E → st + L.length ≤ 60 →
    (∀ cA' lA' rA' sA' tA' oA' qA' : Nat → Int32, tr_t (tr_nd cA' lA' rA' sA' tA' oA' qA') x L → (∀ i, i ∉ tr_ns L → (tr_nd cA' lA' rA' sA' tA' oA' qA') i = (tr_nd cA lA rA sA tA oA qA) i) → post (tr_al E (bp_fc (k + 1) o f (bp_mc (tr_cs L)))) (fR, fS, fC, fP, fL, fG, fB, fM, fA, cA', lA', rA', sA', tA', kA, oA', qA', eA, pA)) →
    ∀ n, N < n → wX_lastLooseOpen_16 post (nI k) n x (nI o) (nI (E - f)) (nI st) fR fS fC fP fL fG fB fM fA cA lA rA sA tA kA oA qA eA pA := by
  intro N
  induction N with
  | zero =>
    intro L hL x o f st cA lA rA sA tA oA qA h hn ho2 hf2 hst hp n hN
    obtain ⟨n, rfl⟩ : ∃ k, n = k + 1 := ⟨n - 1, by omega⟩
    rcases tr_ptr h with ⟨e, eL⟩ | ⟨j, hj, e, hm2, hl⟩
    · subst e; subst eL
      have P : post (-1) (fR, fS, fC, fP, fL, fG, fB, fM, fA, cA, lA, rA, sA, tA, kA, oA, qA, eA, pA) := hp _ _ _ _ _ _ _ h (fun _ _ => rfl)
      exact br_c (fun _ => P) (fun _ => br_t nu_m1lt P)
    · omega
  | succ N ih =>
    intro L hL x o f st cA lA rA sA tA oA qA h hn ho2 hf2 hst hp n hN
    obtain ⟨n, rfl⟩ : ∃ k, n = k + 1 := ⟨n - 1, by omega⟩
    rcases tr_ptr h with ⟨e, eL⟩ | ⟨j, hj, e, hm2, hl⟩
    · subst e; subst eL
      have P : post (-1) (fR, fS, fC, fP, fL, fG, fB, fM, fA, cA, lA, rA, sA, tA, kA, oA, qA, eA, pA) := hp _ _ _ _ _ _ _ h (fun _ _ => rfl)
      exact br_c (fun _ => P) (fun _ => br_t nu_m1lt P)
    · subst e
      have ej : (nI j).toNatClampNeg = j := nI_clamp (by omega)
      have hin : vp_in (nI j) 60 := vp_in_nI hj (by omega)
      refine br_f (nI_ge (b := 60) (by omega) (by decide)) (br_f (nI_pos (by omega)) ?_)
      refine wk_settle hj h hn (by omega) (fun cA1 lA1 rA1 sA1 tA1 oA1 qA1 A B c eL ho hs hf => And.intro hin (nm_r (e' := rA1 j) (by rw [ej]) ?_))
      subst eL
      obtain ⟨nA, nB, hjA, hjB, hAB⟩ := tr_nd_app hn
      have hlen : (A ++ (j, c) :: B).length = A.length + 1 + B.length := by
        rw [List.length_append, List.length_cons]; omega
      have mem : ∀ i, i ∈ tr_ns (A ++ (j, c) :: B) ↔ i ∈ tr_ns A ∨ i = j ∨ i ∈ tr_ns B := by
        intro i
        rw [tr_ns_app, tr_ns_cons, List.mem_append, List.mem_cons]
      have hA : tr_t (tr_nd cA1 lA1 rA1 sA1 tA1 oA1 qA1) (lA1 j) A := ho.2.2.2.2.1
      have hB : tr_t (tr_nd cA1 lA1 rA1 sA1 tA1 oA1 qA1) (rA1 j) B := ho.2.2.2.2.2
      have hc6 := ho.2.1
      have hcd : cA1 j = nI c := ho.2.2.1
      have lB0 := bp_len (k + 1) (tr_cs B)
      rw [tr_cs_len] at lB0
      have hfl := bp_fl_cs c
      have eapp := bp_fc_app (k + 1) (bp_fl c :: bp_mc (tr_cs A)) (bp_mc (tr_cs B)) o f
      rw [bp_mcl (by omega) (by omega), bp_mop (by omega) (by omega), bp_mc_len, tr_cs_len] at eapp
      have ecs : bp_mc (tr_cs (A ++ (j, c) :: B)) = bp_mc (tr_cs B) ++ bp_fl c :: bp_mc (tr_cs A) := by
        rw [tr_cs_app, tr_cs_cons, bp_mc_app, bp_mc_cons, List.append_assoc]
        rfl
      rw [ecs] at hp
      refine wk_opens hk hB (pk_le (bp_op (k + 1) (tr_cs B)) o (fun hle => ?_) (fun hlt => nm_r (nI_1 st) ?_))
      · rw [if_neg (by omega)] at eapp
        have k135 : ∀ o2 : Nat, bp_fc (k + 1) o f (bp_mc (tr_cs B) ++ bp_fl c :: bp_mc (tr_cs A)) = bp_fc (k + 1) o2 (f + B.length + 1) (bp_mc (tr_cs A)) → o2 + A.length ≤ 120 → wX_lastLooseOpen_135 post (wX_lastLooseOpen_16 post (nI k) n) (nI k) (nI j) (nI o2) (nI (E - (f + B.length))) (nI st) fR fS fC fP fL fG fB fM fA cA1 lA1 rA1 sA1 tA1 kA oA1 qA1 eA pA := by
          intro o2 e2 hb
          rw [e2] at hp
          refine nm_r (e' := nI (E - (f + B.length + 1))) (by rw [nu_m (by omega), show E - (f + B.length) - 1 = E - (f + B.length + 1) by omega]) (And.intro hin (nm_r (e' := lA1 j) (by rw [ej]) (nm_r (nI_1 st) ?_)))
          refine ih A (by omega) (lA1 j) o2 _ (st + 1) _ _ _ _ _ _ _ hA nA hb (by omega) (by omega) (fun cA2 lA2 rA2 sA2 tA2 oA2 qA2 h2 hf2 => ?_) n (by omega)
          refine hp _ _ _ _ _ _ _ (tr_reL ho hs hn h2 hf2) ?_
          intro q hq
          rw [hf2 q (fun z => hq ((mem q).mpr (Or.inl z))), hf q hq]
        have k119 : ∀ o2 : Nat, o2 + A.length + 1 ≤ 120 → (c = k + 4 → bp_fc (k + 1) o f (bp_mc (tr_cs B) ++ bp_fl c :: bp_mc (tr_cs A)) = bp_fc (k + 1) (o2 + 1) (f + B.length + 1) (bp_mc (tr_cs A))) → (c ≠ k + 4 → bp_fc (k + 1) o f (bp_mc (tr_cs B) ++ bp_fl c :: bp_mc (tr_cs A)) = bp_fc (k + 1) o2 (f + B.length + 1) (bp_mc (tr_cs A))) → wX_lastLooseOpen_119 post (wX_lastLooseOpen_16 post (nI k) n) (nI k) (nI j) (nI o2) (nI (E - (f + B.length))) (nI st) fR fS fC fP fL fG fB fM fA cA1 lA1 rA1 sA1 tA1 kA oA1 qA1 eA pA := by
          intro o2 hb e1 e2
          refine And.intro hin ?_
          rw [ej, hcd, nu_k4]
          exact pk_eq c (k + 4) (fun h => nm_r (nI_1 _) (k135 (o2 + 1) (e1 h) (by omega))) (fun h => k135 o2 (e2 h) (by omega))
        refine wk_closes hk hB (wk_opens hk hB (nm_r (nu_osb hle) (wk_size hB (nm_r (e' := nI (E - (f + B.length))) (by rw [pk_sub (by omega), show E - f - B.length = E - (f + B.length) by omega]) (And.intro hin ?_)))))
        rw [ej, hcd, nI_1]
        refine pk_eq c (k + 1) (fun h4 => pk_eq (o - bp_op (k + 1) (tr_cs B) + bp_cl (k + 1) (tr_cs B)) 0 (fun h0 => ?_) (fun h0 => nm_r (nu_m (by omega)) (k119 _ (by omega) (fun z => by omega) (fun _ => ?_)))) (fun h4 => k119 _ (by omega) (fun z => ?_) (fun z => ?_))
        · rw [h0, show bp_fl c = (k + 1) + 3 by omega] at eapp
          rw [show bp_fl c = (k + 1) + 3 by omega, eapp.trans bp_fc_z] at hp
          rw [nu_pr (by omega), show E - (f + B.length) - 1 = E - 1 - (f + B.length) by omega]
          exact hp _ _ _ _ _ _ _ (tr_ot ho hs) hf
        · rw [show bp_fl c = (k + 1) + 3 by omega] at eapp ⊢
          exact eapp.trans (bp_fc_s (by omega))
        · rw [show bp_fl c = k + 1 by omega] at eapp ⊢
          exact eapp.trans bp_fc_o
        · exact eapp.trans (bp_fc_n (by omega) (by omega))
      · rw [if_pos hlt] at eapp
        rw [eapp] at hp
        refine ih B (by omega) (rA1 j) o f (st + 1) _ _ _ _ _ _ _ hB nB (by omega) (by omega) (by omega) (fun cA2 lA2 rA2 sA2 tA2 oA2 qA2 h2 hf2 => ?_) n (by omega)
        refine hp _ _ _ _ _ _ _ (tr_reR ho hs hn h2 hf2) ?_
        intro q hq
        rw [hf2 q (fun z => hq ((mem q).mpr (Or.inr (Or.inr z)))), hf q hq]
theorem wk_llo {post : Int32 → SX → Prop} {x : Int32} {L : tr_L} {k e : Nat} (hk : k < 3) (he : e ≤ 1) (h : tr_t (tr_nd cA lA rA sA tA oA qA) x L) (hn : (tr_ns L).Nodup) (hL : L.length ≤ 60)
    (hp : ∀ cA' lA' rA' sA' tA' oA' qA' : Nat → Int32, tr_t (tr_nd cA' lA' rA' sA' tA' oA' qA') x L → (∀ i, i ∉ tr_ns L → (tr_nd cA' lA' rA' sA' tA' oA' qA') i = (tr_nd cA lA rA sA tA oA qA) i) → post (tr_al L.length (bp_fc (k + 1) e 0 (bp_mc (tr_cs L)))) (fR, fS, fC, fP, fL, fG, fB, fM, fA, cA', lA', rA', sA', tA', kA, oA', qA', eA, pA)) : wpX_lastLooseOpen post (fR, fS, fC, fP, fL, fG, fB, fM, fA, cA, lA, rA, sA, tA, kA, oA, qA, eA, pA) x (nI k) (nI e) := by
  unfold wpX_lastLooseOpen
  refine wk_size h ?_
  refine Exists.intro (L.length + 1) ?_
  exact wk_llo16 hk hL L.length L (Nat.le_refl _) x e 0 0 _ _ _ _ _ _ _ h hn (by omega) (by omega) (by omega) hp _ (Nat.lt_succ_self _)
end
end
section
section
variable {fR fS fC fP fL fG fB fM fA : Int32} {cA lA rA sA tA kA oA qA eA pA : Nat → Int32}
/-! length, stretches, taking apart, putting together -/
def bp_st (n : Nat) (v1 v2 : Int32) : Prop := ∃ a b : Nat, v1 = nI a ∧ v2 = nI b ∧ a + b ≤ n
/-- the ways two ints may lie to a text of n characters -/
theorem bp_stc (n : Nat) (v1 v2 : Int32) : v1 < 0 ∨ ∃ a : Nat, a < 2 ^ 31 ∧ v1 = nI a ∧ (n < a ∨ (a ≤ n ∧ (v2 < 0 ∨ ∃ b : Nat, b < 2 ^ 31 ∧ v2 = nI b ∧ (n - a < b ∨ b ≤ n - a)))) := by
  by_cases h1 : v1 < 0
  · exact Or.inl h1
  · obtain ⟨a, ha, e⟩ := nI_of h1
    refine Or.inr ⟨a, ha, e, ?_⟩
    by_cases h2 : n < a
    · exact Or.inl h2
    · refine Or.inr ⟨by omega, ?_⟩
      by_cases h3 : v2 < 0
      · exact Or.inl h3
      · obtain ⟨b, hb, e2⟩ := nI_of h3
        exact Or.inr ⟨b, hb, e2, by omega⟩
theorem bp_nst1 {n : Nat} {v1 v2 : Int32} (hn : n ≤ 60) (h : v1 < 0) : ¬ bp_st n v1 v2 := by
  rintro ⟨a, b, e1, e2, h2⟩
  rw [e1] at h
  exact nI_pos (by omega) h
theorem bp_nst2 {n a : Nat} {v2 : Int32} (hn : n ≤ 60) (ha : a < 2 ^ 31) (h : n < a) : ¬ bp_st n (nI a) v2 := by
  rintro ⟨a', b, e1, e2, h2⟩
  have := nu_im e1 ha (by omega)
  omega
theorem bp_nst3 {n : Nat} {v1 v2 : Int32} (hn : n ≤ 60) (h : v2 < 0) : ¬ bp_st n v1 v2 := by
  rintro ⟨a, b, e1, e2, h2⟩
  rw [e2] at h
  exact nI_pos (by omega) h
theorem bp_nst4 {n a b : Nat} (hn : n ≤ 60) (ha : a < 2 ^ 31) (hb : b < 2 ^ 31) (h0 : a ≤ n) (h : n - a < b) : ¬ bp_st n (nI a) (nI b) := by
  rintro ⟨a', b', e1, e2, h2⟩
  have := nu_im e1 ha (by omega)
  have := nu_im e2 hb (by omega)
  omega
theorem wk_len {post : Int32 → Prop} {L : tr_L} (h : tr_t (tr_nd cA lA rA sA tA oA qA) fR L) (hp : post (nI L.length)) : wpX_textLength post (fR, fS, fC, fP, fL, fG, fB, fM, fA, cA, lA, rA, sA, tA, kA, oA, qA, eA, pA) := by
  unfold wpX_textLength
  exact wk_size h hp
theorem wk_st {post : Int32 → Prop} {L : tr_L} {v1 v2 : Int32} (h : tr_t (tr_nd cA lA rA sA tA oA qA) fR L) (hL : L.length ≤ 60) (h1 : ∀ a b : Nat, v1 = nI a → v2 = nI b → a + b ≤ L.length → post 1) (h0 : ¬ bp_st L.length v1 v2 → post 0) : wpX_isStretch post (fR, fS, fC, fP, fL, fG, fB, fM, fA, cA, lA, rA, sA, tA, kA, oA, qA, eA, pA) v1 v2 := by
  unfold wpX_isStretch
  refine wk_len h ?_
  rcases bp_stc L.length v1 v2 with hv | ⟨a, ha, e1, hv | ⟨hle, hv | ⟨b, hb, e2, hv | hv⟩⟩⟩
  · exact br_t hv (h0 (bp_nst1 hL hv))
  · subst e1
    exact br_f (nI_pos ha) (br_t (nI_lt hv ha) (h0 (bp_nst2 hL ha hv)))
  · subst e1
    exact br_f (nI_pos ha) (br_f (nI_nlt hle (by omega)) (br_f (Int32.not_le.mpr hv) (h0 (bp_nst3 hL hv))))
  · subst e1; subst e2
    refine br_f (nI_pos ha) (br_f (nI_nlt hle (by omega)) (br_t (nI_pos' hb) ?_))
    rw [pk_sub hle]
    exact br_t (nI_lt hv hb) (h0 (bp_nst4 hL ha hb hle hv))
  · subst e1; subst e2
    refine br_f (nI_pos ha) (br_f (nI_nlt hle (by omega)) (br_t (nI_pos' hb) ?_))
    rw [pk_sub hle]
    exact br_f (nI_nlt hv (by omega)) (h1 a b rfl rfl (by omega))
theorem wk_apart {post : SX → Prop} {L : tr_L} {a b : Nat} (h : tr_t (tr_nd cA lA rA sA tA oA qA) fR L) (hn : (tr_ns L).Nodup) (hab : a + b ≤ L.length) (hL : L.length ≤ 60)
    (hp : ∀ (xb xm xa fP' fL' fG' : Int32) (cA' lA' rA' sA' tA' oA' qA' pA' : Nat → Int32), tr_t (tr_nd cA' lA' rA' sA' tA' oA' qA') xb (L.take a) → tr_t (tr_nd cA' lA' rA' sA' tA' oA' qA') xm ((L.drop a).take b) → tr_t (tr_nd cA' lA' rA' sA' tA' oA' qA') xa ((L.drop a).drop b) → (∀ i, i ∉ tr_ns L → (tr_nd cA' lA' rA' sA' tA' oA' qA') i = (tr_nd cA lA rA sA tA oA qA) i) → post (fR, fS, fC, fP', fL', fG', xb, xm, xa, cA', lA', rA', sA', tA', kA, oA', qA', eA, pA')) : wpX_takeApart post (fR, fS, fC, fP, fL, fG, fB, fM, fA, cA, lA, rA, sA, tA, kA, oA, qA, eA, pA) (nI a) (nI b) := by
  unfold wpX_takeApart
  refine wk_cut h hn (by omega) hL (fun xl xr fP' cA1 lA1 rA1 sA1 tA1 oA1 qA1 pA1 h1 h2 hf => ?_)
  have hnd : (tr_ns (L.take a ++ L.drop a)).Nodup := by rw [List.take_append_drop]; exact hn
  rw [tr_ns_app, List.nodup_append] at hnd
  have hsub : ∀ i, i ∈ tr_ns (L.drop a) → i ∈ tr_ns L := fun i hi => (List.Sublist.map Prod.fst (List.drop_sublist a L)).subset hi
  refine wk_cut h2 hnd.2.1 (by rw [List.length_drop]; omega) (by rw [List.length_drop]; omega) (fun xm xa fP2 cA2 lA2 rA2 sA2 tA2 oA2 qA2 pA2 h3 h4 hf2 => ?_)
  refine hp xl xm xa fP2 xm xa _ _ _ _ _ _ _ pA2 (tr_fr h1 (fun i hi => hf2 i (fun z => hnd.2.2 i hi i z rfl))) h3 h4 ?_
  intro i hi
  rw [hf2 i (fun z => hi (hsub i z)), hf i hi]
theorem wk_put {post : SX → Prop} {A B C : tr_L} (hA : tr_t (tr_nd cA lA rA sA tA oA qA) fB A) (hB : tr_t (tr_nd cA lA rA sA tA oA qA) fM B) (hC : tr_t (tr_nd cA lA rA sA tA oA qA) fA C) (hn : (tr_ns (A ++ (B ++ C))).Nodup) (hL : A.length + (B.length + C.length) ≤ 60)
    (hp : ∀ (tp fP' : Int32) (cA' lA' rA' sA' tA' oA' qA' pA' : Nat → Int32), tr_t (tr_nd cA' lA' rA' sA' tA' oA' qA') tp (A ++ (B ++ C)) → (∀ i, i ∉ tr_ns (A ++ (B ++ C)) → (tr_nd cA' lA' rA' sA' tA' oA' qA') i = (tr_nd cA lA rA sA tA oA qA) i) → post (tp, fS, fC, fP', fL, fG, fB, fM, fA, cA', lA', rA', sA', tA', kA, oA', qA', eA, pA')) : wpX_putTogether post (fR, fS, fC, fP, fL, fG, fB, fM, fA, cA, lA, rA, sA, tA, kA, oA, qA, eA, pA) := by
  unfold wpX_putTogether
  rw [← List.append_assoc] at hn hp
  have hnd := hn
  rw [tr_ns_app, List.nodup_append] at hnd
  refine wk_join hA hB hnd.1 (by omega) (fun tp fP' cA1 lA1 rA1 sA1 tA1 oA1 qA1 pA1 h1 hf => ?_)
  have hC1 : tr_t (tr_nd cA1 lA1 rA1 sA1 tA1 oA1 qA1) fA C := tr_fr hC (fun i hi => hf i (fun z => hnd.2.2 i z i hi rfl))
  refine wk_join h1 hC1 hn (by rw [List.length_append]; omega) (fun tp2 fP2 cA2 lA2 rA2 sA2 tA2 oA2 qA2 pA2 h2 hf2 => ?_)
  refine hp tp2 fP2 _ _ _ _ _ _ _ pA2 h2 ?_
  intro i hi
  rw [hf2 i hi, hf i (fun z => hi ?_)]
  rw [tr_ns_app, List.mem_append]
  exact Or.inl z
theorem tr_one {D : Nat → tr_N} {x : Int32} {j c : Nat} (h : tr_t D x [(j, c)]) : x = nI j ∧ j < 60 ∧ c ≤ 6 ∧ tr_cd (D j) = nI c := by
  rcases tr_inv h with ⟨_, e⟩ | ⟨i, d, A, B, e, ok, _, _, eL⟩
  · exact nomatch e
  · have hl := congrArg List.length eL
    rw [tr_rd_len] at hl
    have hA : A = [] := List.eq_nil_of_length_eq_zero (by simp at hl; omega)
    have hB : B = [] := List.eq_nil_of_length_eq_zero (by simp at hl; omega)
    subst hA; subst hB
    have e2 : (j, c) = (i, d) := by
      have e3 : tr_rd (tr_tn (D i)) [] (i, d) [] = [(i, d)] := by
        unfold tr_rd
        split <;> rfl
      rw [e3] at eL
      injection eL
    injection e2 with e4 e5
    subst e4; subst e5
    exact ⟨e, ok.1, ok.2.1, ok.2.2.1⟩
theorem wk_pairs {post : Int32 → Prop} {A C : tr_L} {k j c : Nat} (hk : k < 3) (hA : tr_t (tr_nd cA lA rA sA tA oA qA) fB A) (hM : tr_t (tr_nd cA lA rA sA tA oA qA) fM [(j, c)]) (hC : tr_t (tr_nd cA lA rA sA tA oA qA) fA C) (hl : A.length + C.length ≤ 60)
    (hp : post (nI (min (if c = (k + 1) + 3 then bp_op (k + 1) (tr_cs A) - 1 else bp_op (k + 1) (tr_cs A)) (if c = k + 1 then bp_cl (k + 1) (tr_cs C) - 1 else bp_cl (k + 1) (tr_cs C))))) : wpX_pairsAround post (fR, fS, fC, fP, fL, fG, fB, fM, fA, cA, lA, rA, sA, tA, kA, oA, qA, eA, pA) (nI (k + 1)) := by
  obtain ⟨e, hj, hc, hcd⟩ := tr_one hM
  subst e
  have hcd : cA j = nI c := hcd
  have l1 := bp_len (k + 1) (tr_cs A)
  have l2 := bp_len (k + 1) (tr_cs C)
  rw [tr_cs_len] at l1 l2
  have k63 : ∀ w v : Nat, w ≤ 60 → v ≤ 60 → post (nI (min w v)) → wX_pairsAround_63 post (nI w) (nI v) fR fS fC fP fL fG fB (nI j) fA cA lA rA sA tA kA oA qA eA pA := by
    intro w v hw hv h
    refine pk_le v w (fun z => ?_) (fun z => ?_)
    · rw [Nat.min_eq_right z] at h; exact h
    · rw [Nat.min_eq_left (Nat.le_of_lt z)] at h; exact h
  have k50 : ∀ w : Nat, w ≤ 60 → post (nI (min w (if c = k + 1 then bp_cl (k + 1) (tr_cs C) - 1 else bp_cl (k + 1) (tr_cs C)))) → wX_pairsAround_50 post (nI (k + 1)) (nI w) (nI (bp_cl (k + 1) (tr_cs C))) (nI c) fR fS fC fP fL fG fB (nI j) fA cA lA rA sA tA kA oA qA eA pA := by
    intro w hw h
    refine pk_eq c (k + 1) (fun z => ?_) (fun z => ?_)
    · rw [if_pos z] at h
      refine pk_le (bp_cl (k + 1) (tr_cs C)) 0 (fun z2 => k63 _ _ hw (by omega) ?_) (fun z2 => nm_r (nu_m z2) (k63 _ _ hw (by omega) h))
      rw [show bp_cl (k + 1) (tr_cs C) - 1 = bp_cl (k + 1) (tr_cs C) by omega] at h
      exact h
    · rw [if_neg z] at h
      exact k63 _ _ hw (by omega) h
  unfold wpX_pairsAround
  rw [nI_pred]
  refine wk_opens hk hA (wk_closes hk hC (And.intro (vp_in_nI hj (by omega)) (nm_r (e' := nI c) (by rw [nI_clamp (by omega), hcd]) ?_)))
  rw [nu_k3]
  refine pk_eq c ((k + 1) + 3) (fun z => ?_) (fun z => ?_)
  · rw [if_pos z] at hp
    refine pk_le (bp_op (k + 1) (tr_cs A)) 0 (fun z2 => k50 _ (by omega) ?_) (fun z2 => nm_r (nu_m z2) (k50 _ (by omega) hp))
    rw [show bp_op (k + 1) (tr_cs A) - 1 = bp_op (k + 1) (tr_cs A) by omega] at hp
    exact hp
  · rw [if_neg z] at hp
    exact k50 _ (by omega) hp
end
end
section
section
variable {fR fS fC fP fL fG fB fM fA : Int32} {cA lA rA sA tA kA oA qA eA pA : Nat → Int32}
/-! X's public methods that only ask -/
def tr_I (u : SX) (L : tr_L) : Prop := match u with
  | (fR, fS, fC, fP, fL, fG, fB, fM, fA, cA, lA, rA, sA, tA, kA, oA, qA, eA, pA) => ∃ F : List Nat, tr_t (tr_nd cA lA rA sA tA oA qA) fR L ∧ (tr_ns L ++ F).Perm (List.range 60) ∧ tr_ar eA F ∧ fC = nI F.length
theorem tr_pm {L : tr_L} {F : List Nat} (h : (tr_ns L ++ F).Perm (List.range 60)) : (tr_ns L).Nodup ∧ L.length + F.length = 60 ∧ ∀ j, j ∈ F → j < 60 ∧ j ∉ tr_ns L := by
  have hn : (tr_ns L ++ F).Nodup := h.nodup_iff.mpr List.nodup_range
  have hl := h.length_eq
  rw [List.length_append, tr_ns_len, List.length_range] at hl
  rw [List.nodup_append] at hn
  refine ⟨hn.1, hl, fun j hj => ⟨?_, fun z => hn.2.2 j z j hj rfl⟩⟩
  exact List.mem_range.mp (h.mem_iff.mp (List.mem_append.mpr (Or.inr hj)))
def bp_pl (n : Nat) (v : Int32) : Prop := ∃ a : Nat, a < n ∧ v = nI a
def bp_kd (v : Int32) : Prop := ∃ k : Nat, k < 3 ∧ v = nI (k + 1)
theorem bp_plc {n : Nat} (hn : n ≤ 60) (v : Int32) : (v < 0 ∧ ¬ bp_pl n v) ∨ ∃ a : Nat, a < 2 ^ 31 ∧ v = nI a ∧ ((n ≤ a ∧ ¬ bp_pl n v) ∨ a < n) := by
  by_cases h : v < 0
  · refine Or.inl ⟨h, ?_⟩
    rintro ⟨a, ha, e⟩
    rw [e] at h
    exact nI_pos (by omega) h
  · obtain ⟨a, ha, e⟩ := nI_of h
    refine Or.inr ⟨a, ha, e, ?_⟩
    by_cases h2 : a < n
    · exact Or.inr h2
    · refine Or.inl ⟨by omega, ?_⟩
      rintro ⟨b, hb, e2⟩
      have := nu_im (e.symm.trans e2) ha (by omega)
      omega
theorem bp_kdc (v : Int32) : (v < 1 ∧ ¬ bp_kd v) ∨ (¬ v < 1 ∧ ¬ v ≤ 3 ∧ ¬ bp_kd v) ∨ (∃ k : Nat, k < 3 ∧ v = nI (k + 1) ∧ ¬ v < 1 ∧ v ≤ 3) := by
  have e1 : (1 : Int32).toInt = 1 := by decide
  have e3 : (3 : Int32).toInt = 3 := by decide
  by_cases h1 : v < 1
  · refine Or.inl ⟨h1, ?_⟩
    rintro ⟨k, hk, e⟩
    rw [e] at h1
    exact nI_nlt (b := 1) (by omega) (by omega) h1
  · by_cases h3 : v ≤ 3
    · have h0 : ¬ v < 0 := by
        intro z
        rw [Int32.lt_iff_toInt_lt] at z h1
        have : (0 : Int32).toInt = 0 := by decide
        omega
      obtain ⟨a, ha, e⟩ := nI_of h0
      have ha1 : 1 ≤ a := by
        by_cases z : a < 1
        · exact absurd (by rw [e]; exact nI_lt (b := 1) z (by omega)) h1
        · omega
      have ha3 : a ≤ 3 := by
        by_cases z : 3 < a
        · exact absurd h3 (by rw [e]; exact nI_ge (a := 3) z ha)
        · omega
      exact Or.inr (Or.inr ⟨a - 1, by omega, by rw [e, show a - 1 + 1 = a by omega], h1, h3⟩)
    · refine Or.inr (Or.inl ⟨h1, h3, ?_⟩)
      rintro ⟨k, hk, e⟩
      rw [e] at h3
      exact h3 (nI_le (b := 3) (by omega) (by omega))
theorem tr_dr {L : tr_L} {a : Nat} {e : Nat × Nat} (h : L[a]? = some e) : L.drop a = e :: L.drop (a + 1) := by
  obtain ⟨ha, e2⟩ := List.getElem?_eq_some_iff.mp h
  rw [List.drop_eq_getElem_cons ha, e2]
theorem tr_ge {L : tr_L} {a : Nat} (h : a < L.length) : ∃ j c, L[a]? = some (j, c) := ⟨(L[a]).1, (L[a]).2, List.getElem?_eq_getElem h⟩
theorem tr_cs_ge {L : tr_L} {a j c : Nat} (h : L[a]? = some (j, c)) : (tr_cs L)[a]? = some c := by
  unfold tr_cs
  rw [List.getElem?_map, h]
  rfl
theorem tr_cs_take (L : tr_L) (a : Nat) : tr_cs (L.take a) = (tr_cs L).take a := List.map_take
theorem tr_cs_drop (L : tr_L) (a : Nat) : tr_cs (L.drop a) = (tr_cs L).drop a := List.map_drop
theorem wk_apart1 {post : SX → Prop} {L : tr_L} {a j c : Nat} (h : tr_t (tr_nd cA lA rA sA tA oA qA) fR L) (hn : (tr_ns L).Nodup) (he : L[a]? = some (j, c)) (hL : L.length ≤ 60)
    (hp : ∀ (xb xm xa fP' fL' fG' : Int32) (cA' lA' rA' sA' tA' oA' qA' pA' : Nat → Int32), tr_t (tr_nd cA' lA' rA' sA' tA' oA' qA') xb (L.take a) → tr_t (tr_nd cA' lA' rA' sA' tA' oA' qA') xm [(j, c)] → tr_t (tr_nd cA' lA' rA' sA' tA' oA' qA') xa (L.drop (a + 1)) → post (fR, fS, fC, fP', fL', fG', xb, xm, xa, cA', lA', rA', sA', tA', kA, oA', qA', eA, pA')) : wpX_takeApart post (fR, fS, fC, fP, fL, fG, fB, fM, fA, cA, lA, rA, sA, tA, kA, oA, qA, eA, pA) (nI a) 1 := by
  have ha : a < L.length := (List.getElem?_eq_some_iff.mp he).1
  refine wk_apart (b := 1) h hn (by omega) hL (fun xb xm xa fP' fL' fG' cA' lA' rA' sA' tA' oA' qA' pA' h1 h2 h3 _ => ?_)
  rw [tr_dr he] at h2 h3
  exact hp _ _ _ _ _ _ _ _ _ _ _ _ _ _ h1 h2 h3
theorem wk_put1 {post : SX → Prop} {L : tr_L} {a j c : Nat} (hn : (tr_ns L).Nodup) (he : L[a]? = some (j, c)) (hL : L.length ≤ 60) (hA : tr_t (tr_nd cA lA rA sA tA oA qA) fB (L.take a)) (hB : tr_t (tr_nd cA lA rA sA tA oA qA) fM [(j, c)]) (hC : tr_t (tr_nd cA lA rA sA tA oA qA) fA (L.drop (a + 1)))
    (hp : ∀ (tp fP' : Int32) (cA' lA' rA' sA' tA' oA' qA' pA' : Nat → Int32), tr_t (tr_nd cA' lA' rA' sA' tA' oA' qA') tp L → post (tp, fS, fC, fP', fL, fG, fB, fM, fA, cA', lA', rA', sA', tA', kA, oA', qA', eA, pA')) : wpX_putTogether post (fR, fS, fC, fP, fL, fG, fB, fM, fA, cA, lA, rA, sA, tA, kA, oA, qA, eA, pA) := by
  have ha : a < L.length := (List.getElem?_eq_some_iff.mp he).1
  have e : L.take a ++ ([(j, c)] ++ L.drop (a + 1)) = L := by
    show L.take a ++ (j, c) :: L.drop (a + 1) = L
    rw [← tr_dr he, List.take_append_drop]
  refine wk_put hA hB hC (by rw [e]; exact hn) ?_ (fun tp fP' cA' lA' rA' sA' tA' oA' qA' pA' h1 _ => ?_)
  · rw [List.length_take, List.length_singleton, List.length_drop]; omega
  · rw [e] at h1
    exact hp _ _ _ _ _ _ _ _ _ _ h1
theorem wk_put2 {post : SX → Prop} {L : tr_L} {a b : Nat} (hn : (tr_ns L).Nodup) (hab : a + b ≤ L.length) (hL : L.length ≤ 60) (hA : tr_t (tr_nd cA lA rA sA tA oA qA) fB (L.take a)) (hB : tr_t (tr_nd cA lA rA sA tA oA qA) fM ((L.drop a).take b)) (hC : tr_t (tr_nd cA lA rA sA tA oA qA) fA ((L.drop a).drop b))
    (hp : ∀ (tp fP' : Int32) (cA' lA' rA' sA' tA' oA' qA' pA' : Nat → Int32), tr_t (tr_nd cA' lA' rA' sA' tA' oA' qA') tp L → post (tp, fS, fC, fP', fL, fG, fB, fM, fA, cA', lA', rA', sA', tA', kA, oA', qA', eA, pA')) : wpX_putTogether post (fR, fS, fC, fP, fL, fG, fB, fM, fA, cA, lA, rA, sA, tA, kA, oA, qA, eA, pA) := by
  have e : L.take a ++ ((L.drop a).take b ++ (L.drop a).drop b) = L := by
    rw [List.take_append_drop, List.take_append_drop]
  refine wk_put hA hB hC (by rw [e]; exact hn) ?_ (fun tp fP' cA' lA' rA' sA' tA' oA' qA' pA' h1 _ => ?_)
  · simp only [List.length_take, List.length_drop]; omega
  · rw [e] at h1
    exact hp _ _ _ _ _ _ _ _ _ _ h1
theorem xm_codeAt {post : Int32 → SX → Prop} {u : SX} {L : tr_L} {v1 : Int32} (I : tr_I u L) (hb : ¬ bp_pl L.length v1 → post (-1) u) (ho : ∀ a c : Nat, v1 = nI a → (tr_cs L)[a]? = some c → ∀ u' : SX, tr_I u' L → post (nI c) u') : wpX_codeAt post u v1 := by
  obtain ⟨fR, fS, fC, fP, fL, fG, fB, fM, fA, cA, lA, rA, sA, tA, kA, oA, qA, eA, pA⟩ := u
  obtain ⟨F, h, hP, har, hC⟩ := I
  obtain ⟨hn, hl, _⟩ := tr_pm hP
  rcases bp_plc (n := L.length) (by omega) v1 with ⟨hv, hnp⟩ | ⟨a, ha, e, ⟨hle, hnp⟩ | hlt⟩
  · exact br_t hv (hb hnp)
  · subst e
    exact br_f (nI_pos ha) (wk_len h (br_f (nI_nlt hle (by omega)) (hb hnp)))
  · subst e
    refine br_f (nI_pos ha) (wk_len h (br_t (nI_lt hlt (by omega)) (wk_nodeAt h hn hlt (by omega) (fun j c cA' lA' rA' sA' tA' oA' qA' h1 _ hk hj hc => And.intro (vp_in_nI hj (by omega)) ?_))))
    rw [nI_clamp (by omega), hc]
    exact ho a c rfl (tr_cs_ge hk) _ ⟨F, h1, hP, har, hC⟩
theorem xm_depth {post : Int32 → SX → Prop} {u : SX} {L : tr_L} {v1 v2 : Int32} (I : tr_I u L) (hb : ¬ (bp_pl L.length v1 ∧ bp_kd v2) → post (-1) u)
    (ho : ∀ a k c : Nat, v1 = nI a → v2 = nI (k + 1) → k < 3 → (tr_cs L)[a]? = some c → ∀ u' : SX, tr_I u' L → post (nI (bp_f (k + 1) (tr_cs L) (a + 1) 0 - bp_f (k + 1) (tr_cs L) (a + 1) a)) u') : wpX_depth post u v1 v2 := by
  obtain ⟨fR, fS, fC, fP, fL, fG, fB, fM, fA, cA, lA, rA, sA, tA, kA, oA, qA, eA, pA⟩ := u
  obtain ⟨F, h, hP, har, hC⟩ := I
  obtain ⟨hn, hl, _⟩ := tr_pm hP
  rcases bp_plc (n := L.length) (by omega) v1 with ⟨hv, hnp⟩ | ⟨a, ha, e, ⟨hle, hnp⟩ | hlt⟩
  · exact br_t hv (hb (fun z => hnp z.1))
  · subst e
    exact br_f (nI_pos ha) (wk_len h (br_t (nI_le hle ha) (hb (fun z => hnp z.1))))
  · subst e
    refine br_f (nI_pos ha) (wk_len h (br_f (nI_ge hlt (by omega)) ?_))
    rcases bp_kdc v2 with ⟨k1, hnk⟩ | ⟨k1, k3, hnk⟩ | ⟨k, hk, e2, k1, k3⟩
    · exact br_t k1 (hb (fun z => hnk z.2))
    · exact br_f k1 (br_f k3 (hb (fun z => hnk z.2)))
    · subst e2
      obtain ⟨j, c, he⟩ := tr_ge hlt
      refine br_f k1 (br_t k3 (wk_apart1 h hn he (by omega) (fun xb xm xa fP' fL' fG' cA' lA' rA' sA' tA' oA' qA' pA' h1 h2 h3 => ?_)))
      refine wk_pairs hk h1 h2 h3 (by rw [List.length_take, List.length_drop]; omega) ?_
      refine wk_put1 hn he (by omega) h1 h2 h3 (fun tp fP2 cA2 lA2 rA2 sA2 tA2 oA2 qA2 pA2 h4 => ?_)
      rw [tr_cs_take, tr_cs_drop, ← bp_depth (tr_cs_ge he)]
      exact ho a k c rfl rfl hk (tr_cs_ge he) _ ⟨F, h4, hP, har, hC⟩
theorem xm_looseOpen {post : Int32 → SX → Prop} {u : SX} {L : tr_L} {v1 v2 v3 : Int32} (I : tr_I u L) (hb : ¬ (bp_st L.length v1 v2 ∧ bp_kd v3) → post (-1) u)
    (ho : ∀ a b k : Nat, v1 = nI a → v2 = nI b → v3 = nI (k + 1) → k < 3 → a + b ≤ L.length → ∀ u' : SX, tr_I u' L → post (nI (bp_op (k + 1) (bp_sg (tr_cs L) a (a + b)))) u') : wpX_looseOpen post u v1 v2 v3 := by
  obtain ⟨fR, fS, fC, fP, fL, fG, fB, fM, fA, cA, lA, rA, sA, tA, kA, oA, qA, eA, pA⟩ := u
  obtain ⟨F, h, hP, har, hC⟩ := I
  obtain ⟨hn, hl, _⟩ := tr_pm hP
  unfold wpX_looseOpen
  refine wk_st h (by omega) (fun a b e1 e2 hab => ?_) (fun hns => br_t rfl (hb (fun z => hns z.1)))
  subst e1; subst e2
  refine br_f (by decide) ?_
  rcases bp_kdc v3 with ⟨k1, hnk⟩ | ⟨k1, k3, hnk⟩ | ⟨k, hk, e2, k1, k3⟩
  · exact br_t k1 (hb (fun z => hnk z.2))
  · exact br_f k1 (br_f k3 (hb (fun z => hnk z.2)))
  · subst e2
    refine br_f k1 (br_t k3 (wk_apart h hn hab (by omega) (fun xb xm xa fP' fL' fG' cA' lA' rA' sA' tA' oA' qA' pA' h1 h2 h3 _ => ?_)))
    rw [nI_pred]
    refine wk_opens hk h2 (wk_put2 hn hab (by omega) h1 h2 h3 (fun tp fP2 cA2 lA2 rA2 sA2 tA2 oA2 qA2 pA2 h4 => ?_))
    have e3 : tr_cs ((L.drop a).take b) = bp_sg (tr_cs L) a (a + b) := by
      unfold bp_sg
      rw [tr_cs_take, tr_cs_drop, Nat.add_sub_cancel_left]
    rw [e3]
    exact ho a b k rfl rfl rfl hk hab _ ⟨F, h4, hP, har, hC⟩
theorem xm_looseClose {post : Int32 → SX → Prop} {u : SX} {L : tr_L} {v1 v2 v3 : Int32} (I : tr_I u L) (hb : ¬ (bp_st L.length v1 v2 ∧ bp_kd v3) → post (-1) u)
    (ho : ∀ a b k : Nat, v1 = nI a → v2 = nI b → v3 = nI (k + 1) → k < 3 → a + b ≤ L.length → ∀ u' : SX, tr_I u' L → post (nI (bp_cl (k + 1) (bp_sg (tr_cs L) a (a + b)))) u') : wpX_looseClose post u v1 v2 v3 := by
  obtain ⟨fR, fS, fC, fP, fL, fG, fB, fM, fA, cA, lA, rA, sA, tA, kA, oA, qA, eA, pA⟩ := u
  obtain ⟨F, h, hP, har, hC⟩ := I
  obtain ⟨hn, hl, _⟩ := tr_pm hP
  unfold wpX_looseClose
  refine wk_st h (by omega) (fun a b e1 e2 hab => ?_) (fun hns => br_t rfl (hb (fun z => hns z.1)))
  subst e1; subst e2
  refine br_f (by decide) ?_
  rcases bp_kdc v3 with ⟨k1, hnk⟩ | ⟨k1, k3, hnk⟩ | ⟨k, hk, e2, k1, k3⟩
  · exact br_t k1 (hb (fun z => hnk z.2))
  · exact br_f k1 (br_f k3 (hb (fun z => hnk z.2)))
  · subst e2
    refine br_f k1 (br_t k3 (wk_apart h hn hab (by omega) (fun xb xm xa fP' fL' fG' cA' lA' rA' sA' tA' oA' qA' pA' h1 h2 h3 _ => ?_)))
    rw [nI_pred]
    refine wk_closes hk h2 (wk_put2 hn hab (by omega) h1 h2 h3 (fun tp fP2 cA2 lA2 rA2 sA2 tA2 oA2 qA2 pA2 h4 => ?_))
    have e3 : tr_cs ((L.drop a).take b) = bp_sg (tr_cs L) a (a + b) := by
      unfold bp_sg
      rw [tr_cs_take, tr_cs_drop, Nat.add_sub_cancel_left]
    rw [e3]
    exact ho a b k rfl rfl rfl hk hab _ ⟨F, h4, hP, har, hC⟩
end
end
section
section
variable {fR fS fC fP fL fG fB fM fA : Int32} {cA lA rA sA tA kA oA qA eA pA : Nat → Int32}
/-! partner and around -/
def bp_par (tx : List Nat) (a : Nat) (r : Int32) : Prop := (∃ k q : Nat, 1 ≤ k ∧ k ≤ 3 ∧ (bp_pr k tx a q ∨ bp_pr k tx q a) ∧ r = nI q) ∨ ((∀ k q : Nat, 1 ≤ k → k ≤ 3 → ¬ (bp_pr k tx a q ∨ bp_pr k tx q a)) ∧ r = -3)
def bp_arr (k : Nat) (tx : List Nat) (a : Nat) (r : Int32) : Prop := (∃ i : Nat, i < a ∧ bp_cnt k tx (a + 1) i ∧ (∀ i', i < i' → i' < a → ¬ bp_cnt k tx (a + 1) i') ∧ r = nI i) ∨ ((∀ i, i < a → ¬ bp_cnt k tx (a + 1) i) ∧ r = -3)
theorem bp_par_u {tx : List Nat} {a : Nat} {r r' : Int32} (h : bp_par tx a r) (h' : bp_par tx a r') : r' = r := by
  rcases h with ⟨k, q, h1, h3, hq, e⟩ | ⟨hn, e⟩
  · rcases h' with ⟨k', q', h1', h3', hq', e'⟩ | ⟨hn', e'⟩
    · rw [e, e']
      congr 1
      rcases hq with hq | hq
      · rcases hq' with hq' | hq'
        · have ek : k = k' := by
            have := hq.2.1.symm.trans hq'.2.1
            injection this
          subst ek
          exact bp_pr_u hq' hq
        · have ek : k = k' + 3 := by
            have := hq.2.1.symm.trans (bp_pr_c hq')
            injection this
          omega
      · rcases hq' with hq' | hq'
        · have ek : k' = k + 3 := by
            have := hq'.2.1.symm.trans (bp_pr_c hq)
            injection this
          omega
        · have ek : k + 3 = k' + 3 := by
            have := (bp_pr_c hq).symm.trans (bp_pr_c hq')
            injection this
          have ek2 : k = k' := by omega
          subst ek2
          have w := (bp_pq h1 h3 (bp_pr_c hq) (Nat.zero_le a) (Nat.zero_le q)).mp hq
          have w' := (bp_pq h1 h3 (bp_pr_c hq) (Nat.zero_le a) (Nat.zero_le q')).mp hq'
          have e2 := w.2.symm.trans w'.2
          injection e2 with e2
          have := w.1
          have := w'.1
          omega
    · exact absurd hq (hn' k q h1 h3)
  · rcases h' with ⟨k', q', h1', h3', hq', e'⟩ | ⟨hn', e'⟩
    · exact absurd hq' (hn k' q' h1' h3')
    · rw [e, e']
theorem bp_arr_u {k : Nat} {tx : List Nat} {a : Nat} {r r' : Int32} (h : bp_arr k tx a r) (h' : bp_arr k tx a r') : r' = r := by
  rcases h with ⟨i, hi, hc, hm, e⟩ | ⟨hn, e⟩
  · rcases h' with ⟨i', hi', hc', hm', e'⟩ | ⟨hn', e'⟩
    · rw [e, e']
      congr 1
      rcases Nat.lt_trichotomy i i' with z | z | z
      · exact absurd hc' (hm i' z hi')
      · exact z.symm
      · exact absurd hc (hm' i z hi)
    · exact absurd hc (hn' i hi)
  · rcases h' with ⟨i', hi', hc', hm', e'⟩ | ⟨hn', e'⟩
    · exact absurd hc' (hn i' hi')
    · rw [e, e']
theorem bp_par_0 {tx : List Nat} {a : Nat} (h : tx[a]? = some 0) : bp_par tx a (-3) := by
  refine Or.inr ⟨?_, rfl⟩
  rintro k q h1 h3 (z | z)
  · have := h.symm.trans z.2.1
    injection this with this
    omega
  · have := h.symm.trans (bp_pr_c z)
    injection this with this
    omega
theorem bp_par_o {tx : List Nat} {a c : Nat} {x : Option Nat} (h : tx[a]? = some c) (h1 : 1 ≤ c) (h3 : c ≤ 3) (hx : bp_fc c 0 0 (tx.drop (a + 1)) = x) : (x = none → bp_par tx a (-3)) ∧ (∀ p, x = some p → bp_par tx a (nI (a + 1 + p))) := by
  subst hx
  refine ⟨fun e => Or.inr ⟨?_, rfl⟩, fun p e => Or.inl ⟨c, a + 1 + p, h1, h3, Or.inl ?_, rfl⟩⟩
  · rintro k q k1 k3 (z | z)
    · have ek := h.symm.trans z.2.1
      injection ek with ek
      subst ek
      have := ((bp_pa h).mp z).2
      rw [e] at this
      exact nomatch this
    · have ek := h.symm.trans (bp_pr_c z)
      injection ek with ek
      omega
  · refine (bp_pa h).mpr ⟨by omega, ?_⟩
    rw [e]
    congr 1
    omega
theorem bp_par_c {tx : List Nat} {a k : Nat} {x : Option Nat} (h : tx[a]? = some (k + 3)) (h1 : 1 ≤ k) (h3 : k ≤ 3) (hx : bp_fc k 0 0 (bp_mc (tx.take a)) = x) : (x = none → bp_par tx a (-3)) ∧ (∀ p, x = some p → bp_par tx a (nI (a - 1 - p))) := by
  subst hx
  have hl : (tx.take a).length = a := List.length_take_of_le (Nat.le_of_lt (bp_lt h))
  refine ⟨fun e => Or.inr ⟨?_, rfl⟩, fun p e => Or.inl ⟨k, a - 1 - p, h1, h3, Or.inr ?_, rfl⟩⟩
  · rintro k' q k1 k3 (z | z)
    · have ek := h.symm.trans z.2.1
      injection ek with ek
      omega
    · have ek := h.symm.trans (bp_pr_c z)
      injection ek with ek
      have ek2 : k = k' := by omega
      subst ek2
      have := ((bp_pq h1 h3 h (Nat.zero_le a) (Nat.zero_le q)).mp z).2
      rw [bp_sg_0, e] at this
      exact nomatch this
  · have hg := bp_fc_ge e
    rw [bp_mc_len, hl] at hg
    refine (bp_pq h1 h3 h (Nat.zero_le a) (Nat.zero_le _)).mpr ⟨by omega, ?_⟩
    rw [bp_sg_0, e]
    congr 1
    omega
theorem wk_p101 {post : Int32 → SX → Prop} {L : tr_L} {a j c : Nat} {x4 : Int32} (hn : (tr_ns L).Nodup) (he : L[a]? = some (j, c)) (hL : L.length ≤ 60) (hA : tr_t (tr_nd cA lA rA sA tA oA qA) fB (L.take a)) (hB : tr_t (tr_nd cA lA rA sA tA oA qA) fM [(j, c)]) (hC : tr_t (tr_nd cA lA rA sA tA oA qA) fA (L.drop (a + 1)))
    (hp : ∀ (tp fP' : Int32) (cA' lA' rA' sA' tA' oA' qA' pA' : Nat → Int32), tr_t (tr_nd cA' lA' rA' sA' tA' oA' qA') tp L → post x4 (tp, fS, fC, fP', fL, fG, fB, fM, fA, cA', lA', rA', sA', tA', kA, oA', qA', eA, pA')) : wX_partner_101 post x4 fR fS fC fP fL fG fB fM fA cA lA rA sA tA kA oA qA eA pA := by
  unfold wX_partner_101
  exact wk_put1 hn he hL hA hB hC hp
theorem wk_a73 {post : Int32 → SX → Prop} {L : tr_L} {a j c : Nat} {x4 : Int32} (hn : (tr_ns L).Nodup) (he : L[a]? = some (j, c)) (hL : L.length ≤ 60) (hA : tr_t (tr_nd cA lA rA sA tA oA qA) fB (L.take a)) (hB : tr_t (tr_nd cA lA rA sA tA oA qA) fM [(j, c)]) (hC : tr_t (tr_nd cA lA rA sA tA oA qA) fA (L.drop (a + 1)))
    (hp : ∀ (tp fP' : Int32) (cA' lA' rA' sA' tA' oA' qA' pA' : Nat → Int32), tr_t (tr_nd cA' lA' rA' sA' tA' oA' qA') tp L → post x4 (tp, fS, fC, fP', fL, fG, fB, fM, fA, cA', lA', rA', sA', tA', kA, oA', qA', eA, pA')) : wX_around_73 post x4 fR fS fC fP fL fG fB fM fA cA lA rA sA tA kA oA qA eA pA := by
  unfold wX_around_73
  exact wk_put1 hn he hL hA hB hC hp
theorem tr_c6 {D : Nat → tr_N} {x : Int32} {L : tr_L} {a c : Nat} (h : tr_t D x L) (hc : (tr_cs L)[a]? = some c) : c ≤ 6 := tr_le6 h c (List.mem_of_getElem? hc)
/-- the three parts around a place lie apart -/
theorem tr_three {L : tr_L} {a j c : Nat} (hn : (tr_ns L).Nodup) (he : L[a]? = some (j, c)) : (tr_ns (L.take a)).Nodup ∧ (tr_ns (L.drop (a + 1))).Nodup ∧ j ∉ tr_ns (L.take a) ∧ j ∉ tr_ns (L.drop (a + 1)) ∧ ∀ i, i ∈ tr_ns (L.take a) → i ∉ tr_ns (L.drop (a + 1)) := by
  have e : L = L.take a ++ (j, c) :: L.drop (a + 1) := by rw [← tr_dr he, List.take_append_drop]
  rw [e] at hn
  exact tr_nd_app hn
theorem tr_j1 {i j c : Nat} (h : i ∈ tr_ns [(j, c)]) : i = j := by
  rcases List.mem_cons.mp h with z | z
  · exact z
  · exact absurd z (List.not_mem_nil)
theorem xm_partner {post : Int32 → SX → Prop} {u : SX} {L : tr_L} {v1 : Int32} (I : tr_I u L) (hb : ¬ bp_pl L.length v1 → post (-1) u) (ho : ∀ a c : Nat, v1 = nI a → (tr_cs L)[a]? = some c → ∀ (r : Int32) (u' : SX), tr_I u' L → bp_par (tr_cs L) a r → post r u') : wpX_partner post u v1 := by
  obtain ⟨fR, fS, fC, fP, fL, fG, fB, fM, fA, cA, lA, rA, sA, tA, kA, oA, qA, eA, pA⟩ := u
  obtain ⟨F, h, hP, har, hC⟩ := I
  obtain ⟨hn, hl, _⟩ := tr_pm hP
  rcases bp_plc (n := L.length) (by omega) v1 with ⟨hv, hnp⟩ | ⟨a, ha, e, ⟨hle, hnp⟩ | hlt⟩
  · exact br_t hv (hb hnp)
  · subst e
    exact br_f (nI_pos ha) (wk_len h (br_f (nI_nlt hle (by omega)) (hb hnp)))
  · subst e
    refine br_f (nI_pos ha) (wk_len h (br_t (nI_lt hlt (by omega)) (wk_nodeAt h hn hlt (by omega) (fun j c cA1 lA1 rA1 sA1 tA1 oA1 qA1 h1 _ he hj hc => And.intro (vp_in_nI hj (by omega)) (nm_r (e' := nI c) (by rw [nI_clamp (by omega), hc]) ?_)))))
    have hcs := tr_cs_ge he
    have hc6 := tr_c6 h hcs
    obtain ⟨nA, nC, hjA, hjC, hAC⟩ := tr_three hn he
    have hta : (L.take a).length = a := List.length_take_of_le (Nat.le_of_lt hlt)
    refine pk_eq c 0 (fun hc0 => ?_) (fun hc0 => wk_apart1 h1 hn he (by omega) (fun xb xm xa fP' fL' fG' cA2 lA2 rA2 sA2 tA2 oA2 qA2 pA2 tA2' tM2 tC2 => pk_lt 3 c (fun h3 => ?_) (fun h3 => ?_)))
    · subst hc0
      exact ho a 0 rfl hcs (-3) _ ⟨F, h1, hP, har, hC⟩ (bp_par_0 hcs)
    · rw [show (4 : Int32) = nI 4 from rfl, pk_sub (by omega)]
      refine wk_llo (k := c - 4) (e := 0) (by omega) (by omega) tA2' nA (by omega) (fun cA3 lA3 rA3 sA3 tA3 oA3 qA3 tA3' hf3 => ?_)
      have tM3 : tr_t (tr_nd cA3 lA3 rA3 sA3 tA3 oA3 qA3) xm [(j, c)] := tr_fr tM2 (fun i hi => hf3 i (by rw [tr_j1 hi]; exact hjA))
      have tC3 : tr_t (tr_nd cA3 lA3 rA3 sA3 tA3 oA3 qA3) xa (L.drop (a + 1)) := tr_fr tC2 (fun i hi => hf3 i (fun z => hAC i z hi))
      rw [hta, tr_cs_take]
      have hcs2 := hcs
      rw [show c = (c - 4 + 1) + 3 by omega] at hcs2
      obtain ⟨s1, s2⟩ := bp_par_c hcs2 (by omega) (by omega) rfl
      cases hx : bp_fc (c - 4 + 1) 0 0 (bp_mc ((tr_cs L).take a)) with
      | none => exact br_t nu_m1lt (wk_p101 hn he (by omega) tA3' tM3 tC3 (fun tp fP4 cA4 lA4 rA4 sA4 tA4 oA4 qA4 pA4 h4 => ho a c rfl hcs (-3) _ ⟨F, h4, hP, har, hC⟩ (s1 hx)))
      | some p => exact br_f (nI_pos (n := a - 1 - p) (by omega)) (wk_p101 hn he (by omega) tA3' tM3 tC3 (fun tp fP4 cA4 lA4 rA4 sA4 tA4 oA4 qA4 pA4 h4 => ho a c rfl hcs (nI (a - 1 - p)) _ ⟨F, h4, hP, har, hC⟩ (s2 p hx)))
    · rw [show (1 : Int32) = nI 1 from rfl, pk_sub (by omega)]
      refine wk_flc (k := c - 1) (by omega) tC2 nC (by rw [List.length_drop]; omega) (fun cA3 lA3 rA3 sA3 tA3 oA3 qA3 tC3 hf3 => ?_)
      have tM3 : tr_t (tr_nd cA3 lA3 rA3 sA3 tA3 oA3 qA3) xm [(j, c)] := tr_fr tM2 (fun i hi => hf3 i (by rw [tr_j1 hi]; exact hjC))
      have tA3' : tr_t (tr_nd cA3 lA3 rA3 sA3 tA3 oA3 qA3) xb (L.take a) := tr_fr tA2' (fun i hi => hf3 i (hAC i hi))
      rw [tr_cs_drop, show c - 1 + 1 = c by omega]
      obtain ⟨s1, s2⟩ := bp_par_o hcs (by omega) (by omega) rfl
      cases hx : bp_fc c 0 0 ((tr_cs L).drop (a + 1)) with
      | none => exact br_t nu_m1lt (wk_p101 hn he (by omega) tA3' tM3 tC3 (fun tp fP4 cA4 lA4 rA4 sA4 tA4 oA4 qA4 pA4 h4 => ho a c rfl hcs (-3) _ ⟨F, h4, hP, har, hC⟩ (s1 hx)))
      | some p =>
        have hg := bp_fc_ge hx
        rw [List.length_drop, tr_cs_len] at hg
        exact br_f (nI_pos (n := p) (by omega)) (nm_r (e' := nI (a + 1 + p)) (by show nI a + nI 1 + nI p = _; rw [nI_add, nI_add]) (wk_p101 hn he (by omega) tA3' tM3 tC3 (fun tp fP4 cA4 lA4 rA4 sA4 tA4 oA4 qA4 pA4 h4 => ho a c rfl hcs (nI (a + 1 + p)) _ ⟨F, h4, hP, har, hC⟩ (s2 p hx))))
theorem xm_around {post : Int32 → SX → Prop} {u : SX} {L : tr_L} {v1 v2 : Int32} (I : tr_I u L) (hb : ¬ (bp_pl L.length v1 ∧ bp_kd v2) → post (-1) u)
    (ho : ∀ a k c : Nat, v1 = nI a → v2 = nI (k + 1) → k < 3 → (tr_cs L)[a]? = some c → ∀ (r : Int32) (u' : SX), tr_I u' L → bp_arr (k + 1) (tr_cs L) a r → post r u') : wpX_around post u v1 v2 := by
  obtain ⟨fR, fS, fC, fP, fL, fG, fB, fM, fA, cA, lA, rA, sA, tA, kA, oA, qA, eA, pA⟩ := u
  obtain ⟨F, h, hP, har, hC⟩ := I
  obtain ⟨hn, hl, _⟩ := tr_pm hP
  rcases bp_plc (n := L.length) (by omega) v1 with ⟨hv, hnp⟩ | ⟨a, ha, e, ⟨hle, hnp⟩ | hlt⟩
  · exact br_t hv (hb (fun z => hnp z.1))
  · subst e
    exact br_f (nI_pos ha) (wk_len h (br_t (nI_le hle ha) (hb (fun z => hnp z.1))))
  · subst e
    refine br_f (nI_pos ha) (wk_len h (br_f (nI_ge hlt (by omega)) ?_))
    rcases bp_kdc v2 with ⟨k1, hnk⟩ | ⟨k1, k3, hnk⟩ | ⟨k, hk, e2, k1, k3⟩
    · exact br_t k1 (hb (fun z => hnk z.2))
    · exact br_f k1 (br_f k3 (hb (fun z => hnk z.2)))
    · subst e2
      obtain ⟨j, c, he⟩ := tr_ge hlt
      have hcs := tr_cs_ge he
      have hc6 := tr_c6 h hcs
      obtain ⟨nA, nC, hjA, hjC, hAC⟩ := tr_three hn he
      have hta : (L.take a).length = a := List.length_take_of_le (Nat.le_of_lt hlt)
      refine br_f k1 (br_t k3 (wk_apart1 h hn he (by omega) (fun xb xm xa fP' fL' fG' cA1 lA1 rA1 sA1 tA1 oA1 qA1 pA1 h1 h2 h3 => ?_)))
      refine wk_pairs hk h1 h2 h3 (by rw [List.length_take, List.length_drop]; omega) ?_
      rw [tr_cs_take, tr_cs_drop, ← bp_depth hcs]
      have hlen0 := bp_len (k + 1) (bp_sg (tr_cs L) 0 (a + 1))
      rw [bp_sg_len 0 (by rw [tr_cs_len]; omega)] at hlen0
      have hf0 : bp_f (k + 1) (tr_cs L) (a + 1) 0 ≤ 61 := by
        unfold bp_f
        omega
      refine pk_le (bp_f (k + 1) (tr_cs L) (a + 1) 0 - bp_f (k + 1) (tr_cs L) (a + 1) a) 0 (fun hz => ?_) (fun hz => ?_)
      · refine wk_a73 hn he (by omega) h1 h2 h3 (fun tp fP2 cA2 lA2 rA2 sA2 tA2 oA2 qA2 pA2 h4 => ho a k c rfl rfl hk hcs (-3) _ ⟨F, h4, hP, har, hC⟩ (Or.inr ⟨?_, rfl⟩))
        intro i hi
        exact bp_ar0 (bp_lt hcs) (by omega) hi
      · obtain ⟨p, hx, hp, hcnt, hmax⟩ := bp_ar1 (k := k + 1) (by omega) (by omega) hcs hz
        obtain ⟨em, hj, _, hcd⟩ := tr_one h2
        subst em
        have hcd : cA1 j = nI c := hcd
        have k69 : ∀ e : Nat, e ≤ 1 → bp_fc (k + 1) e 0 (bp_mc ((tr_cs L).take a)) = some p → wX_around_69 post (nI e) (nI (k + 1) - 1) xb fR fS fC fP' fL' fG' xb (nI j) xa cA1 lA1 rA1 sA1 tA1 kA oA1 qA1 eA pA1 := by
          intro e he1 hx2
          unfold wX_around_69
          rw [nI_pred]
          refine wk_llo hk he1 h1 nA (by omega) (fun cA3 lA3 rA3 sA3 tA3 oA3 qA3 tA3' hf3 => ?_)
          have tM3 : tr_t (tr_nd cA3 lA3 rA3 sA3 tA3 oA3 qA3) (nI j) [(j, c)] := tr_fr h2 (fun i hi => hf3 i (by rw [tr_j1 hi]; exact hjA))
          have tC3 : tr_t (tr_nd cA3 lA3 rA3 sA3 tA3 oA3 qA3) xa (L.drop (a + 1)) := tr_fr h3 (fun i hi => hf3 i (fun z => hAC i z hi))
          rw [hta, tr_cs_take, hx2]
          refine wk_a73 hn he (by omega) tA3' tM3 tC3 (fun tp fP2 cA2 lA2 rA2 sA2 tA2 oA2 qA2 pA2 h4 => ho a k c rfl rfl hk hcs (nI (a - 1 - p)) _ ⟨F, h4, hP, har, hC⟩ (Or.inl ⟨a - 1 - p, by omega, hcnt, hmax, rfl⟩))
        refine And.intro (vp_in_nI hj (by omega)) ?_
        rw [nI_clamp (by omega), hcd, nu_k3]
        refine pk_eq c (k + 1 + 3) (fun z => ?_) (fun z => ?_)
        · rw [if_pos z] at hx
          exact k69 1 (by omega) hx
        · rw [if_neg z] at hx
          exact k69 0 (by omega) hx
end
end
section
section
variable {fR fS fC fP fL fG fB fM fA : Int32} {cA lA rA sA tA kA oA qA eA pA : Nat → Int32}
/-! X's public methods that edit -/
def bp_in (n : Nat) (v1 v2 : Int32) : Prop := ∃ a c : Nat, v1 = nI a ∧ v2 = nI c ∧ a ≤ n ∧ c ≤ 6
theorem bp_inc (n : Nat) (hn : n ≤ 60) (v1 v2 : Int32) : (v1 < 0 ∧ ¬ bp_in n v1 v2) ∨ ∃ a : Nat, a < 2 ^ 31 ∧ v1 = nI a ∧ ((n < a ∧ ¬ bp_in n v1 v2) ∨ (a ≤ n ∧ ((v2 < 0 ∧ ¬ bp_in n v1 v2) ∨ ∃ c : Nat, c < 2 ^ 31 ∧ v2 = nI c ∧ ((6 < c ∧ ¬ bp_in n v1 v2) ∨ c ≤ 6)))) := by
  by_cases h1 : v1 < 0
  · refine Or.inl ⟨h1, ?_⟩
    rintro ⟨a, c, e1, e2, ha, hc⟩
    rw [e1] at h1
    exact nI_pos (by omega) h1
  · obtain ⟨a, ha, e⟩ := nI_of h1
    refine Or.inr ⟨a, ha, e, ?_⟩
    by_cases h2 : n < a
    · refine Or.inl ⟨h2, ?_⟩
      rintro ⟨a', c, e1, e2, ha', hc⟩
      have := nu_im (e.symm.trans e1) ha (by omega)
      omega
    · refine Or.inr ⟨by omega, ?_⟩
      by_cases h3 : v2 < 0
      · refine Or.inl ⟨h3, ?_⟩
        rintro ⟨a', c, e1, e2, ha', hc⟩
        rw [e2] at h3
        exact nI_pos (by omega) h3
      · obtain ⟨c, hc, e2⟩ := nI_of h3
        refine Or.inr ⟨c, hc, e2, ?_⟩
        by_cases h4 : c ≤ 6
        · exact Or.inr h4
        · refine Or.inl ⟨by omega, ?_⟩
          rintro ⟨a', c', e1', e2', ha', hc'⟩
          have := nu_im (e2.symm.trans e2') hc (by omega)
          omega
theorem tr_ins_p {L : tr_L} {F : List Nat} {j c a : Nat} (h : (tr_ns L ++ (F ++ [j])).Perm (List.range 60)) : (tr_ns ((L.take a ++ [(j, c)]) ++ L.drop a) ++ F).Perm (List.range 60) := by
  refine List.Perm.trans ?_ h
  rw [List.perm_iff_count]
  intro x
  have e : tr_ns L = tr_ns (L.take a) ++ tr_ns (L.drop a) := by rw [← tr_ns_app, List.take_append_drop]
  rw [e]
  simp only [tr_ns_app, List.count_append]
  show _ + List.count x [j] + _ + _ = _
  omega
theorem xm_insert {post : Int32 → SX → Prop} {u : SX} {L : tr_L} {v1 v2 : Int32} (I : tr_I u L) (hf : L.length = 60 → post (-2) u) (hb : L.length < 60 → ¬ bp_in L.length v1 v2 → post (-1) u)
    (ho : ∀ a c j : Nat, v1 = nI a → v2 = nI c → a ≤ L.length → c ≤ 6 → L.length < 60 → ∀ u' : SX, tr_I u' ((L.take a ++ [(j, c)]) ++ L.drop a) → post (nI (L.length + 1)) u') : wpX_insert post u v1 v2 := by
  obtain ⟨fR, fS, fC, fP, fL, fG, fB, fM, fA, cA, lA, rA, sA, tA, kA, oA, qA, eA, pA⟩ := u
  obtain ⟨F, h, hP, har, hC⟩ := I
  obtain ⟨hn, hl, hF⟩ := tr_pm hP
  unfold wpX_insert
  refine wk_len h (pk_lt L.length 60 (fun hlt => ?_) (fun hge => hf (by omega)))
  rcases bp_inc L.length (by omega) v1 v2 with ⟨hv, hni⟩ | ⟨a, ha, e, ⟨hv, hni⟩ | ⟨hle, ⟨hv, hni⟩ | ⟨c, hc, e2, ⟨hv, hni⟩ | hv⟩⟩⟩
  · exact br_t hv (hb hlt hni)
  · subst e
    exact br_f (nI_pos ha) (br_t (nI_lt hv ha) (hb hlt hni))
  · subst e
    exact br_f (nI_pos ha) (br_f (nI_nlt hle (by omega)) (br_t hv (hb hlt hni)))
  · subst e; subst e2
    exact br_f (nI_pos ha) (br_f (nI_nlt hle (by omega)) (br_f (nI_pos hc) (br_f (nI_ge (a := 6) hv hc) (hb hlt hni))))
  · subst e; subst e2
    have hFne : F ≠ [] := by
      intro z
      rw [z, List.length_nil] at hl
      omega
    obtain ⟨F2, j, eF⟩ : ∃ F2 j, F = F2 ++ [j] := ⟨F.dropLast, F.getLast hFne, (List.dropLast_concat_getLast hFne).symm⟩
    subst eF
    rw [List.length_append, List.length_singleton] at hl hC
    subst hC
    obtain ⟨hj60, hjL⟩ := hF j (List.mem_append.mpr (Or.inr (List.mem_singleton.mpr rfl)))
    have hP2 := tr_ins_p (a := a) (c := c) hP
    have hn2 := (tr_pm hP2).1
    have hnd := hn2
    rw [tr_ns_app, List.nodup_append] at hnd
    have hT : ∀ i, i ∈ tr_ns (L.take a) → i ∈ tr_ns L := fun i hi => (List.Sublist.map Prod.fst (List.take_sublist a L)).subset hi
    refine br_f (nI_pos ha) (br_f (nI_nlt hle (by omega)) (br_f (nI_pos hc) (br_t (nI_le (b := 6) hv (by omega)) ?_)))
    refine wk_new hj60 (by omega) hv har (fun fS1 kA1 cA1 lA1 rA1 sA1 tA1 oA1 qA1 h1 hf1 => ?_)
    have hL1 : tr_t (tr_nd cA1 lA1 rA1 sA1 tA1 oA1 qA1) fR L := tr_fr h (fun i hi => hf1 i (fun z => hjL (z ▸ hi)))
    refine wk_cut hL1 hn hle (by omega) (fun xl xr fP2 cA2 lA2 rA2 sA2 tA2 oA2 qA2 pA2 h2 h3 hf2 => ?_)
    have hj2 : tr_t (tr_nd cA2 lA2 rA2 sA2 tA2 oA2 qA2) (nI j) [(j, c)] := tr_fr h1 (fun i hi => hf2 i (by rw [tr_j1 hi]; exact hjL))
    refine wk_join h2 hj2 hnd.1 (by rw [List.length_take, List.length_singleton]; omega) (fun t3 fP3 cA3 lA3 rA3 sA3 tA3 oA3 qA3 pA3 h4 hf3 => ?_)
    have h5 : tr_t (tr_nd cA3 lA3 rA3 sA3 tA3 oA3 qA3) xr (L.drop a) := tr_fr h3 (fun i hi => hf3 i (fun z => hnd.2.2 i z i hi rfl))
    refine wk_join h4 h5 hn2 (by rw [List.length_append, List.length_take, List.length_singleton, List.length_drop]; omega) (fun t4 fP4 cA4 lA4 rA4 sA4 tA4 oA4 qA4 pA4 h6 hf4 => ?_)
    have P := ho a c j rfl rfl hle hv hlt (t4, fS1, nI F2.length, fP4, xl, xr, fB, fM, fA, cA4, lA4, rA4, sA4, tA4, kA1, oA4, qA4, eA, pA4) ⟨F2, h6, hP2, tr_ar_left har, rfl⟩
    rw [← nI_1] at P
    exact P
theorem xm_erase {post : Int32 → SX → Prop} {u : SX} {L : tr_L} {v1 v2 : Int32} (I : tr_I u L) (hb : ¬ bp_st L.length v1 v2 → post (-1) u)
    (ho : ∀ a b : Nat, v1 = nI a → v2 = nI b → a + b ≤ L.length → ∀ u' : SX, tr_I u' (L.take a ++ (L.drop a).drop b) → post (nI (L.length - b)) u') : wpX_erase post u v1 v2 := by
  obtain ⟨fR, fS, fC, fP, fL, fG, fB, fM, fA, cA, lA, rA, sA, tA, kA, oA, qA, eA, pA⟩ := u
  obtain ⟨F, h, hP, har, hC⟩ := I
  obtain ⟨hn, hl, hF⟩ := tr_pm hP
  unfold wpX_erase
  refine wk_st h (by omega) (fun a b e1 e2 hab => ?_) (fun hns => br_t rfl (hb hns))
  subst e1; subst e2; subst hC
  have eL : L.take a ++ ((L.drop a).take b ++ (L.drop a).drop b) = L := by
    rw [List.take_append_drop, List.take_append_drop]
  have hlM : ((L.drop a).take b).length = b := List.length_take_of_le (by rw [List.length_drop]; omega)
  refine br_f (by decide) (wk_apart h hn hab (by omega) (fun xb xm xa fP1 fL1 fG1 cA1 lA1 rA1 sA1 tA1 oA1 qA1 pA1 h1 h2 h3 hf1 => ?_))
  refine wk_release h2 (by omega) har (fun H fP2 eA2 pA2 hH har2 => ?_)
  have hP2 : (tr_ns (L.take a ++ (L.drop a).drop b) ++ (F ++ H)).Perm (List.range 60) := by
    refine List.Perm.trans ?_ hP
    have e3 : tr_ns L = tr_ns (L.take a) ++ (tr_ns ((L.drop a).take b) ++ tr_ns ((L.drop a).drop b)) := by
      rw [← tr_ns_app, ← tr_ns_app, eL]
    rw [List.perm_iff_count] at hH ⊢
    intro x
    rw [e3]
    simp only [tr_ns_app, List.count_append, hH]
    omega
  have hn2 := (tr_pm hP2).1
  refine wk_join h1 h3 hn2 (by rw [List.length_take, List.length_drop, List.length_drop]; omega) (fun t3 fP3 cA3 lA3 rA3 sA3 tA3 oA3 qA3 pA3 h4 hf3 => ?_)
  refine wk_len h4 ?_
  have hl4 : (L.take a ++ (L.drop a).drop b).length = L.length - b := by
    rw [List.length_append, List.length_take, List.length_drop, List.length_drop]; omega
  rw [hl4]
  exact ho a b rfl rfl hab _ ⟨F ++ H, h4, hP2, har2, by rw [List.length_append]⟩
theorem xm_mirror {post : Int32 → SX → Prop} {u : SX} {L : tr_L} {v1 v2 : Int32} (I : tr_I u L) (hb : ¬ bp_st L.length v1 v2 → post (-1) u)
    (ho : ∀ a b : Nat, v1 = nI a → v2 = nI b → a + b ≤ L.length → ∀ u' : SX, tr_I u' (L.take a ++ (tr_mr ((L.drop a).take b) ++ (L.drop a).drop b)) → post (nI L.length) u') : wpX_mirror post u v1 v2 := by
  obtain ⟨fR, fS, fC, fP, fL, fG, fB, fM, fA, cA, lA, rA, sA, tA, kA, oA, qA, eA, pA⟩ := u
  obtain ⟨F, h, hP, har, hC⟩ := I
  obtain ⟨hn, hl, hF⟩ := tr_pm hP
  unfold wpX_mirror
  refine wk_st h (by omega) (fun a b e1 e2 hab => ?_) (fun hns => br_t rfl (hb hns))
  subst e1; subst e2
  have eL : L.take a ++ ((L.drop a).take b ++ (L.drop a).drop b) = L := by
    rw [List.take_append_drop, List.take_append_drop]
  have hlM : ((L.drop a).take b).length = b := List.length_take_of_le (by rw [List.length_drop]; omega)
  have hP2 : (tr_ns (L.take a ++ (tr_mr ((L.drop a).take b) ++ (L.drop a).drop b)) ++ F).Perm (List.range 60) := by
    refine List.Perm.trans ?_ hP
    have e3 : tr_ns L = tr_ns (L.take a) ++ (tr_ns ((L.drop a).take b) ++ tr_ns ((L.drop a).drop b)) := by
      rw [← tr_ns_app, ← tr_ns_app, eL]
    rw [List.perm_iff_count]
    intro x
    rw [e3]
    simp only [tr_ns_app, List.count_append, tr_ns_mr, List.count_reverse]
  have hn2 := (tr_pm hP2).1
  have hnL := hn
  rw [← eL, tr_ns_app, tr_ns_app, List.nodup_append, List.nodup_append] at hnL
  obtain ⟨nA, ⟨nB, nC, hBC⟩, hABC⟩ := hnL
  have hl4 : (L.take a ++ (tr_mr ((L.drop a).take b) ++ (L.drop a).drop b)).length = L.length := by
    rw [List.length_append, List.length_append, tr_mr_len, hlM, List.length_take, List.length_drop, List.length_drop]; omega
  refine br_f (by decide) (wk_apart h hn hab (by omega) (fun xb xm xa fP1 fL1 fG1 cA1 lA1 rA1 sA1 tA1 oA1 qA1 pA1 h1 h2 h3 hf1 => ?_))
  have k32 : ∀ cA2 lA2 rA2 sA2 tA2 oA2 qA2 : Nat → Int32, tr_t (tr_nd cA2 lA2 rA2 sA2 tA2 oA2 qA2) xb (L.take a) → tr_t (tr_nd cA2 lA2 rA2 sA2 tA2 oA2 qA2) xm (tr_mr ((L.drop a).take b)) → tr_t (tr_nd cA2 lA2 rA2 sA2 tA2 oA2 qA2) xa ((L.drop a).drop b) → wX_mirror_32 post fR fS fC fP1 fL1 fG1 xb xm xa cA2 lA2 rA2 sA2 tA2 kA oA2 qA2 eA pA1 := by
    intro cA2 lA2 rA2 sA2 tA2 oA2 qA2 g1 g2 g3
    unfold wX_mirror_32
    refine wk_put g1 g2 g3 hn2 (by rw [tr_mr_len, hlM, List.length_take, List.length_drop, List.length_drop]; omega) (fun tp fP3 cA3 lA3 rA3 sA3 tA3 oA3 qA3 pA3 h4 _ => ?_)
    refine wk_len h4 ?_
    rw [hl4]
    exact ho a b rfl rfl hab _ ⟨F, h4, hP2, har, hC⟩
  rcases tr_ptr h2 with ⟨e, eM⟩ | ⟨j, hj, e, hm, _⟩
  · refine br_t (by rw [e]; decide) (k32 _ _ _ _ _ _ _ h1 ?_ h3)
    rw [eM] at h2 ⊢
    exact h2
  · rw [e] at h2 k32 ⊢
    refine br_f (nI_pos (by omega)) (wk_turn hj h2 nB (by omega) (fun cA2 lA2 rA2 sA2 tA2 oA2 qA2 g2 hf2 => k32 _ _ _ _ _ _ _ ?_ g2 ?_))
    · exact tr_fr h1 (fun i hi => hf2 i (fun z => hABC i hi i (List.mem_append.mpr (Or.inl (z ▸ hm))) rfl))
    · exact tr_fr h3 (fun i hi => hf2 i (fun z => hBC i (z ▸ hm) i hi rfl))
def bp_mv (n : Nat) (v1 v2 v3 : Int32) : Prop := ∃ a b t : Nat, v1 = nI a ∧ v2 = nI b ∧ v3 = nI t ∧ a + b ≤ n ∧ t + b ≤ n
theorem bp_mvc {n a b : Nat} (hn : n ≤ 60) (hab : a + b ≤ n) (v3 : Int32) : (v3 < 0 ∧ ¬ bp_mv n (nI a) (nI b) v3) ∨ ∃ t : Nat, t < 2 ^ 31 ∧ v3 = nI t ∧ ((n - b < t ∧ ¬ bp_mv n (nI a) (nI b) v3) ∨ t ≤ n - b) := by
  by_cases h : v3 < 0
  · refine Or.inl ⟨h, ?_⟩
    rintro ⟨a', b', t, _, _, e3, _, h2⟩
    rw [e3] at h
    exact nI_pos (by omega) h
  · obtain ⟨t, ht, e⟩ := nI_of h
    refine Or.inr ⟨t, ht, e, ?_⟩
    by_cases h2 : n - b < t
    · refine Or.inl ⟨h2, ?_⟩
      rintro ⟨a', b', t', _, e2, e3, h4, h5⟩
      have := nu_im e2 (by omega) (by omega)
      have := nu_im (e.symm.trans e3) ht (by omega)
      omega
    · exact Or.inr (by omega)
theorem bp_nmv {n : Nat} {v1 v2 v3 : Int32} (h : ¬ bp_st n v1 v2) : ¬ bp_mv n v1 v2 v3 := by
  rintro ⟨a, b, t, e1, e2, _, h2, _⟩
  exact h ⟨a, b, e1, e2, h2⟩
theorem xm_move {post : Int32 → SX → Prop} {u : SX} {L : tr_L} {v1 v2 v3 : Int32} (I : tr_I u L) (hb : ¬ bp_mv L.length v1 v2 v3 → post (-1) u)
    (ho : ∀ a b t : Nat, v1 = nI a → v2 = nI b → v3 = nI t → a + b ≤ L.length → t + b ≤ L.length → ∀ u' : SX, tr_I u' (((L.take a ++ (L.drop a).drop b).take t ++ (L.drop a).take b) ++ (L.take a ++ (L.drop a).drop b).drop t) → post (nI L.length) u') : wpX_move post u v1 v2 v3 := by
  obtain ⟨fR, fS, fC, fP, fL, fG, fB, fM, fA, cA, lA, rA, sA, tA, kA, oA, qA, eA, pA⟩ := u
  obtain ⟨F, h, hP, har, hC⟩ := I
  obtain ⟨hn, hl, hF⟩ := tr_pm hP
  unfold wpX_move
  refine wk_st h (by omega) (fun a b e1 e2 hab => ?_) (fun hns => br_t rfl (hb (bp_nmv hns)))
  subst e1; subst e2
  refine br_f (by decide) ?_
  rcases bp_mvc (by omega) hab v3 with ⟨hv, hnm⟩ | ⟨t, ht, e3, ⟨hv, hnm⟩ | hv⟩
  · exact br_t hv (hb hnm)
  · subst e3
    refine br_f (nI_pos ht) (wk_len h ?_)
    rw [pk_sub (by omega)]
    exact br_f (nI_ge hv ht) (hb hnm)
  · subst e3
    refine br_f (nI_pos ht) (wk_len h ?_)
    rw [pk_sub (by omega)]
    have eL : L.take a ++ ((L.drop a).take b ++ (L.drop a).drop b) = L := by
      rw [List.take_append_drop, List.take_append_drop]
    have hlM : ((L.drop a).take b).length = b := List.length_take_of_le (by rw [List.length_drop]; omega)
    have hlR : (L.take a ++ (L.drop a).drop b).length = L.length - b := by
      rw [List.length_append, List.length_take, List.length_drop, List.length_drop]; omega
    have hP2 : (tr_ns (((L.take a ++ (L.drop a).drop b).take t ++ (L.drop a).take b) ++ (L.take a ++ (L.drop a).drop b).drop t) ++ F).Perm (List.range 60) := by
      refine List.Perm.trans ?_ hP
      have e3 : tr_ns L = tr_ns (L.take a) ++ (tr_ns ((L.drop a).take b) ++ tr_ns ((L.drop a).drop b)) := by
        rw [← tr_ns_app, ← tr_ns_app, eL]
      have e4 : tr_ns ((L.take a ++ (L.drop a).drop b).take t) ++ tr_ns ((L.take a ++ (L.drop a).drop b).drop t) = tr_ns (L.take a) ++ tr_ns ((L.drop a).drop b) := by
        rw [← tr_ns_app, List.take_append_drop, tr_ns_app]
      rw [List.perm_iff_count]
      intro x
      have e5 := congrArg (List.count x) e4
      rw [List.count_append, List.count_append] at e5
      rw [e3, tr_ns_app, tr_ns_app]
      simp only [List.count_append]
      omega
    have hn2 := (tr_pm hP2).1
    have hnd2 := hn2
    rw [tr_ns_app, List.nodup_append] at hnd2
    have hnL := hn
    rw [← eL, tr_ns_app, tr_ns_app, List.nodup_append, List.nodup_append] at hnL
    obtain ⟨nA, ⟨nB, nC, hBC⟩, hABC⟩ := hnL
    have nR : (tr_ns (L.take a ++ (L.drop a).drop b)).Nodup := by
      rw [tr_ns_app, List.nodup_append]
      exact ⟨nA, nC, fun i hi j hj => hABC i hi j (List.mem_append.mpr (Or.inr hj))⟩
    have hBR : ∀ i, i ∈ tr_ns ((L.drop a).take b) → i ∉ tr_ns (L.take a ++ (L.drop a).drop b) := by
      intro i hi z
      rw [tr_ns_app, List.mem_append] at z
      rcases z with z | z
      · exact hABC i z i (List.mem_append.mpr (Or.inl hi)) rfl
      · exact hBC i hi i z rfl
    refine br_t (nI_le hv (by omega)) (wk_apart h hn hab (by omega) (fun xb xm xa fP1 fL1 fG1 cA1 lA1 rA1 sA1 tA1 oA1 qA1 pA1 h1 h2 h3 hf1 => ?_))
    refine wk_join h1 h3 nR (by rw [← List.length_append, hlR]; omega) (fun t2 fP2 cA2 lA2 rA2 sA2 tA2 oA2 qA2 pA2 g1 gf => ?_)
    have g2 : tr_t (tr_nd cA2 lA2 rA2 sA2 tA2 oA2 qA2) xm ((L.drop a).take b) := tr_fr h2 (fun i hi => gf i (hBR i hi))
    refine wk_cut g1 nR (by omega) (by omega) (fun xl xr fP3 cA3 lA3 rA3 sA3 tA3 oA3 qA3 pA3 k1 k2 kf => ?_)
    have k3 : tr_t (tr_nd cA3 lA3 rA3 sA3 tA3 oA3 qA3) xm ((L.drop a).take b) := tr_fr g2 (fun i hi => kf i (hBR i hi))
    refine wk_join k1 k3 hnd2.1 (by rw [hlM, List.length_take]; omega) (fun t4 fP4 cA4 lA4 rA4 sA4 tA4 oA4 qA4 pA4 m1 mf => ?_)
    have m2 : tr_t (tr_nd cA4 lA4 rA4 sA4 tA4 oA4 qA4) xr ((L.take a ++ (L.drop a).drop b).drop t) := tr_fr k2 (fun i hi => mf i (fun z => hnd2.2.2 i z i hi rfl))
    refine wk_join m1 m2 hn2 (by rw [List.length_append, hlM, List.length_take, List.length_drop]; omega) (fun t5 fP5 cA5 lA5 rA5 sA5 tA5 oA5 qA5 pA5 n1 nf => ?_)
    refine wk_len n1 ?_
    have hl5 : (((L.take a ++ (L.drop a).drop b).take t ++ (L.drop a).take b) ++ (L.take a ++ (L.drop a).drop b).drop t).length = L.length := by
      rw [List.length_append, List.length_append, List.length_take, List.length_drop, hlR, hlM]; omega
    rw [hl5]
    exact ho a b t rfl rfl rfl hab (by omega) _ ⟨F, n1, hP2, har, hC⟩
end
end
section
section
variable {ta pt : Nat → Int32} {tx : List Nat}
/-! the reference: what it asks of its text -/
theorem yw_st {post : Int32 → Prop} {n : Nat} {v1 v2 : Int32} (hn : n ≤ 60) (h1 : ∀ a b : Nat, v1 = nI a → v2 = nI b → a + b ≤ n → post 1) (h0 : ¬ bp_st n v1 v2 → post 0) : wpY_isStretch post (nI n, ta, pt) v1 v2 := by
  by_cases hv : v1 < 0
  · exact br_t hv (h0 (bp_nst1 hn hv))
  · refine br_f hv ?_
    by_cases hv2 : v2 < 0
    · exact br_t hv2 (h0 (bp_nst3 hn hv2))
    · refine br_f hv2 ?_
      obtain ⟨a, ha, e1⟩ := nI_of hv
      obtain ⟨b, hb, e2⟩ := nI_of hv2
      subst e1; subst e2
      refine pk_lt n a (fun z => h0 (bp_nst2 hn ha z)) (fun z => ?_)
      rw [pk_sub z]
      exact pk_lt (n - a) b (fun y => h0 (bp_nst4 hn ha hb z y)) (fun y => h1 a b rfl rfl (by omega))
theorem yw_pl {post : Int32 → Prop} {n : Nat} {v1 : Int32} (hn : n ≤ 60) (h1 : ∀ a : Nat, v1 = nI a → a < n → post 1) (h0 : ¬ bp_pl n v1 → post 0) : wpY_isPlace post (nI n, ta, pt) v1 := by
  rcases bp_plc hn v1 with ⟨hv, hnp⟩ | ⟨a, ha, e, ⟨hle, hnp⟩ | hlt⟩
  · exact br_t hv (h0 hnp)
  · subst e
    exact br_f (nI_pos ha) (br_t (nI_le hle ha) (h0 hnp))
  · subst e
    exact br_f (nI_pos ha) (br_f (nI_ge hlt (by omega)) (h1 a rfl hlt))
theorem yw_ge {a : Nat} (h : a < tx.length) : ∃ c, tx[a]? = some c := ⟨_, List.getElem?_eq_getElem h⟩
theorem yw_codeAt {post : Int32 → Prop} {v1 : Int32} (ht : tr_ar ta tx) (hn : tx.length ≤ 60) (hb : ¬ bp_pl tx.length v1 → post (-1)) (ho : ∀ a c : Nat, v1 = nI a → tx[a]? = some c → post (nI c)) : wpY_codeAt post (nI tx.length, ta, pt) v1 := by
  unfold wpY_codeAt
  refine yw_pl hn (fun a e ha => ?_) (fun h => br_t rfl (hb h))
  subst e
  obtain ⟨c, hc⟩ := yw_ge ha
  refine br_f (by decide) (And.intro (vp_in_nI (by omega) (by omega)) ?_)
  rw [nI_clamp (by omega), ht a c hc]
  exact ho a c rfl hc
theorem yw_p37 {post : Int32 → Prop} {fn : Int32} {k j : Nat} (ht : tr_ar ta tx) (hn : tx.length ≤ 60) (h6 : ∀ c, c ∈ tx → c ≤ 6) (h3 : k ≤ 3) (hj : tx[j]? = some (k + 3)) :
    ∀ d p o : Nat, p + d = j → o + d ≤ 120 → (bp_fc k o p (tx.drop p) = some j → post 1) → (¬ bp_fc k o p (tx.drop p) = some j → post 0) → ∀ n, d < n → wY_isPair_37 post (nI j) (nI k) fn ta pt n (nI o) (nI p) := by
  have hjl := bp_lt hj
  intro d
  induction d with
  | zero =>
    intro p o hp ho h1 h0 n hn2
    obtain ⟨n, rfl⟩ : ∃ k, n = k + 1 := ⟨n - 1, by omega⟩
    have e : p = j := by omega
    subst e
    refine br_t (nI_le (Nat.le_refl _) (by omega)) (pk_eq o 0 (fun z => h1 ?_) (fun z => h0 ?_))
    · rw [bp_dr hj, z, bp_fc_z]
    · rw [bp_dr hj, bp_fc_s (by omega)]
      intro y
      have := (bp_fc_ge y).1
      omega
  | succ d ih =>
    intro p o hp ho h1 h0 n hn2
    obtain ⟨n, rfl⟩ : ∃ k, n = k + 1 := ⟨n - 1, by omega⟩
    obtain ⟨c, hc⟩ := yw_ge (tx := tx) (a := p) (by omega)
    have hc6 : c ≤ 6 := h6 c (List.mem_of_getElem? hc)
    have etp : ta (nI p).toNatClampNeg = nI c := by rw [nI_clamp (by omega), ht p c hc]
    have hin : vp_in (nI p) 60 := vp_in_nI (by omega) (by omega)
    rw [bp_dr hc] at h1 h0
    refine br_f (nI_ge (by omega) (by omega)) (And.intro hin ?_)
    rw [etp]
    refine pk_eq c k (fun z => nm_r (nI_1 o) (And.intro hin ?_)) (fun z => And.intro hin ?_)
    · subst z
      rw [bp_fc_o] at h1 h0
      rw [etp, nu_k3]
      exact br_f (by rw [nI_eq (by omega) (by omega)]; omega) (br_t (nI_pos' (by omega)) (nm_r (nI_1 p) (ih (p + 1) (o + 1) (by omega) (by omega) h1 h0 n (by omega))))
    · rw [etp, nu_k3]
      refine pk_eq c (k + 3) (fun y => ?_) (fun y => ?_)
      · subst y
        by_cases h00 : o = 0
        · subst h00
          refine nm_r (e' := -1) nu_0p (br_f nu_m1le (h0 ?_))
          rw [bp_fc_z]
          intro w
          injection w
          omega
        · rw [bp_fc_s (by omega)] at h1 h0
          exact nm_r (nu_m (by omega)) (br_t (nI_pos' (by omega)) (nm_r (nI_1 p) (ih (p + 1) (o - 1) (by omega) (by omega) h1 h0 n (by omega))))
      · rw [bp_fc_n z y] at h1 h0
        exact br_t (nI_pos' (by omega)) (nm_r (nI_1 p) (ih (p + 1) o (by omega) (by omega) h1 h0 n (by omega)))
theorem yw_pair {post : Int32 → Prop} {fn : Int32} {k i j : Nat} (ht : tr_ar ta tx) (hn : tx.length ≤ 60) (h6 : ∀ c, c ∈ tx → c ≤ 6) (h3 : k ≤ 3) (hi : i < tx.length) (hj : j < tx.length) (p1 : bp_pr k tx i j → post 1) (p0 : ¬ bp_pr k tx i j → post 0) : wpY_isPair post (fn, ta, pt) (nI i) (nI j) (nI k) := by
  obtain ⟨ci, hci⟩ := yw_ge hi
  obtain ⟨cj, hcj⟩ := yw_ge hj
  have hci6 := h6 ci (List.mem_of_getElem? hci)
  have hcj6 := h6 cj (List.mem_of_getElem? hcj)
  refine pk_le j i (fun z => p0 (fun y => by have := y.1; omega)) (fun z => And.intro (vp_in_nI (by omega) (by omega)) ?_)
  rw [nI_clamp (by omega), ht i ci hci]
  refine pk_eq ci k (fun y => And.intro (vp_in_nI (by omega) (by omega)) ?_) (fun y => p0 (fun w => y (by have := hci.symm.trans w.2.1; injection this)))
  rw [nI_clamp (by omega), ht j cj hcj, nu_k3]
  subst y
  refine pk_eq cj (ci + 3) (fun y => nm_r (nI_1 i) ⟨j + 1, ?_⟩) (fun y => p0 (fun w => y (by have := hcj.symm.trans (bp_pr_c w); injection this)))
  subst y
  exact yw_p37 ht hn h6 h3 hcj (j - (i + 1)) (i + 1) 0 (by omega) (by omega) (fun w => p1 ⟨z, hci, w⟩) (fun w => p0 (fun v => w v.2.2)) _ (by omega)
theorem yw_m36 {post : Int32 → Prop} {fn : Int32} {k a f t : Nat} (ht : tr_ar ta tx) (hn : tx.length ≤ 60) (h6 : ∀ c, c ∈ tx → c ≤ 6) (h3 : k ≤ 3) (ha : a < tx.length) (htl : t ≤ tx.length)
    (p1 : ∀ q, f ≤ q → q < t → (bp_pr k tx a q ∨ bp_pr k tx q a) → post (nI q)) (p0 : (∀ q, f ≤ q → q < t → ¬ (bp_pr k tx a q ∨ bp_pr k tx q a)) → post (-3)) :
    ∀ d p : Nat, p + d = t → f ≤ p → (∀ q, f ≤ q → q < p → ¬ (bp_pr k tx a q ∨ bp_pr k tx q a)) → ∀ n, d < n → wY_mate_36 post (nI a) (nI t) (nI k) fn ta pt n (nI p) := by
  intro d
  induction d with
  | zero =>
    intro p hp hf hq n hn2
    obtain ⟨n, rfl⟩ : ∃ k, n = k + 1 := ⟨n - 1, by omega⟩
    have e : p = t := by omega
    subst e
    exact br_t (nI_le (Nat.le_refl _) (by omega)) (p0 hq)
  | succ d ih =>
    intro p hp hf hq n hn2
    obtain ⟨n, rfl⟩ : ∃ k, n = k + 1 := ⟨n - 1, by omega⟩
    refine br_f (nI_ge (by omega) (by omega)) (yw_pair ht hn h6 h3 ha (by omega) (fun w => br_f (by decide) (p1 p hf (by omega) (Or.inl w))) (fun w => br_t rfl (yw_pair ht hn h6 h3 (by omega) ha (fun v => br_f (by decide) (p1 p hf (by omega) (Or.inr v))) (fun v => br_t rfl (nm_r (nI_1 p) (ih (p + 1) (by omega) (by omega) ?_ n (by omega)))))))
    intro q hq1 hq2
    by_cases e : q = p
    · subst e
      rintro (z | z)
      · exact w z
      · exact v z
    · exact hq q hq1 (by omega)
theorem yw_mate {post : Int32 → Prop} {fn : Int32} {a f t c : Nat} (ht : tr_ar ta tx) (hn : tx.length ≤ 60) (h6 : ∀ c, c ∈ tx → c ≤ 6) (hc : tx[a]? = some c) (hft : f ≤ t) (htl : t ≤ tx.length)
    (p1 : ∀ k q : Nat, 1 ≤ k → k ≤ 3 → f ≤ q → q < t → (bp_pr k tx a q ∨ bp_pr k tx q a) → post (nI q)) (p0 : (∀ k q : Nat, 1 ≤ k → k ≤ 3 → f ≤ q → q < t → ¬ (bp_pr k tx a q ∨ bp_pr k tx q a)) → post (-3)) : wpY_mate post (fn, ta, pt) (nI a) (nI f) (nI t) := by
  have hal := bp_lt hc
  have hc6 := h6 c (List.mem_of_getElem? hc)
  have k23 : ∀ k : Nat, k ≤ 3 → (c = 0 ∨ (1 ≤ k ∧ (c = k ∨ c = k + 3))) → wY_mate_23 post (nI a) (nI f) (nI t) (nI c) (nI k) fn ta pt := by
    intro k h3 hk
    refine pk_eq c 0 (fun z => p0 ?_) (fun z => ⟨t + 1, ?_⟩)
    · subst z
      rintro k' q k1 k3 _ _ (y | y)
      · have := hc.symm.trans y.2.1
        injection this with this
        omega
      · have := hc.symm.trans (bp_pr_c y)
        injection this with this
        omega
    · have hk1 : 1 ≤ k := by omega
      refine yw_m36 (f := f) ht hn h6 h3 hal htl (fun q h1 h2 h4 => p1 k q hk1 h3 h1 h2 h4) (fun h => p0 ?_) (t - f) f (by omega) (Nat.le_refl _) (fun q z1 z2 => absurd z1 (by omega)) _ (by omega)
      intro k' q k1 k3 q1 q2 y
      have ek : k' = k := by
        rcases y with y | y
        · have := hc.symm.trans y.2.1
          injection this with this
          omega
        · have := hc.symm.trans (bp_pr_c y)
          injection this with this
          omega
      subst ek
      exact h q q1 q2 y
  refine And.intro (vp_in_nI (by omega) (by omega)) (nm_r (e' := nI c) (by rw [nI_clamp (by omega), ht a c hc]) (pk_lt 3 c (fun z => ?_) (fun z => ?_)))
  · rw [show (3 : Int32) = nI 3 from rfl, pk_sub (by omega)]
    exact k23 (c - 3) (by omega) (by omega)
  · exact k23 c (by omega) (by omega)
theorem yw_partner {post : Int32 → Prop} {v1 : Int32} (ht : tr_ar ta tx) (hn : tx.length ≤ 60) (h6 : ∀ c, c ∈ tx → c ≤ 6) (hb : ¬ bp_pl tx.length v1 → post (-1)) (ho : ∀ a : Nat, v1 = nI a → a < tx.length → ∀ r : Int32, bp_par tx a r → post r) : wpY_partner post (nI tx.length, ta, pt) v1 := by
  unfold wpY_partner
  refine yw_pl hn (fun a e ha => br_f (by decide) ?_) (fun h => br_t rfl (hb h))
  subst e
  obtain ⟨c, hc⟩ := yw_ge ha
  refine yw_mate (f := 0) ht hn h6 hc (Nat.zero_le _) (Nat.le_refl _) (fun k q k1 k3 _ _ hq => ho a rfl ha _ (Or.inl ⟨k, q, k1, k3, hq, rfl⟩)) (fun h => ho a rfl ha _ (Or.inr ⟨?_, rfl⟩))
  intro k q k1 k3 hq
  refine h k q k1 k3 (Nat.zero_le _) ?_ hq
  rcases hq with z | z
  · exact bp_lt (bp_pr_c z)
  · exact bp_lt z.2.1
theorem yw_a24 {post : Int32 → Prop} {k a : Nat} (ht : tr_ar ta tx) (hn : tx.length ≤ 60) (h6 : ∀ c, c ∈ tx → c ≤ 6) (k1 : 1 ≤ k) (h3 : k ≤ 3) (ha : a < tx.length) (ho : ∀ r : Int32, bp_arr k tx a r → post r) :
    ∀ p : Nat, p ≤ a → (∀ i, p ≤ i → i < a → ¬ bp_cnt k tx (a + 1) i) → ∀ n, p < n → wY_around_24 post (nI a) (nI k) (nI tx.length) ta pt n (nI p - 1) := by
  intro p
  induction p with
  | zero =>
    intro hp hi n hn2
    obtain ⟨n, rfl⟩ : ∃ k, n = k + 1 := ⟨n - 1, by omega⟩
    exact br_t (by rw [nu_0m]; decide) (ho _ (Or.inr ⟨fun i z => hi i (Nat.zero_le i) z, rfl⟩))
  | succ p ih =>
    intro hp hi n hn2
    obtain ⟨n, rfl⟩ : ∃ k, n = k + 1 := ⟨n - 1, by omega⟩
    rw [nI_pred]
    obtain ⟨c, hc⟩ := yw_ge (tx := tx) (a := p) (by omega)
    have hc6 := h6 c (List.mem_of_getElem? hc)
    have next : ¬ bp_cnt k tx (a + 1) p → ∀ i, p ≤ i → i < a → ¬ bp_cnt k tx (a + 1) i := by
      intro h i h1 h2
      by_cases e : i = p
      · subst e; exact h
      · exact hi i (by omega) h2
    refine br_f (nI_pos (by omega)) (And.intro (vp_in_nI (by omega) (by omega)) ?_)
    rw [nI_clamp (by omega), ht p c hc, nI_1 a]
    refine pk_eq c k (fun z => ?_) (fun z => nm_r (nu_pm p) (ih (by omega) (next (fun w => z ?_)) n (by omega)))
    · subst z
      refine yw_mate ht hn h6 hc (by omega) (Nat.le_refl _) (fun k' q q1 q3 hq1 hq2 hq => br_f (nu_ne3 (by omega)) (ho _ (Or.inl ⟨p, by omega, ⟨hc, q, hq1, ?_⟩, fun i' w1 w2 => hi i' w1 w2, rfl⟩))) (fun h => br_t rfl (nm_r (nu_pm p) (ih (by omega) (next ?_) n (by omega))))
      · rcases hq with y | y
        · have := hc.symm.trans y.2.1
          injection this with this
          subst this
          exact y
        · have := y.1
          omega
      · rintro ⟨_, j, hj, hpr⟩
        exact h c j k1 h3 hj (bp_lt (bp_pr_c hpr)) (Or.inl hpr)
    · have := hc.symm.trans w.1
      injection this
theorem yw_kind {P : Int32 → Prop} {A B : Prop} {v2 : Int32} (hk : ∀ k, k < 3 → v2 = nI (k + 1) → A) (hb : ¬ bp_kd v2 → B) : ((v2 < 1 → B) ∧ (¬ v2 < 1 → ((v2 ≤ 3 → A) ∧ (¬ v2 ≤ 3 → B)))) := by
  rcases bp_kdc v2 with ⟨k1, hnk⟩ | ⟨k1, k3, hnk⟩ | ⟨k, hk2, e2, k1, k3⟩
  · exact br_t k1 (hb hnk)
  · exact br_f k1 (br_f k3 (hb hnk))
  · exact br_f k1 (br_t k3 (hk k hk2 e2))
theorem yw_around {post : Int32 → Prop} {v1 v2 : Int32} (ht : tr_ar ta tx) (hn : tx.length ≤ 60) (h6 : ∀ c, c ∈ tx → c ≤ 6) (hb : ¬ (bp_pl tx.length v1 ∧ bp_kd v2) → post (-1)) (ho : ∀ a k : Nat, v1 = nI a → v2 = nI (k + 1) → k < 3 → a < tx.length → ∀ r : Int32, bp_arr (k + 1) tx a r → post r) : wpY_around post (nI tx.length, ta, pt) v1 v2 := by
  unfold wpY_around
  refine yw_pl hn (fun a e ha => br_f (by decide) (yw_kind (P := post) (fun k hk e2 => ?_) (fun h => hb (fun z => h z.2)))) (fun h => br_t rfl (hb (fun z => h z.1)))
  subst e; subst e2
  exact nm_e ⟨a + 1, yw_a24 ht hn h6 (by omega) (by omega) ha (ho a k rfl rfl hk ha) a (Nat.le_refl _) (fun i z1 z2 => absurd z1 (by omega)) _ (Nat.lt_succ_self _)⟩
theorem yw_d36 {post : Int32 → Prop} {J : Int32 → Int32 → Prop} {k i : Nat} {x1 : Int32} (ht : tr_ar ta tx) (hn : tx.length ≤ 60) (h6 : ∀ c, c ∈ tx → c ≤ 6) (h3 : k ≤ 3) (hi : i < tx.length) :
    ∀ d j m : Nat, j + d = tx.length → ((∃ q, j ≤ q ∧ bp_pr k tx i q) → J (nI (m + 1)) (nI (i + 1))) → (¬ (∃ q, j ≤ q ∧ bp_pr k tx i q) → J (nI m) (nI (i + 1))) → ∀ n, d < n → wY_depth_36 post J x1 (nI k) (nI i) (nI tx.length) ta pt n (nI m) (nI j) := by
  intro d
  induction d with
  | zero =>
    intro j m hj h1 h0 n hn2
    obtain ⟨n, rfl⟩ : ∃ k, n = k + 1 := ⟨n - 1, by omega⟩
    have e : j = tx.length := by omega
    subst e
    refine br_t (nI_le (Nat.le_refl _) (by omega)) (nm_r (nI_1 i) (h0 ?_))
    rintro ⟨q, hq, hp⟩
    have := bp_lt (bp_pr_c hp)
    omega
  | succ d ih =>
    intro j m hj h1 h0 n hn2
    obtain ⟨n, rfl⟩ : ∃ k, n = k + 1 := ⟨n - 1, by omega⟩
    refine br_f (nI_ge (by omega) (by omega)) (yw_pair ht hn h6 h3 hi (by omega) (fun w => br_f (by decide) (nm_r (nI_1 m) (nm_r (nI_1 j) (ih (j + 1) (m + 1) (by omega) ?_ (fun _ => h1 ⟨j, Nat.le_refl _, w⟩) n (by omega))))) (fun w => br_t rfl (nm_r (nI_1 j) (ih (j + 1) m (by omega) ?_ ?_ n (by omega)))))
    · rintro ⟨q, hq, hp⟩
      have := bp_pr_u w hp
      omega
    · rintro ⟨q, hq, hp⟩
      exact h1 ⟨q, by omega, hp⟩
    · intro h
      refine h0 ?_
      rintro ⟨q, hq, hp⟩
      by_cases e : q = j
      · subst e; exact w hp
      · exact h ⟨q, by omega, hp⟩
theorem yw_d25 {post : Int32 → Prop} {k a : Nat} (ht : tr_ar ta tx) (hn : tx.length ≤ 60) (h6 : ∀ c, c ∈ tx → c ≤ 6) (h3 : k ≤ 3) (ha : a < tx.length) :
    ∀ d i m : Nat, i + d = a → post (nI (m + (bp_f k tx (a + 1) i - bp_f k tx (a + 1) a))) → ∀ n, d < n → wY_depth_25 post (nI a) (nI k) (nI tx.length) ta pt n (nI m) (nI i) := by
  intro d
  induction d with
  | zero =>
    intro i m hi hp n hn2
    obtain ⟨n, rfl⟩ : ∃ k, n = k + 1 := ⟨n - 1, by omega⟩
    have e : i = a := by omega
    subst e
    rw [Nat.sub_self, Nat.add_zero] at hp
    exact br_t (nI_le (Nat.le_refl _) (by omega)) hp
  | succ d ih =>
    intro i m hi hp n hn2
    obtain ⟨n, rfl⟩ : ∃ k, n = k + 1 := ⟨n - 1, by omega⟩
    have hmono := bp_f_mono k tx (a := i + 1) (a' := a) (b := a + 1) (by omega) (by omega)
    refine br_f (nI_ge (by omega) (by omega)) (nm_r (nI_1 a) ⟨tx.length + 1, yw_d36 ht hn h6 h3 (by omega) (tx.length - (a + 1)) (a + 1) m (by omega) (fun h => ih (i + 1) (m + 1) (by omega) ?_ n (by omega)) (fun h => ih (i + 1) m (by omega) ?_ n (by omega)) _ (by omega)⟩)
    · obtain ⟨q, hq, hpr⟩ := h
      have e := bp_f_cnt (k := k) (tx := tx) (b := a + 1) (i := i) (by omega) (by omega) ⟨hpr.2.1, q, hq, hpr⟩
      rw [e] at hp
      rw [show m + 1 + (bp_f k tx (a + 1) (i + 1) - bp_f k tx (a + 1) a) = m + (bp_f k tx (a + 1) (i + 1) + 1 - bp_f k tx (a + 1) a) by omega]
      exact hp
    · have e := bp_f_nct (k := k) (tx := tx) (b := a + 1) (i := i) (by omega) (by omega) (fun z => h z.2)
      rw [e] at hp
      exact hp
theorem yw_depth {post : Int32 → Prop} {v1 v2 : Int32} (ht : tr_ar ta tx) (hn : tx.length ≤ 60) (h6 : ∀ c, c ∈ tx → c ≤ 6) (hb : ¬ (bp_pl tx.length v1 ∧ bp_kd v2) → post (-1)) (ho : ∀ a k : Nat, v1 = nI a → v2 = nI (k + 1) → k < 3 → a < tx.length → post (nI (bp_f (k + 1) tx (a + 1) 0 - bp_f (k + 1) tx (a + 1) a))) : wpY_depth post (nI tx.length, ta, pt) v1 v2 := by
  unfold wpY_depth
  refine yw_pl hn (fun a e ha => br_f (by decide) (yw_kind (P := post) (fun k hk e2 => ?_) (fun h => hb (fun z => h z.2)))) (fun h => br_t rfl (hb (fun z => h z.1)))
  subst e; subst e2
  refine ⟨a + 1, yw_d25 ht hn h6 (by omega) ha a 0 0 (by omega) ?_ _ (Nat.lt_succ_self _)⟩
  rw [Nat.zero_add]
  exact ho a k rfl rfl hk ha
theorem yw_lo {post : Int32 → Prop} {k a b : Nat} {fn : Int32} (ht : tr_ar ta tx) (hn : tx.length ≤ 60) (h6 : ∀ c, c ∈ tx → c ≤ 6) (k1 : 1 ≤ k) (h3 : k ≤ 3) (hab : a + b ≤ tx.length) :
    ∀ d i m : Nat, i + d = a + b → a ≤ i → post (nI (m + bp_op k (bp_sg tx i (a + b)))) → ∀ n, d < n → wY_loose_6 post (nI a) (nI b) (nI k) fn ta pt n (nI m) (nI i) := by
  intro d
  induction d with
  | zero =>
    intro i m hi hai hp n hn2
    obtain ⟨n, rfl⟩ : ∃ k, n = k + 1 := ⟨n - 1, by omega⟩
    have e : i = a + b := by omega
    subst e
    rw [bp_sg_nil] at hp
    refine br_t ?_ hp
    rw [nI_add]
    exact nI_le (Nat.le_refl _) (by omega)
  | succ d ih =>
    intro i m hi hai hp n hn2
    obtain ⟨n, rfl⟩ : ∃ k, n = k + 1 := ⟨n - 1, by omega⟩
    obtain ⟨c, hc⟩ := yw_ge (tx := tx) (a := i) (by omega)
    have hc6 := h6 c (List.mem_of_getElem? hc)
    rw [bp_sg_cons hc (by omega), bp_op_e] at hp
    refine br_f (by rw [nI_add]; exact nI_ge (by omega) (by omega)) (And.intro (vp_in_nI (by omega) (by omega)) ?_)
    rw [nI_clamp (by omega), ht i c hc, nI_add]
    refine pk_eq c k (fun z => ?_) (fun z => nm_r (nI_1 i) (ih (i + 1) m (by omega) (by omega) ?_ n (by omega)))
    · subst z
      rw [if_pos rfl] at hp
      refine yw_mate ht hn h6 hc (by omega) hab (fun k' q q1 q3 hq1 hq2 hq => br_f (nu_ne3 (by omega)) (nm_r (nI_1 i) (ih (i + 1) m (by omega) (by omega) ?_ n (by omega)))) (fun h => br_t rfl (nm_r (nI_1 m) (nm_r (nI_1 i) (ih (i + 1) (m + 1) (by omega) (by omega) ?_ n (by omega)))))
      · have hpr : bp_pr c tx i q := by
          rcases hq with y | y
          · have := hc.symm.trans y.2.1
            injection this with this
            subst this
            exact y
          · have := hc.symm.trans (bp_pr_c y)
            injection this with this
            omega
        have := (bp_po hc (b := a + b) (by omega) hab).mp ⟨q, hq2, hpr⟩
        rw [if_neg (by omega)] at hp
        exact hp
      · have h0 : bp_cl c (bp_sg tx (i + 1) (a + b)) = 0 := by
          by_cases w : 0 < bp_cl c (bp_sg tx (i + 1) (a + b))
          · obtain ⟨j, hj, hpr⟩ := (bp_po hc (b := a + b) (by omega) hab).mpr w
            exact absurd (Or.inl hpr) (h c j k1 h3 (by have := hpr.1; omega) hj)
          · omega
        rw [if_pos h0] at hp
        rw [show m + 1 + bp_op c (bp_sg tx (i + 1) (a + b)) = m + (bp_op c (bp_sg tx (i + 1) (a + b)) + 1) by omega]
        exact hp
    · rw [if_neg z] at hp
      exact hp
theorem yw_lc {post : Int32 → Prop} {k a b : Nat} {fn : Int32} (ht : tr_ar ta tx) (hn : tx.length ≤ 60) (h6 : ∀ c, c ∈ tx → c ≤ 6) (k1 : 1 ≤ k) (h3 : k ≤ 3) (hab : a + b ≤ tx.length) (hp : post (nI (bp_cl k (bp_sg tx a (a + b))))) :
    ∀ d i : Nat, i + d = a + b → a ≤ i → ∀ n, d < n → wY_loose_6 post (nI a) (nI b) (nI (k + 3)) fn ta pt n (nI (bp_cl k (bp_sg tx a i))) (nI i) := by
  intro d
  induction d with
  | zero =>
    intro i hi hai n hn2
    obtain ⟨n, rfl⟩ : ∃ k, n = k + 1 := ⟨n - 1, by omega⟩
    have e : i = a + b := by omega
    subst e
    refine br_t ?_ hp
    rw [nI_add]
    exact nI_le (Nat.le_refl _) (by omega)
  | succ d ih =>
    intro i hi hai n hn2
    obtain ⟨n, rfl⟩ : ∃ k, n = k + 1 := ⟨n - 1, by omega⟩
    obtain ⟨c, hc⟩ := yw_ge (tx := tx) (a := i) (by omega)
    have hc6 := h6 c (List.mem_of_getElem? hc)
    have K := ih (i + 1) (by omega) (by omega) n (by omega)
    rw [bp_sg_snoc hc hai, bp_cl_app, bp_cl_1] at K
    refine br_f (by rw [nI_add]; exact nI_ge (by omega) (by omega)) (And.intro (vp_in_nI (by omega) (by omega)) ?_)
    rw [nI_clamp (by omega), ht i c hc, nI_add]
    refine pk_eq c (k + 3) (fun z => ?_) (fun z => nm_r (nI_1 i) ?_)
    · subst z
      rw [if_pos rfl] at K
      refine yw_mate ht hn h6 hc (by omega) hab (fun k' q q1 q3 hq1 hq2 hq => br_f (nu_ne3 (by omega)) (nm_r (nI_1 i) ?_)) (fun h => br_t rfl (nm_r (nI_1 _) (nm_r (nI_1 i) ?_)))
      · have hpr : bp_pr k tx q i := by
          rcases hq with y | y
          · have := hc.symm.trans y.2.1
            injection this with this
            omega
          · have := hc.symm.trans (bp_pr_c y)
            injection this with this
            have e : k = k' := by omega
            subst e
            exact y
        have := (bp_pcl k1 h3 hc hai).mp ⟨q, hq1, hpr⟩
        rw [show bp_cl k (bp_sg tx a i) + (1 - bp_op k (bp_sg tx a i)) = bp_cl k (bp_sg tx a i) by omega] at K
        exact K
      · have h0 : bp_op k (bp_sg tx a i) = 0 := by
          by_cases w : 0 < bp_op k (bp_sg tx a i)
          · obtain ⟨q, hq, hpr⟩ := (bp_pcl k1 h3 hc hai).mpr w
            exact absurd (Or.inr hpr) (h k q k1 h3 hq (by have := hpr.1; omega))
          · omega
        rw [h0] at K
        exact K
    · rw [if_neg z, Nat.zero_sub, Nat.add_zero] at K
      exact K
theorem yw_looseOpen {post : Int32 → Prop} {v1 v2 v3 : Int32} (ht : tr_ar ta tx) (hn : tx.length ≤ 60) (h6 : ∀ c, c ∈ tx → c ≤ 6) (hb : ¬ (bp_st tx.length v1 v2 ∧ bp_kd v3) → post (-1)) (ho : ∀ a b k : Nat, v1 = nI a → v2 = nI b → v3 = nI (k + 1) → k < 3 → a + b ≤ tx.length → post (nI (bp_op (k + 1) (bp_sg tx a (a + b))))) : wpY_looseOpen post (nI tx.length, ta, pt) v1 v2 v3 := by
  unfold wpY_looseOpen
  refine yw_st hn (fun a b e1 e2 hab => br_f (by decide) (yw_kind (P := post) (fun k hk e3 => ?_) (fun h => hb (fun z => h z.2)))) (fun h => br_t rfl (hb (fun z => h z.1)))
  subst e1; subst e2; subst e3
  refine ⟨b + 1, yw_lo ht hn h6 (by omega) (by omega) hab b a 0 rfl (Nat.le_refl _) ?_ _ (Nat.lt_succ_self _)⟩
  rw [Nat.zero_add]
  exact ho a b k rfl rfl rfl hk hab
theorem yw_looseClose {post : Int32 → Prop} {v1 v2 v3 : Int32} (ht : tr_ar ta tx) (hn : tx.length ≤ 60) (h6 : ∀ c, c ∈ tx → c ≤ 6) (hb : ¬ (bp_st tx.length v1 v2 ∧ bp_kd v3) → post (-1)) (ho : ∀ a b k : Nat, v1 = nI a → v2 = nI b → v3 = nI (k + 1) → k < 3 → a + b ≤ tx.length → post (nI (bp_cl (k + 1) (bp_sg tx a (a + b))))) : wpY_looseClose post (nI tx.length, ta, pt) v1 v2 v3 := by
  unfold wpY_looseClose
  refine yw_st hn (fun a b e1 e2 hab => br_f (by decide) (yw_kind (P := post) (fun k hk e3 => ?_) (fun h => hb (fun z => h z.2)))) (fun h => br_t rfl (hb (fun z => h z.1)))
  subst e1; subst e2; subst e3
  rw [nu_k3]
  have K := yw_lc (fn := nI tx.length) (pt := pt) ht hn h6 (k := k + 1) (by omega) (by omega) hab (ho a b k rfl rfl rfl hk hab) b a rfl (Nat.le_refl _) _ (Nat.lt_succ_self _)
  rw [bp_sg_nil] at K
  exact ⟨b + 1, K⟩
end
end
section
section
variable {ta pt : Nat → Int32} {tx : List Nat}
/-! the reference: edits -/
theorem bp_ins_ge {a c p d : Nat} (ha : a ≤ tx.length) (h : ((tx.take a ++ [c]) ++ tx.drop a)[p]? = some d) : (p < a ∧ tx[p]? = some d) ∨ (p = a ∧ d = c) ∨ (a < p ∧ tx[p - 1]? = some d) := by
  have hl : (tx.take a).length = a := List.length_take_of_le ha
  have hl2 : (tx.take a ++ [c]).length = a + 1 := by rw [List.length_append, hl, List.length_singleton]
  by_cases h1 : p < a
  · rw [List.getElem?_append_left (by omega), List.getElem?_append_left (by omega), List.getElem?_take, if_pos h1] at h
    exact Or.inl ⟨h1, h⟩
  · by_cases h2 : p = a
    · rw [List.getElem?_append_left (by omega), List.getElem?_append_right (by omega), h2, hl, Nat.sub_self] at h
      have h3 : some c = some d := h
      injection h3 with h3
      exact Or.inr (Or.inl ⟨h2, h3.symm⟩)
    · rw [List.getElem?_append_right (by omega), hl2, List.getElem?_drop, show a + (p - (a + 1)) = p - 1 by omega] at h
      exact Or.inr (Or.inr ⟨by omega, h⟩)
theorem yw_i41 {post : Int32 → SY → Prop} {n a : Nat} {x2 : Int32} {t0 : Nat → Int32} (hn : n < 60) (hp : ∀ t' : Nat → Int32, (∀ p, p < a → t' p = t0 p) → t' a = x2 → (∀ p, a < p → p ≤ n → t' p = t0 (p - 1)) → post (nI (n + 1)) (nI (n + 1), t', pt)) :
    ∀ (d i : Nat) (ta : Nat → Int32), i = a + d → i ≤ n → (∀ p, p ≤ i → ta p = t0 p) → (∀ p, i < p → p ≤ n → ta p = t0 (p - 1)) → ∀ m, d < m → wY_insert_41 post (nI a) x2 (nI n) m (nI i) ta pt := by
  intro d
  induction d with
  | zero =>
    intro i ta hi hin h1 h2 m hm
    obtain ⟨m, rfl⟩ : ∃ k, m = k + 1 := ⟨m - 1, by omega⟩
    have e : i = a := by omega
    subst e
    refine br_t (nI_le (Nat.le_refl _) (by omega)) (And.intro (vp_in_nI (by omega) (by omega)) (nm_r (e' := upd ta i x2) (by rw [nI_clamp (by omega)]) (nm_r (nI_1 n) (hp _ ?_ pk_us ?_))))
    · intro p hp2
      rw [pk_un (by omega), h1 p (by omega)]
    · intro p hp2 hp3
      rw [pk_un (by omega), h2 p hp2 hp3]
  | succ d ih =>
    intro i ta hi hin h1 h2 m hm
    obtain ⟨m, rfl⟩ : ∃ k, m = k + 1 := ⟨m - 1, by omega⟩
    refine br_f (nI_ge (by omega) (by omega)) ?_
    rw [nu_pr (by omega)]
    refine And.intro (vp_in_nI (by omega) (by omega)) (And.intro (vp_in_nI (by omega) (by omega)) (nm_r (e' := upd ta i (ta (i - 1))) (by rw [nI_clamp (by omega), nI_clamp (by omega)]) (nm_r (nu_m (by omega)) (ih (i - 1) _ (by omega) (by omega) ?_ ?_ m (by omega)))))
    · intro p hp2
      rw [pk_un (by omega), h1 p (by omega)]
    · intro p hp2 hp3
      by_cases e : p = i
      · subst e
        rw [pk_us, h1 _ (by omega)]
      · rw [pk_un e, h2 p (by omega) hp3]
theorem yw_insert {post : Int32 → SY → Prop} {v1 v2 : Int32} (ht : tr_ar ta tx) (hn : tx.length ≤ 60) (hf : tx.length = 60 → post (-2) (nI tx.length, ta, pt)) (hb : tx.length < 60 → ¬ bp_in tx.length v1 v2 → post (-1) (nI tx.length, ta, pt))
    (ho : ∀ a c : Nat, v1 = nI a → v2 = nI c → a ≤ tx.length → c ≤ 6 → tx.length < 60 → ∀ ta' : Nat → Int32, tr_ar ta' ((tx.take a ++ [c]) ++ tx.drop a) → post (nI (tx.length + 1)) (nI (tx.length + 1), ta', pt)) : wpY_insert post (nI tx.length, ta, pt) v1 v2 := by
  refine pk_eq tx.length 60 (fun z => hf z) (fun z => ?_)
  have hlt : tx.length < 60 := by omega
  rcases bp_inc tx.length hn v1 v2 with ⟨hv, hni⟩ | ⟨a, ha, e, ⟨hv, hni⟩ | ⟨hle, ⟨hv, hni⟩ | ⟨c, hc, e2, ⟨hv, hni⟩ | hv⟩⟩⟩
  · exact br_t hv (hb hlt hni)
  · subst e
    exact br_f (nI_pos ha) (br_t (nI_lt hv ha) (hb hlt hni))
  · subst e
    exact br_f (nI_pos ha) (br_f (nI_nlt hle (by omega)) (br_t hv (hb hlt hni)))
  · subst e; subst e2
    exact br_f (nI_pos ha) (br_f (nI_nlt hle (by omega)) (br_f (nI_pos hc) (br_f (nI_ge (a := 6) hv hc) (hb hlt hni))))
  · subst e; subst e2
    refine br_f (nI_pos ha) (br_f (nI_nlt hle (by omega)) (br_f (nI_pos hc) (br_t (nI_le (b := 6) hv (by omega)) ⟨tx.length + 1, ?_⟩)))
    refine yw_i41 (t0 := ta) hlt (fun t' h1 h2 h3 => ho a c rfl rfl hle hv hlt t' ?_) (tx.length - a) tx.length ta (by omega) (Nat.le_refl _) (fun _ _ => rfl) (fun p w1 w2 => absurd w1 (by omega)) _ (by omega)
    intro p d hd
    rcases bp_ins_ge hle hd with ⟨w, e⟩ | ⟨w, e⟩ | ⟨w, e⟩
    · rw [h1 p w]; exact ht p d e
    · rw [w, h2, e]
    · have := bp_lt e
      rw [h3 p w (by omega)]; exact ht (p - 1) d e
theorem bp_er_ge {a b p d : Nat} (ha : a ≤ tx.length) (h : (tx.take a ++ (tx.drop a).drop b)[p]? = some d) : (p < a ∧ tx[p]? = some d) ∨ (a ≤ p ∧ tx[p + b]? = some d) := by
  have hl : (tx.take a).length = a := List.length_take_of_le ha
  by_cases h1 : p < a
  · rw [List.getElem?_append_left (by omega), List.getElem?_take, if_pos h1] at h
    exact Or.inl ⟨h1, h⟩
  · rw [List.getElem?_append_right (by omega), hl, List.getElem?_drop, List.getElem?_drop, show a + (b + (p - a)) = p + b by omega] at h
    exact Or.inr ⟨by omega, h⟩
theorem yw_e15 {post : Int32 → SY → Prop} {n a b : Nat} {t0 : Nat → Int32} (hn : n ≤ 60) (hab : a + b ≤ n) (hp : ∀ t' : Nat → Int32, (∀ p, p < a → t' p = t0 p) → (∀ p, a ≤ p → p + b < n → t' p = t0 (p + b)) → post (nI (n - b)) (nI (n - b), t', pt)) :
    ∀ (d i : Nat) (ta : Nat → Int32), i + d = n → a + b ≤ i → (∀ p, p < a → ta p = t0 p) → (∀ p, a ≤ p → p + b < i → ta p = t0 (p + b)) → (∀ p, i ≤ p + b → ta p = t0 p) → ∀ m, d < m → wY_erase_15 post (nI b) (nI n) m (nI i) ta pt := by
  intro d
  induction d with
  | zero =>
    intro i ta hi hai h1 h2 h3 m hm
    obtain ⟨m, rfl⟩ : ∃ k, m = k + 1 := ⟨m - 1, by omega⟩
    have e : i = n := by omega
    subst e
    exact br_t (nI_le (Nat.le_refl _) (by omega)) (nm_r (pk_sub (by omega)) (hp ta h1 h2))
  | succ d ih =>
    intro i ta hi hai h1 h2 h3 m hm
    obtain ⟨m, rfl⟩ : ∃ k, m = k + 1 := ⟨m - 1, by omega⟩
    refine br_f (nI_ge (by omega) (by omega)) (And.intro (vp_in_nI (by omega) (by omega)) ?_)
    rw [pk_sub (by omega)]
    refine And.intro (vp_in_nI (by omega) (by omega)) (nm_r (e' := upd ta (i - b) (ta i)) (by rw [nI_clamp (by omega), nI_clamp (by omega)]) (nm_r (nI_1 i) (ih (i + 1) _ (by omega) (by omega) ?_ ?_ ?_ m (by omega))))
    · intro p hp2
      rw [pk_un (by omega), h1 p hp2]
    · intro p hp2 hp3
      by_cases e : p = i - b
      · subst e
        rw [pk_us, h3 i (by omega), show i - b + b = i by omega]
      · rw [pk_un e, h2 p hp2 (by omega)]
    · intro p hp2
      rw [pk_un (by omega), h3 p (by omega)]
theorem yw_erase {post : Int32 → SY → Prop} {v1 v2 : Int32} (ht : tr_ar ta tx) (hn : tx.length ≤ 60) (hb : ¬ bp_st tx.length v1 v2 → post (-1) (nI tx.length, ta, pt))
    (ho : ∀ a b : Nat, v1 = nI a → v2 = nI b → a + b ≤ tx.length → ∀ ta' : Nat → Int32, tr_ar ta' (tx.take a ++ (tx.drop a).drop b) → post (nI (tx.length - b)) (nI (tx.length - b), ta', pt)) : wpY_erase post (nI tx.length, ta, pt) v1 v2 := by
  unfold wpY_erase
  refine yw_st hn (fun a b e1 e2 hab => br_f (by decide) ?_) (fun h => br_t rfl (hb h))
  subst e1; subst e2
  refine nm_r (nI_add a b) ⟨tx.length + 1, ?_⟩
  refine yw_e15 (t0 := ta) hn hab (fun t' h1 h2 => ho a b rfl rfl hab t' ?_) (tx.length - (a + b)) (a + b) ta (by omega) (Nat.le_refl _) (fun _ _ => rfl) (fun p w1 w2 => absurd w1 (by omega)) (fun _ _ => rfl) _ (by omega)
  intro p d hd
  rcases bp_er_ge (by omega) hd with ⟨w, e⟩ | ⟨w, e⟩
  · rw [h1 p w]; exact ht p d e
  · have := bp_lt e
    rw [h2 p w this]; exact ht (p + b) d e
theorem bp_pt_ge {a b p d : Nat} (h : ((tx.drop a).take b)[p]? = some d) : p < b ∧ tx[a + p]? = some d := by
  rw [List.getElem?_take] at h
  by_cases hp : p < b
  · rw [if_pos hp, List.getElem?_drop] at h
    exact ⟨hp, h⟩
  · rw [if_neg hp] at h
    exact nomatch h
theorem yw_v66 {post : Int32 → SY → Prop} {R B : List Nat} {t b : Nat} (hpt : tr_ar pt B) (hB : B.length = b) (hB6 : ∀ c, c ∈ B → c ≤ 6) (ht : t ≤ R.length) (hl : R.length + b ≤ 60) (hp : ∀ ta' : Nat → Int32, tr_ar ta' ((R.take t ++ B) ++ R.drop t) → post (nI (R.length + b)) (nI (R.length + b), ta', pt)) :
    ∀ (d i : Nat) (ta : Nat → Int32), i + d = b → tr_ar ta ((R.take t ++ B.take i) ++ R.drop t) → ∀ m, d < m → wY_move_66 post (nI b) (nI t) m (nI i) (nI (R.length + i)) ta pt := by
  intro d
  induction d with
  | zero =>
    intro i ta hi har m hm
    obtain ⟨m, rfl⟩ : ∃ k, m = k + 1 := ⟨m - 1, by omega⟩
    have e : i = b := by omega
    subst e
    rw [List.take_of_length_le (l := B) (by omega)] at har
    exact br_t (nI_le (Nat.le_refl _) (by omega)) (hp ta har)
  | succ d ih =>
    intro i ta hi har m hm
    obtain ⟨m, rfl⟩ : ∃ k, m = k + 1 := ⟨m - 1, by omega⟩
    obtain ⟨c, hc⟩ := yw_ge (tx := B) (a := i) (by omega)
    have hc6 := hB6 c (List.mem_of_getElem? hc)
    have hl1 : (R.take t ++ B.take i).length = t + i := by
      rw [List.length_append, List.length_take_of_le ht, List.length_take_of_le (by omega)]
    have hlx : ((R.take t ++ B.take i) ++ R.drop t).length = R.length + i := by
      rw [List.length_append, hl1, List.length_drop]; omega
    have hst : B.take (i + 1) = B.take i ++ [c] := by
      rw [List.take_add_one, hc]
      rfl
    have hx : ((((R.take t ++ B.take i) ++ R.drop t).take (t + i)) ++ [c]) ++ ((R.take t ++ B.take i) ++ R.drop t).drop (t + i) = (R.take t ++ B.take (i + 1)) ++ R.drop t := by
      rw [List.take_append_of_le_length (by omega), List.take_of_length_le (by omega), List.drop_append_of_le_length (by omega), List.drop_of_length_le (by omega), hst, List.nil_append, List.append_assoc (R.take t)]
    refine br_f (nI_ge (by omega) (by omega)) (And.intro (vp_in_nI (by omega) (by omega)) ?_)
    rw [nI_clamp (by omega), hpt i c hc, nI_add, ← hlx]
    refine yw_insert har (by omega) (fun z => by omega) (fun z1 z2 => absurd ⟨t + i, c, rfl, rfl, by omega, hc6⟩ z2) (fun a c' e1 e2 ha hc' hlt ta' har' => nm_r (nI_1 i) ?_)
    have ea := nu_im e1 (by omega) (by omega)
    have ec := nu_im e2 (by omega) (by omega)
    subst ea; subst ec
    rw [hx] at har'
    rw [hlx, show R.length + i + 1 = R.length + (i + 1) by omega]
    exact ih (i + 1) ta' (by omega) har' m (by omega)
theorem yw_move {post : Int32 → SY → Prop} {v1 v2 v3 : Int32} (ht : tr_ar ta tx) (hn : tx.length ≤ 60) (h6 : ∀ c, c ∈ tx → c ≤ 6) (hb : ¬ bp_mv tx.length v1 v2 v3 → post (-1) (nI tx.length, ta, pt))
    (ho : ∀ a b t : Nat, v1 = nI a → v2 = nI b → v3 = nI t → a + b ≤ tx.length → t + b ≤ tx.length → ∀ ta' pt' : Nat → Int32, tr_ar ta' (((tx.take a ++ (tx.drop a).drop b).take t ++ (tx.drop a).take b) ++ (tx.take a ++ (tx.drop a).drop b).drop t) → post (nI tx.length) (nI tx.length, ta', pt')) : wpY_move post (nI tx.length, ta, pt) v1 v2 v3 := by
  unfold wpY_move
  refine yw_st hn (fun a b e1 e2 hab => br_f (by decide) ?_) (fun h => br_t rfl (hb (bp_nmv h)))
  subst e1; subst e2
  rw [pk_sub (by omega)]
  rcases bp_mvc hn hab v3 with ⟨hv, hnm⟩ | ⟨t, htt, e3, ⟨hv, hnm⟩ | hv⟩
  · exact br_t hv (hb hnm)
  · subst e3
    exact br_f (nI_pos htt) (br_f (nI_ge hv htt) (hb hnm))
  · subst e3
    refine br_f (nI_pos htt) (br_t (nI_le hv (by omega)) ⟨b + 1, ?_⟩)
    have hlR : (tx.take a ++ (tx.drop a).drop b).length = tx.length - b := by
      rw [List.length_append, List.length_take, List.length_drop, List.length_drop]; omega
    have hlB : ((tx.drop a).take b).length = b := List.length_take_of_le (by rw [List.length_drop]; omega)
    have hB6 : ∀ c, c ∈ (tx.drop a).take b → c ≤ 6 := fun c hc => h6 c (List.mem_of_mem_drop (List.mem_of_mem_take hc))
    have loop : ∀ (d i : Nat) (pt : Nat → Int32), i + d = b → (∀ p, p < i → pt p = ta (a + p)) → ∀ m, d < m → wY_move_28 post (nI a) (nI b) (nI t) (nI tx.length) m (nI i) ta pt := by
      intro d
      induction d with
      | zero =>
        intro i pt hi hpt m hm
        obtain ⟨m, rfl⟩ : ∃ k, m = k + 1 := ⟨m - 1, by omega⟩
        have e : i = b := by omega
        subst e
        have har : tr_ar pt ((tx.drop a).take i) := by
          intro p d hd
          obtain ⟨w, e⟩ := bp_pt_ge hd
          rw [hpt p w]
          exact ht (a + p) d e
        refine br_t (nI_le (Nat.le_refl _) (by omega)) (yw_erase ht hn (fun z => absurd ⟨a, i, rfl, rfl, hab⟩ z) (fun a' b' e1 e2 hab' ta' har' => ?_))
        have ea := nu_im e1 (by omega) (by omega)
        have eb := nu_im e2 (by omega) (by omega)
        subst ea; subst eb
        refine ⟨i + 1, ?_⟩
        have K := yw_v66 (post := post) (R := tx.take a ++ (tx.drop a).drop i) (t := t) har hlB hB6 (by omega) (by omega) (fun ta2 h2 => ?_) i 0 ta' (by omega) ?_ (i + 1) (Nat.lt_succ_self _)
        · rw [hlR, Nat.add_zero] at K
          exact K
        · rw [hlR, show tx.length - i + i = tx.length by omega]
          exact ho a i t rfl rfl rfl hab (by omega) ta2 pt h2
        · rw [List.take_zero, List.append_nil, List.take_append_drop]
          exact har'
      | succ d ih =>
        intro i pt hi hpt m hm
        obtain ⟨m, rfl⟩ : ∃ k, m = k + 1 := ⟨m - 1, by omega⟩
        refine br_f (nI_ge (by omega) (by omega)) ?_
        rw [nI_add]
        refine And.intro (vp_in_nI (by omega) (by omega)) (And.intro (vp_in_nI (by omega) (by omega)) (nm_r (e' := upd pt i (ta (a + i))) (by rw [nI_clamp (by omega), nI_clamp (by omega)]) (nm_r (nI_1 i) (ih (i + 1) _ (by omega) ?_ m (by omega)))))
        intro p hp
        by_cases e : p = i
        · subst e; rw [pk_us]
        · rw [pk_un e, hpt p (by omega)]
    exact loop b 0 pt (by omega) (fun p w => absurd w (Nat.not_lt_zero p)) (b + 1) (Nat.lt_succ_self _)
theorem bp_mi_ge {M : List Nat} {a b p d : Nat} (hab : a + b ≤ tx.length) (hM : M.length = b) (h : (tx.take a ++ (M ++ (tx.drop a).drop b))[p]? = some d) : ((p < a ∨ a + b ≤ p) ∧ tx[p]? = some d) ∨ (a ≤ p ∧ p < a + b ∧ M[p - a]? = some d) := by
  have hl : (tx.take a).length = a := List.length_take_of_le (by omega)
  by_cases h1 : p < a
  · rw [List.getElem?_append_left (by omega), List.getElem?_take, if_pos h1] at h
    exact Or.inl ⟨Or.inl h1, h⟩
  · rw [List.getElem?_append_right (by omega), hl] at h
    by_cases h2 : p < a + b
    · rw [List.getElem?_append_left (by omega)] at h
      exact Or.inr ⟨by omega, h2, h⟩
    · rw [List.getElem?_append_right (by omega), hM, List.getElem?_drop, List.getElem?_drop, show a + (b + (p - a - b)) = p by omega] at h
      exact Or.inl ⟨Or.inr (by omega), h⟩
theorem bp_mc_ge {B : List Nat} {i c : Nat} (hi : i < B.length) (h : B[B.length - 1 - i]? = some c) : (bp_mc B)[i]? = some (bp_fl c) := by
  unfold bp_mc
  rw [List.getElem?_reverse (by rw [List.length_map]; exact hi), List.length_map, List.getElem?_map, h]
  rfl
theorem yw_mirror {post : Int32 → SY → Prop} {v1 v2 : Int32} (ht : tr_ar ta tx) (hn : tx.length ≤ 60) (h6 : ∀ c, c ∈ tx → c ≤ 6) (hb : ¬ bp_st tx.length v1 v2 → post (-1) (nI tx.length, ta, pt))
    (ho : ∀ a b : Nat, v1 = nI a → v2 = nI b → a + b ≤ tx.length → ∀ ta' pt' : Nat → Int32, tr_ar ta' (tx.take a ++ (bp_mc ((tx.drop a).take b) ++ (tx.drop a).drop b)) → post (nI tx.length) (nI tx.length, ta', pt')) : wpY_mirror post (nI tx.length, ta, pt) v1 v2 := by
  unfold wpY_mirror
  refine yw_st hn (fun a b e1 e2 hab => br_f (by decide) ⟨b + 1, ?_⟩) (fun h => br_t rfl (hb h))
  subst e1; subst e2
  have hlB : ((tx.drop a).take b).length = b := List.length_take_of_le (by rw [List.length_drop]; omega)
  have hB6 : ∀ c, c ∈ (tx.drop a).take b → c ≤ 6 := fun c hc => h6 c (List.mem_of_mem_drop (List.mem_of_mem_take hc))
  have back : ∀ (pt : Nat → Int32), tr_ar pt ((tx.drop a).take b) → ∀ (d i : Nat) (t' : Nat → Int32), i + d = b → (∀ p, p < a ∨ a + i ≤ p → t' p = ta p) → (∀ p c, p < i → (bp_mc ((tx.drop a).take b))[p]? = some c → t' (a + p) = nI c) → ∀ m, d < m → wY_mirror_40 post (nI a) (nI b) (nI tx.length) m (nI i) t' pt := by
    intro pt har d
    induction d with
    | zero =>
      intro i t' hi h1 h2 m hm
      obtain ⟨m, rfl⟩ : ∃ k, m = k + 1 := ⟨m - 1, by omega⟩
      have e : i = b := by omega
      subst e
      refine br_t (nI_le (Nat.le_refl _) (by omega)) (ho a i rfl rfl hab t' pt ?_)
      intro p d hd
      rcases bp_mi_ge hab (by rw [bp_mc_len, hlB]) hd with ⟨w, e⟩ | ⟨w1, w2, e⟩
      · rw [h1 p w]; exact ht p d e
      · have := h2 (p - a) d (by omega) e
        rw [show a + (p - a) = p by omega] at this
        exact this
    | succ d ih =>
      intro i t' hi h1 h2 m hm
      obtain ⟨m, rfl⟩ : ∃ k, m = k + 1 := ⟨m - 1, by omega⟩
      obtain ⟨c, hc⟩ := yw_ge (tx := (tx.drop a).take b) (a := b - 1 - i) (by omega)
      have hc6 := hB6 c (List.mem_of_getElem? hc)
      have hmc : (bp_mc ((tx.drop a).take b))[i]? = some (bp_fl c) := bp_mc_ge (by omega) (by rw [hlB]; exact hc)
      have next : wY_mirror_40 post (nI a) (nI b) (nI tx.length) m (nI (i + 1)) (upd t' (a + i) (nI (bp_fl c))) pt := by
        refine ih (i + 1) _ (by omega) ?_ ?_ m (by omega)
        · intro p hp
          rw [pk_un (by omega), h1 p (by omega)]
        · intro p c' hp hc'
          by_cases e : p = i
          · subst e
            have := hmc.symm.trans hc'
            injection this with this
            rw [pk_us, this]
          · rw [pk_un (by omega), h2 p c' (by omega) hc']
      have ein : vp_in (nI a + nI i) 60 := by rw [nI_add]; exact vp_in_nI (by omega) (by omega)
      have ecl : (nI a + nI i).toNatClampNeg = a + i := by rw [nI_add, nI_clamp (by omega)]
      refine br_f (nI_ge (by omega) (by omega)) ?_
      rw [nu_pr (by omega), pk_sub (by omega)]
      refine And.intro (vp_in_nI (by omega) (by omega)) (nm_r (e' := nI c) (by rw [nI_clamp (by omega), har _ c hc]) (pk_eq c 0 (fun z => And.intro ein (nm_r (e' := upd t' (a + i) (nI (bp_fl c))) ?_ (nm_r (nI_1 i) next))) (fun z => pk_lt 3 c (fun y => And.intro ein (nm_r (e' := upd t' (a + i) (nI (bp_fl c))) ?_ (nm_r (nI_1 i) next))) (fun y => And.intro ein (nm_r (e' := upd t' (a + i) (nI (bp_fl c))) ?_ (nm_r (nI_1 i) next))))))
      · rw [ecl, z, bp_fl_0, nI_0]
      · rw [ecl, show (3 : Int32) = nI 3 from rfl, pk_sub (by omega), bp_fl_c y hc6]
      · rw [ecl, nu_k3, bp_fl_o (by omega) y]
  have loop : ∀ (d i : Nat) (pt : Nat → Int32), i + d = b → (∀ p, p < i → pt p = ta (a + p)) → ∀ m, d < m → wY_mirror_13 post (nI a) (nI b) (nI tx.length) m (nI i) ta pt := by
    intro d
    induction d with
    | zero =>
      intro i pt hi hpt m hm
      obtain ⟨m, rfl⟩ : ∃ k, m = k + 1 := ⟨m - 1, by omega⟩
      have e : i = b := by omega
      subst e
      have har : tr_ar pt ((tx.drop a).take i) := by
        intro p d hd
        obtain ⟨w, e⟩ := bp_pt_ge hd
        rw [hpt p w]
        exact ht (a + p) d e
      exact br_t (nI_le (Nat.le_refl _) (by omega)) ⟨i + 1, back pt har i 0 ta (by omega) (fun _ _ => rfl) (fun p c w => absurd w (Nat.not_lt_zero p)) _ (Nat.lt_succ_self _)⟩
    | succ d ih =>
      intro i pt hi hpt m hm
      obtain ⟨m, rfl⟩ : ∃ k, m = k + 1 := ⟨m - 1, by omega⟩
      refine br_f (nI_ge (by omega) (by omega)) ?_
      rw [nI_add]
      refine And.intro (vp_in_nI (by omega) (by omega)) (And.intro (vp_in_nI (by omega) (by omega)) (nm_r (e' := upd pt i (ta (a + i))) (by rw [nI_clamp (by omega), nI_clamp (by omega)]) (nm_r (nI_1 i) (ih (i + 1) _ (by omega) ?_ m (by omega)))))
      intro p hp
      by_cases e : p = i
      · subst e; rw [pk_us]
      · rw [pk_un e, hpt p (by omega)]
  exact loop b 0 pt (by omega) (fun p w => absurd w (Nat.not_lt_zero p)) (b + 1) (Nat.lt_succ_self _)
end
end
section
section
variable {fR fS fC fP fL fG fB fM fA : Int32} {cA lA rA sA tA kA oA qA eA pA : Nat → Int32}
/-! the constructors, and what the relation gives -/
theorem wk_init101 {post : SX → Prop} (hp : ∀ (F : List Nat) (eA : Nat → Int32), F.Perm (List.range 60) → tr_ar eA F → post (fR, fS, nI F.length, fP, fL, fG, fB, fM, fA, cA, lA, rA, sA, tA, kA, oA, qA, eA, pA)) :
    ∀ (p : Nat) (F : List Nat) (eA : Nat → Int32), (F ++ List.range p).Perm (List.range 60) → tr_ar eA F → ∀ n, p < n → wX_init_101 post fR fS fP fL fG fB fM fA n (nI p - 1) (nI F.length) cA lA rA sA tA kA oA qA eA pA := by
  intro p
  induction p with
  | zero =>
    intro F eA hP har n hn
    obtain ⟨n, rfl⟩ : ∃ k, n = k + 1 := ⟨n - 1, by omega⟩
    rw [List.range_zero, List.append_nil] at hP
    exact br_t (by rw [nu_0m]; decide) (hp F eA hP har)
  | succ p ih =>
    intro F eA hP har n hn
    obtain ⟨n, rfl⟩ : ∃ k, n = k + 1 := ⟨n - 1, by omega⟩
    have hl := hP.length_eq
    rw [List.length_append, List.length_range, List.length_range] at hl
    rw [nI_pred]
    refine br_f (nI_pos (by omega)) (And.intro (vp_in_nI (by omega) (by omega)) (nm_r (e' := upd eA F.length (nI p)) (by rw [nI_clamp (by omega), nu_vbb (by omega)]) (nm_r (e' := nI (F ++ [p]).length) (by rw [nI_1, List.length_append]; rfl) (nm_r (nu_pm p) (ih (F ++ [p]) _ ?_ (tr_ar_push har) n (by omega))))))
    refine List.Perm.trans ?_ hP
    rw [List.range_succ, List.append_assoc]
    exact List.Perm.append_left F List.perm_append_comm
theorem tr_I_f {u : SX} {L : tr_L} (I : tr_I u L) : L.length ≤ 60 ∧ ∀ c, c ∈ tr_cs L → c ≤ 6 := by
  obtain ⟨fR, fS, fC, fP, fL, fG, fB, fM, fA, cA, lA, rA, sA, tA, kA, oA, qA, eA, pA⟩ := u
  obtain ⟨F, h, hP, har, hC⟩ := I
  have := (tr_pm hP).2.1
  exact ⟨by omega, tr_le6 h⟩
end
end
section
/-! what is owed -/
/-- one text L of (node, code): the tree reads it, the reference's row holds its codes -/
def i_Rel (k : Nat) (u : SX) (v : SY) : Prop := ∃ L : tr_L, tr_I u L ∧ v.1 = nI (tr_cs L).length ∧ tr_ar v.2.1 (tr_cs L)
theorem i_up {k : Nat} {u : SX} {v : SY} (h : i_Rel k u v) : i_Rel (k + 4) u v := h
theorem i_vc0 : wpX_init (fun u => wpY_init (fun v => i_Rel 0 u v)) := by
  have K := wk_init101 (post := fun u => wpY_init (fun v => i_Rel 0 u v)) (fR := -1) (fS := 20011) (fP := 0) (fL := 0) (fG := 0) (fB := 0) (fM := 0) (fA := 0) (cA := fun _ => 0) (lA := fun _ => 0) (rA := fun _ => 0) (sA := fun _ => 0) (tA := fun _ => 0) (kA := fun _ => 0) (oA := fun _ => 0) (qA := fun _ => 0) (pA := fun _ => 0)
    (fun F eA hP har => ⟨[], ⟨F, tr_nil _, hP, har, rfl⟩, rfl, fun i j h => nomatch h⟩) 60 [] (fun _ => 0) (List.Perm.refl _) (fun i j h => nomatch h) 61 (by decide)
  rw [show nI 60 - 1 = (59 : Int32) from by decide] at K
  exact ⟨61, K⟩
theorem i_vc_insert {k : Nat} {u : SX} {v : SY} (I : i_Rel k u v) (hk : k + 4 ≤ 2048) (v1 : Int32) (v2 : Int32) : wpX_insert (fun r u' => wpY_insert (fun r' v' => r' = r ∧ i_Rel (k + 4) u' v') v v1 v2) u v1 v2 := by
  obtain ⟨L, hI, e1, ht⟩ := I
  obtain ⟨n, ta, pt⟩ := v
  have e1 : n = nI (tr_cs L).length := e1
  have ht : tr_ar ta (tr_cs L) := ht
  subst e1
  obtain ⟨hL, h6⟩ := tr_I_f hI
  have hl := tr_cs_len L
  refine xm_insert hI (fun z => ?_) (fun z1 z2 => ?_) (fun a c j e1 e2 ha hc hlt u' I' => ?_)
  · exact yw_insert ht (by omega) (fun _ => ⟨rfl, L, hI, rfl, ht⟩) (fun w => by omega) (fun a c _ _ _ _ w => by omega)
  · exact yw_insert ht (by omega) (fun w => by omega) (fun _ _ => ⟨rfl, L, hI, rfl, ht⟩) (fun a c e1 e2 ha hc _ => absurd ⟨a, c, e1, e2, by omega, hc⟩ z2)
  · refine yw_insert ht (by omega) (fun w => by omega) (fun _ w => absurd ⟨a, c, e1, e2, by omega, hc⟩ w) (fun a' c' e1' e2' ha' hc' _ ta' har' => ⟨by rw [hl], _, I', ?_, ?_⟩)
    · show nI _ = nI _
      congr 1
      simp only [tr_cs_len, List.length_append, List.length_take, List.length_drop, List.length_singleton]
      omega
    · have ea := nu_im (e1.symm.trans e1') (by omega) (by omega)
      have ec := nu_im (e2.symm.trans e2') (by omega) (by omega)
      subst ea; subst ec
      rw [tr_cs_app, tr_cs_app, tr_cs_take, tr_cs_drop]
      exact har'
theorem i_vc_erase {k : Nat} {u : SX} {v : SY} (I : i_Rel k u v) (hk : k + 4 ≤ 2048) (v1 : Int32) (v2 : Int32) : wpX_erase (fun r u' => wpY_erase (fun r' v' => r' = r ∧ i_Rel (k + 4) u' v') v v1 v2) u v1 v2 := by
  obtain ⟨L, hI, e1, ht⟩ := I
  obtain ⟨n, ta, pt⟩ := v
  have e1 : n = nI (tr_cs L).length := e1
  have ht : tr_ar ta (tr_cs L) := ht
  subst e1
  obtain ⟨hL, h6⟩ := tr_I_f hI
  have hl := tr_cs_len L
  refine xm_erase hI (fun z => ?_) (fun a b e1 e2 hab u' I' => ?_)
  · exact yw_erase ht (by omega) (fun _ => ⟨rfl, L, hI, rfl, ht⟩) (fun a b e1 e2 hab => absurd ⟨a, b, e1, e2, by omega⟩ z)
  · refine yw_erase ht (by omega) (fun w => absurd ⟨a, b, e1, e2, by omega⟩ w) (fun a' b' e1' e2' hab' ta' har' => ?_)
    have ea := nu_im (e1.symm.trans e1') (by omega) (by omega)
    have eb := nu_im (e2.symm.trans e2') (by omega) (by omega)
    subst ea; subst eb
    refine ⟨by rw [hl], _, I', ?_, ?_⟩
    · show nI _ = nI _
      congr 1
      simp only [tr_cs_len, List.length_append, List.length_take, List.length_drop]
      omega
    · rw [tr_cs_app, tr_cs_take, tr_cs_drop, tr_cs_drop]
      exact har'
theorem i_vc_move {k : Nat} {u : SX} {v : SY} (I : i_Rel k u v) (hk : k + 4 ≤ 2048) (v1 : Int32) (v2 : Int32) (v3 : Int32) : wpX_move (fun r u' => wpY_move (fun r' v' => r' = r ∧ i_Rel (k + 4) u' v') v v1 v2 v3) u v1 v2 v3 := by
  obtain ⟨L, hI, e1, ht⟩ := I
  obtain ⟨n, ta, pt⟩ := v
  have e1 : n = nI (tr_cs L).length := e1
  have ht : tr_ar ta (tr_cs L) := ht
  subst e1
  obtain ⟨hL, h6⟩ := tr_I_f hI
  have hl := tr_cs_len L
  refine xm_move hI (fun z => ?_) (fun a b t e1 e2 e3 hab htb u' I' => ?_)
  · exact yw_move ht (by omega) h6 (fun _ => ⟨rfl, L, hI, rfl, ht⟩) (fun a b t e1 e2 e3 hab htb => absurd ⟨a, b, t, e1, e2, e3, by omega, by omega⟩ z)
  · refine yw_move ht (by omega) h6 (fun w => absurd ⟨a, b, t, e1, e2, e3, by omega, by omega⟩ w) (fun a' b' t' e1' e2' e3' hab' htb' ta' pt' har' => ?_)
    have ea := nu_im (e1.symm.trans e1') (by omega) (by omega)
    have eb := nu_im (e2.symm.trans e2') (by omega) (by omega)
    have et := nu_im (e3.symm.trans e3') (by omega) (by omega)
    subst ea; subst eb; subst et
    refine ⟨by rw [hl], _, I', ?_, ?_⟩
    · show nI _ = nI _
      congr 1
      simp only [tr_cs_len, List.length_append, List.length_take, List.length_drop]
      omega
    · simp only [tr_cs_app, tr_cs_take, tr_cs_drop]
      exact har'
theorem i_vc_mirror {k : Nat} {u : SX} {v : SY} (I : i_Rel k u v) (hk : k + 4 ≤ 2048) (v1 : Int32) (v2 : Int32) : wpX_mirror (fun r u' => wpY_mirror (fun r' v' => r' = r ∧ i_Rel (k + 4) u' v') v v1 v2) u v1 v2 := by
  obtain ⟨L, hI, e1, ht⟩ := I
  obtain ⟨n, ta, pt⟩ := v
  have e1 : n = nI (tr_cs L).length := e1
  have ht : tr_ar ta (tr_cs L) := ht
  subst e1
  obtain ⟨hL, h6⟩ := tr_I_f hI
  have hl := tr_cs_len L
  refine xm_mirror hI (fun z => ?_) (fun a b e1 e2 hab u' I' => ?_)
  · exact yw_mirror ht (by omega) h6 (fun _ => ⟨rfl, L, hI, rfl, ht⟩) (fun a b e1 e2 hab => absurd ⟨a, b, e1, e2, by omega⟩ z)
  · refine yw_mirror ht (by omega) h6 (fun w => absurd ⟨a, b, e1, e2, by omega⟩ w) (fun a' b' e1' e2' hab' ta' pt' har' => ?_)
    have ea := nu_im (e1.symm.trans e1') (by omega) (by omega)
    have eb := nu_im (e2.symm.trans e2') (by omega) (by omega)
    subst ea; subst eb
    refine ⟨by rw [hl], _, I', ?_, ?_⟩
    · show nI _ = nI _
      congr 1
      simp only [tr_cs_len, List.length_append, List.length_take, List.length_drop, tr_mr_len]
      omega
    · simp only [tr_cs_app, tr_cs_take, tr_cs_drop, tr_cs_mr]
      exact har'
theorem i_vc_codeAt {k : Nat} {u : SX} {v : SY} (I : i_Rel k u v) (hk : k + 4 ≤ 2048) (v1 : Int32) : wpX_codeAt (fun r u' => wpY_codeAt (fun r' => r' = r ∧ i_Rel (k + 4) u' v) v v1) u v1 := by
  obtain ⟨L, hI, e1, ht⟩ := I
  obtain ⟨n, ta, pt⟩ := v
  have e1 : n = nI (tr_cs L).length := e1
  have ht : tr_ar ta (tr_cs L) := ht
  subst e1
  obtain ⟨hL, h6⟩ := tr_I_f hI
  have hl := tr_cs_len L
  refine xm_codeAt hI (fun z => ?_) (fun a c e1 hc u' I' => ?_)
  · exact yw_codeAt ht (by omega) (fun _ => ⟨rfl, L, hI, rfl, ht⟩) (fun a c e1 hc => absurd ⟨a, by have := bp_lt hc; omega, e1⟩ z)
  · have ha := bp_lt hc
    refine yw_codeAt ht (by omega) (fun w => absurd ⟨a, ha, e1⟩ w) (fun a' c' e1' hc' => ?_)
    have ha' := bp_lt hc'
    have ea := nu_im (e1.symm.trans e1') (by omega) (by omega)
    subst ea
    have ec := hc'.symm.trans hc
    injection ec with ec
    exact ⟨by rw [ec], L, I', rfl, ht⟩
theorem i_vc_partner {k : Nat} {u : SX} {v : SY} (I : i_Rel k u v) (hk : k + 4 ≤ 2048) (v1 : Int32) : wpX_partner (fun r u' => wpY_partner (fun r' => r' = r ∧ i_Rel (k + 4) u' v) v v1) u v1 := by
  obtain ⟨L, hI, e1, ht⟩ := I
  obtain ⟨n, ta, pt⟩ := v
  have e1 : n = nI (tr_cs L).length := e1
  have ht : tr_ar ta (tr_cs L) := ht
  subst e1
  obtain ⟨hL, h6⟩ := tr_I_f hI
  have hl := tr_cs_len L
  refine xm_partner hI (fun z => ?_) (fun a c e1 hc r u' I' hr => ?_)
  · exact yw_partner ht (by omega) h6 (fun _ => ⟨rfl, L, hI, rfl, ht⟩) (fun a e1 ha => absurd ⟨a, by omega, e1⟩ z)
  · have ha := bp_lt hc
    refine yw_partner ht (by omega) h6 (fun w => absurd ⟨a, ha, e1⟩ w) (fun a' e1' ha' r' hr' => ?_)
    have ea := nu_im (e1.symm.trans e1') (by omega) (by omega)
    subst ea
    exact ⟨bp_par_u hr hr', L, I', rfl, ht⟩
theorem i_vc_around {k : Nat} {u : SX} {v : SY} (I : i_Rel k u v) (hk : k + 4 ≤ 2048) (v1 : Int32) (v2 : Int32) : wpX_around (fun r u' => wpY_around (fun r' => r' = r ∧ i_Rel (k + 4) u' v) v v1 v2) u v1 v2 := by
  obtain ⟨L, hI, e1, ht⟩ := I
  obtain ⟨n, ta, pt⟩ := v
  have e1 : n = nI (tr_cs L).length := e1
  have ht : tr_ar ta (tr_cs L) := ht
  subst e1
  obtain ⟨hL, h6⟩ := tr_I_f hI
  have hl := tr_cs_len L
  refine xm_around hI (fun z => ?_) (fun a q c e1 e2 hq hc r u' I' hr => ?_)
  · exact yw_around ht (by omega) h6 (fun _ => ⟨rfl, L, hI, rfl, ht⟩) (fun a q e1 e2 hq ha => absurd ⟨⟨a, by omega, e1⟩, ⟨q, hq, e2⟩⟩ z)
  · have ha := bp_lt hc
    refine yw_around ht (by omega) h6 (fun w => absurd ⟨⟨a, ha, e1⟩, ⟨q, hq, e2⟩⟩ w) (fun a' q' e1' e2' hq' ha' r' hr' => ?_)
    have ea := nu_im (e1.symm.trans e1') (by omega) (by omega)
    have eq := nu_im (e2.symm.trans e2') (by omega) (by omega)
    have eq2 : q = q' := by omega
    subst ea; subst eq2
    exact ⟨bp_arr_u hr hr', L, I', rfl, ht⟩
theorem i_vc_depth {k : Nat} {u : SX} {v : SY} (I : i_Rel k u v) (hk : k + 4 ≤ 2048) (v1 : Int32) (v2 : Int32) : wpX_depth (fun r u' => wpY_depth (fun r' => r' = r ∧ i_Rel (k + 4) u' v) v v1 v2) u v1 v2 := by
  obtain ⟨L, hI, e1, ht⟩ := I
  obtain ⟨n, ta, pt⟩ := v
  have e1 : n = nI (tr_cs L).length := e1
  have ht : tr_ar ta (tr_cs L) := ht
  subst e1
  obtain ⟨hL, h6⟩ := tr_I_f hI
  have hl := tr_cs_len L
  refine xm_depth hI (fun z => ?_) (fun a q c e1 e2 hq hc u' I' => ?_)
  · exact yw_depth ht (by omega) h6 (fun _ => ⟨rfl, L, hI, rfl, ht⟩) (fun a q e1 e2 hq ha => absurd ⟨⟨a, by omega, e1⟩, ⟨q, hq, e2⟩⟩ z)
  · have ha := bp_lt hc
    refine yw_depth ht (by omega) h6 (fun w => absurd ⟨⟨a, ha, e1⟩, ⟨q, hq, e2⟩⟩ w) (fun a' q' e1' e2' hq' ha' => ?_)
    have ea := nu_im (e1.symm.trans e1') (by omega) (by omega)
    have eq := nu_im (e2.symm.trans e2') (by omega) (by omega)
    have eq2 : q = q' := by omega
    subst ea; subst eq2
    exact ⟨rfl, L, I', rfl, ht⟩
theorem i_vc_looseOpen {k : Nat} {u : SX} {v : SY} (I : i_Rel k u v) (hk : k + 4 ≤ 2048) (v1 : Int32) (v2 : Int32) (v3 : Int32) : wpX_looseOpen (fun r u' => wpY_looseOpen (fun r' => r' = r ∧ i_Rel (k + 4) u' v) v v1 v2 v3) u v1 v2 v3 := by
  obtain ⟨L, hI, e1, ht⟩ := I
  obtain ⟨n, ta, pt⟩ := v
  have e1 : n = nI (tr_cs L).length := e1
  have ht : tr_ar ta (tr_cs L) := ht
  subst e1
  obtain ⟨hL, h6⟩ := tr_I_f hI
  have hl := tr_cs_len L
  refine xm_looseOpen hI (fun z => ?_) (fun a b q e1 e2 e3 hq hab u' I' => ?_)
  · exact yw_looseOpen ht (by omega) h6 (fun _ => ⟨rfl, L, hI, rfl, ht⟩) (fun a b q e1 e2 e3 hq hab => absurd ⟨⟨a, b, e1, e2, by omega⟩, ⟨q, hq, e3⟩⟩ z)
  · refine yw_looseOpen ht (by omega) h6 (fun w => absurd ⟨⟨a, b, e1, e2, by omega⟩, ⟨q, hq, e3⟩⟩ w) (fun a' b' q' e1' e2' e3' hq' hab' => ?_)
    have ea := nu_im (e1.symm.trans e1') (by omega) (by omega)
    have eb := nu_im (e2.symm.trans e2') (by omega) (by omega)
    have eq := nu_im (e3.symm.trans e3') (by omega) (by omega)
    have eq2 : q = q' := by omega
    subst ea; subst eb; subst eq2
    exact ⟨rfl, L, I', rfl, ht⟩
theorem i_vc_looseClose {k : Nat} {u : SX} {v : SY} (I : i_Rel k u v) (hk : k + 4 ≤ 2048) (v1 : Int32) (v2 : Int32) (v3 : Int32) : wpX_looseClose (fun r u' => wpY_looseClose (fun r' => r' = r ∧ i_Rel (k + 4) u' v) v v1 v2 v3) u v1 v2 v3 := by
  obtain ⟨L, hI, e1, ht⟩ := I
  obtain ⟨n, ta, pt⟩ := v
  have e1 : n = nI (tr_cs L).length := e1
  have ht : tr_ar ta (tr_cs L) := ht
  subst e1
  obtain ⟨hL, h6⟩ := tr_I_f hI
  have hl := tr_cs_len L
  refine xm_looseClose hI (fun z => ?_) (fun a b q e1 e2 e3 hq hab u' I' => ?_)
  · exact yw_looseClose ht (by omega) h6 (fun _ => ⟨rfl, L, hI, rfl, ht⟩) (fun a b q e1 e2 e3 hq hab => absurd ⟨⟨a, b, e1, e2, by omega⟩, ⟨q, hq, e3⟩⟩ z)
  · refine yw_looseClose ht (by omega) h6 (fun w => absurd ⟨⟨a, b, e1, e2, by omega⟩, ⟨q, hq, e3⟩⟩ w) (fun a' b' q' e1' e2' e3' hq' hab' => ?_)
    have ea := nu_im (e1.symm.trans e1') (by omega) (by omega)
    have eb := nu_im (e2.symm.trans e2') (by omega) (by omega)
    have eq := nu_im (e3.symm.trans e3') (by omega) (by omega)
    have eq2 : q = q' := by omega
    subst ea; subst eb; subst eq2
    exact ⟨rfl, L, I', rfl, ht⟩
end
