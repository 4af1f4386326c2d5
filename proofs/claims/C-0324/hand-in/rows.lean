section
/-! rows of kit/rows (starting text) -/
theorem pk_us {f : Nat → Int32} {k : Nat} {x : Int32} : upd f k x k = x := if_pos rfl
theorem pk_un {f : Nat → Int32} {k j : Nat} {x : Int32} (h : j ≠ k) : upd f k x j = f j := if_neg h
theorem pk_sub {a b : Nat} (h : b ≤ a) : nI a - nI b = nI (a - b) := by
  obtain ⟨c, rfl⟩ : ∃ c, a = c + b := ⟨a - b, by omega⟩
  rw [← nI_add, Int32.add_sub_cancel, Nat.add_sub_cancel]
theorem pk_m1 (n : Nat) : nI (n + 1) + (-1) = nI n := by
  rw [← nI_1, Int32.add_assoc, show (1 : Int32) + (-1) = 0 from rfl, Int32.add_zero]
theorem pk_mul (a b : Nat) : nI a * nI b = nI (a * b) := (Int32.ofNat_mul a b).symm
theorem pk_div {a d : Nat} (ha : a < 2 ^ 31) (h0 : 0 < d) (hd : d < 2 ^ 31) : nI a / nI d = nI (a / d) := by
  apply Int32.toInt_inj.mp
  rw [lg_idiv_nonneg (by rw [nI_toInt ha]; omega) (by rw [nI_toInt hd]; omega), nI_toInt ha, nI_toInt hd, nI_toInt (Nat.lt_of_le_of_lt (Nat.div_le_self a d) ha)]
  first | rfl | exact (Int.natCast_ediv _ _).symm
theorem pk_rem {a d : Nat} (ha : a < 2 ^ 31) (h0 : 0 < d) (hd : d < 2 ^ 31) : nI a - nI a / nI d * nI d = nI (a % d) := by
  rw [pk_div ha h0 hd, pk_mul, pk_sub (Nat.div_mul_le_self a d)]
  exact congrArg nI (by have := Nat.div_add_mod' a d; omega)
theorem pk_le {x y : Int32} {A B : Prop} (a b : Nat) (f : a ≤ b → A) (g : b < a → B) (hx : x = nI a := by rfl) (hy : y = nI b := by rfl) (ha : a < 2 ^ 31 := by omega) (hb : b < 2 ^ 31 := by omega) : (x ≤ y → A) ∧ (¬ x ≤ y → B) := by
  subst hx hy
  rw [nI_leI ha hb]
  exact ⟨f, fun z => g (by omega)⟩
theorem pk_lt {x y : Int32} {A B : Prop} (a b : Nat) (f : a < b → A) (g : b ≤ a → B) (hx : x = nI a := by rfl) (hy : y = nI b := by rfl) (ha : a < 2 ^ 31 := by omega) (hb : b < 2 ^ 31 := by omega) : (x < y → A) ∧ (¬ x < y → B) := by
  subst hx hy
  rw [nI_ltI ha hb]
  exact ⟨f, fun z => g (by omega)⟩
theorem pk_eq {x y : Int32} {A B : Prop} (a b : Nat) (f : a = b → A) (g : a ≠ b → B) (hx : x = nI a := by rfl) (hy : y = nI b := by rfl) (ha : a < 2 ^ 31 := by omega) (hb : b < 2 ^ 31 := by omega) : (x = y → A) ∧ (¬ x = y → B) := by
  subst hx hy
  rw [nI_eq ha hb]
  exact ⟨f, g⟩
theorem pk_in {x : Int32} (n N : Nat) (h : n < N) (hx : x = nI n := by rfl) (hN : N < 2 ^ 31 := by omega) : vp_in x N := by
  subst hx
  exact vp_in_nI h hN
theorem pk_cl {x : Int32} (n : Nat) (hx : x = nI n := by rfl) (h : n < 2 ^ 31 := by omega) : x.toNatClampNeg = n := by
  subst hx
  exact nI_clamp h
theorem pk_vb (z : Int32) : vp_nar .byte z.toInt8.toInt32 = z.toInt8.toInt32 := by rw [vp_nar_byte]; simp
end
section
/-! sums of scores and the summary of a cell: plain lists of integers -/
def sd_sum (A B : List Int) (m : Int) : List Int := A.flatMap (fun a => B.map (fun b => a + b + m))
theorem sd_sum_nil (B : List Int) (m : Int) : sd_sum [] B m = [] := rfl
theorem sd_sum_cons (a : Int) (A B : List Int) (m : Int) : sd_sum (a :: A) B m = B.map (fun b => a + b + m) ++ sd_sum A B m := rfl
theorem sd_sum_nil2 (A : List Int) (m : Int) : sd_sum A [] m = [] := by
  induction A with
  | nil => rfl
  | cons a A ih => rw [sd_sum_cons, ih]; rfl
theorem sd_sum_len (A B : List Int) (m : Int) : (sd_sum A B m).length = A.length * B.length := by
  induction A with
  | nil => simp [sd_sum_nil]
  | cons a A ih => rw [sd_sum_cons, List.length_append, List.length_map, ih, List.length_cons, Nat.succ_mul, Nat.add_comm]
theorem sd_sum_mem (A B : List Int) (m x : Int) : x ∈ sd_sum A B m ↔ ∃ a, a ∈ A ∧ ∃ b, b ∈ B ∧ a + b + m = x := by
  simp only [sd_sum, List.mem_flatMap, List.mem_map]
theorem sd_cnt1 (B : List Int) (a ga gb m : Int) (ha : a ≤ ga) (hB : ∀ b, b ∈ B → b ≤ gb) : (B.map (fun b => a + b + m)).count (ga + gb + m) = if a = ga then B.count gb else 0 := by
  induction B with
  | nil => simp
  | cons b B ih =>
    have ih' := ih (fun b' hb' => hB b' (List.mem_cons_of_mem _ hb'))
    have hb := hB b List.mem_cons_self
    rw [List.map_cons, List.count_cons, List.count_cons, ih']
    by_cases h1 : a = ga
    · rw [if_pos h1, if_pos h1]
      by_cases h2 : b = gb
      · rw [if_pos (beq_iff_eq.mpr (by omega)), if_pos (beq_iff_eq.mpr h2)]
      · rw [if_neg (fun z => h2 (by have := beq_iff_eq.mp z; omega)), if_neg (fun z => h2 (beq_iff_eq.mp z))]
    · rw [if_neg h1, if_neg h1, if_neg (fun z => h1 (by have := beq_iff_eq.mp z; omega))]
theorem sd_sum_cnt (A B : List Int) (ga gb m : Int) (hA : ∀ a, a ∈ A → a ≤ ga) (hB : ∀ b, b ∈ B → b ≤ gb) : (sd_sum A B m).count (ga + gb + m) = A.count ga * B.count gb := by
  induction A with
  | nil => simp [sd_sum_nil]
  | cons a A ih =>
    have ih' := ih (fun a' h' => hA a' (List.mem_cons_of_mem _ h'))
    rw [sd_sum_cons, List.count_append, ih', sd_cnt1 B a ga gb m (hA a List.mem_cons_self) hB, List.count_cons]
    by_cases h1 : a = ga
    · rw [if_pos h1, if_pos (beq_iff_eq.mpr h1), Nat.succ_mul, Nat.add_comm]
    · rw [if_neg h1, if_neg (fun z => h1 (beq_iff_eq.mp z)), Nat.zero_add, Nat.add_zero]
/-- a cell (greatest, ways to it, all ways) holds the summary of the scores V -/
def sd_rep (g w a : Int32) (V : List Int) : Prop :=
  a = nI V.length ∧ (V ≠ [] → g.toInt ∈ V ∧ (∀ x, x ∈ V → x ≤ g.toInt) ∧ w = nI (V.count g.toInt))
theorem sd_rep_perm {g w a : Int32} {V V' : List Int} (p : V.Perm V') (h : sd_rep g w a V) : sd_rep g w a V' := by
  refine ⟨by rw [← p.length_eq]; exact h.1, fun ne => ?_⟩
  have ne' : V ≠ [] := fun e => ne (by subst e; exact p.nil_eq.symm)
  obtain ⟨h1, h2, h3⟩ := h.2 ne'
  exact ⟨p.mem_iff.mp h1, fun x hx => h2 x (p.mem_iff.mpr hx), by rw [← p.count_eq]; exact h3⟩
theorem sd_rep_z {g w a : Int32} {V : List Int} (h : sd_rep g w a V) (hl : V.length < 2 ^ 31) : a = 0 ↔ V = [] := by
  constructor
  · intro z
    rw [h.1] at z
    have e := (nI_eq (b := 0) hl (by decide)).mp z
    exact List.length_eq_zero_iff.mp e
  · intro z
    rw [h.1, z]
    rfl
theorem sd_rep_0 (g w : Int32) : sd_rep g w 0 [] := ⟨rfl, fun z => absurd rfl z⟩
theorem sd_sum_max {ga wa na gb wb nb : Int32} {A B : List Int} (hA : sd_rep ga wa na A) (hB : sd_rep gb wb nb B) (zA : A ≠ []) (zB : B ≠ []) (m : Int) :
    (ga.toInt + gb.toInt + m) ∈ sd_sum A B m ∧ (∀ x, x ∈ sd_sum A B m → x ≤ ga.toInt + gb.toInt + m) ∧ wa * wb = nI ((sd_sum A B m).count (ga.toInt + gb.toInt + m)) ∧ na * nb = nI (sd_sum A B m).length := by
  obtain ⟨a1, a2, a3⟩ := hA.2 zA
  obtain ⟨b1, b2, b3⟩ := hB.2 zB
  refine ⟨(sd_sum_mem _ _ _ _).mpr ⟨_, a1, _, b1, rfl⟩, ?_, ?_, ?_⟩
  · intro x hx
    obtain ⟨a, ha, b, hb, e⟩ := (sd_sum_mem _ _ _ _).mp hx
    have := a2 a ha
    have := b2 b hb
    omega
  · rw [sd_sum_cnt A B _ _ m a2 b2, a3, b3, pk_mul]
  · rw [sd_sum_len, hA.1, hB.1, pk_mul]
theorem sd_len_app {nc k : Int32} {C P : List Int} (h1 : nc = nI C.length) (h2 : k = nI P.length) : nc + k = nI (C ++ P).length := by
  rw [h1, h2, nI_add, List.length_append]
theorem sd_j_new {t gc wc nc wP nP : Int32} {C P : List Int} (hC : sd_rep gc wc nc C) (h1 : t.toInt ∈ P) (h2 : ∀ x, x ∈ P → x ≤ t.toInt) (h3 : wP = nI (P.count t.toInt)) (h4 : nP = nI P.length) (hc : C = [] ∨ gc.toInt < t.toInt) : sd_rep t wP (nc + nP) (C ++ P) := by
  have hm : ∀ x, x ∈ C → x < t.toInt := by
    intro x hx
    rcases hc with z | z
    · rw [z] at hx; exact absurd hx (by simp)
    · have := (hC.2 (List.ne_nil_of_mem hx)).2.1 x hx
      omega
  refine ⟨sd_len_app hC.1 h4, fun _ => ⟨List.mem_append_right _ h1, ?_, ?_⟩⟩
  · intro x hx
    rcases List.mem_append.mp hx with z | z
    · have := hm x z; omega
    · exact h2 x z
  · have z : C.count t.toInt = 0 := List.count_eq_zero.mpr (fun q => by have := hm _ q; omega)
    rw [List.count_append, z, Nat.zero_add]
    exact h3
theorem sd_j_eq {gc wc nc wP nP : Int32} {C P : List Int} (hC : sd_rep gc wc nc C) (h2 : ∀ x, x ∈ P → x ≤ gc.toInt) (h3 : wP = nI (P.count gc.toInt)) (h4 : nP = nI P.length) (hc : C ≠ []) : sd_rep gc (wc + wP) (nc + nP) (C ++ P) := by
  obtain ⟨c1, c2, c3⟩ := hC.2 hc
  refine ⟨sd_len_app hC.1 h4, fun _ => ⟨List.mem_append_left _ c1, ?_, ?_⟩⟩
  · intro x hx
    rcases List.mem_append.mp hx with z | z
    · exact c2 x z
    · exact h2 x z
  · rw [c3, h3, nI_add, List.count_append]
theorem sd_j_lt {gc wc nc nP : Int32} {C P : List Int} (hC : sd_rep gc wc nc C) (h2 : ∀ x, x ∈ P → x < gc.toInt) (h4 : nP = nI P.length) (hc : C ≠ []) : sd_rep gc wc (nc + nP) (C ++ P) := by
  obtain ⟨c1, c2, c3⟩ := hC.2 hc
  refine ⟨sd_len_app hC.1 h4, fun _ => ⟨List.mem_append_left _ c1, ?_, ?_⟩⟩
  · intro x hx
    rcases List.mem_append.mp hx with z | z
    · exact c2 x z
    · have := h2 x z; omega
  · have z : P.count gc.toInt = 0 := List.count_eq_zero.mpr (fun q => by have := h2 _ q; omega)
    rw [List.count_append, z, Nat.add_zero]
    exact c3
/-- the answer of a best-score question over the scores V -/
def sd_bs (V : List Int) (r : Int32) : Prop := (V = [] → r = -1000000) ∧ (V ≠ [] → r.toInt ∈ V ∧ ∀ x, x ∈ V → x ≤ r.toInt)
theorem sd_bs_u {V : List Int} {r r' : Int32} (h : sd_bs V r) (h' : sd_bs V r') : r = r' := by
  by_cases z : V = []
  · rw [h.1 z, h'.1 z]
  · obtain ⟨a, b⟩ := h.2 z
    obtain ⟨a', b'⟩ := h'.2 z
    have := b _ a'
    have := b' _ a
    exact Int32.toInt_inj.mp (by omega)
theorem sd_bs_rep {g w a : Int32} {V : List Int} (h : sd_rep g w a V) (z : V ≠ []) : sd_bs V g := ⟨fun e => absurd e z, fun _ => ⟨(h.2 z).1, (h.2 z).2.1⟩⟩
theorem sd_add3 {x y m : Int32} (hx : -100000 ≤ x.toInt ∧ x.toInt ≤ 100000) (hy : -100000 ≤ y.toInt ∧ y.toInt ≤ 100000) (hm : -100000 ≤ m.toInt ∧ m.toInt ≤ 100000) : (x + y + m).toInt = x.toInt + y.toInt + m.toInt := by
  have e : (x + y).toInt = x.toInt + y.toInt := by
    rw [Int32.toInt_add]
    exact Int.bmod_eq_of_le (by omega) (by omega)
  rw [Int32.toInt_add, e]
  exact Int.bmod_eq_of_le (by omega) (by omega)
end
section
/-! contents of cells: lists of arc lists; their view under an allowance al and scores s -/
def sd_sc (s : Nat → Int32) : List Nat → Int
  | [] => 0
  | a :: e => (s a).toInt + sd_sc s e
theorem sd_sc_app (s : Nat → Int32) (e f : List Nat) : sd_sc s (e ++ f) = sd_sc s e + sd_sc s f := by
  induction e with
  | nil => rw [List.nil_append]; show _ = 0 + _; omega
  | cons a e ih => rw [List.cons_append]; show (s a).toInt + sd_sc s (e ++ f) = (s a).toInt + sd_sc s e + _; rw [ih]; omega
def sd_bd (s : Nat → Int32) : Prop := ∀ a, -1000 ≤ (s a).toInt ∧ (s a).toInt ≤ 1000
theorem sd_sc_bd {s : Nat → Int32} (hs : sd_bd s) (e : List Nat) : -(1000 * (e.length : Int)) ≤ sd_sc s e ∧ sd_sc s e ≤ 1000 * (e.length : Int) := by
  induction e with
  | nil => show _ ≤ (0 : Int) ∧ (0 : Int) ≤ _; simp
  | cons a e ih =>
    have := hs a
    show _ ≤ (s a).toInt + sd_sc s e ∧ (s a).toInt + sd_sc s e ≤ _
    rw [List.length_cons]
    omega
theorem sd_sc_perm (s : Nat → Int32) {e f : List Nat} (p : e.Perm f) : sd_sc s e = sd_sc s f := by
  induction p with
  | nil => rfl
  | cons a _ ih => show (s a).toInt + _ = (s a).toInt + _; rw [ih]
  | swap a b l => show (s b).toInt + ((s a).toInt + _) = (s a).toInt + ((s b).toInt + _); omega
  | trans _ _ i1 i2 => exact i1.trans i2
def sd_vw (al : Nat → Bool) (s : Nat → Int32) (L : List (List Nat)) : List Int := (L.filter (fun e => e.all al)).map (sd_sc s)
theorem sd_vw_app (al : Nat → Bool) (s : Nat → Int32) (L M : List (List Nat)) : sd_vw al s (L ++ M) = sd_vw al s L ++ sd_vw al s M := by
  unfold sd_vw
  rw [List.filter_append, List.map_append]
theorem sd_vw_ct {al : Nat → Bool} (s : Nat → Int32) {e : List Nat} (L : List (List Nat)) (h : e.all al = true) : sd_vw al s (e :: L) = sd_sc s e :: sd_vw al s L := by
  unfold sd_vw
  rw [List.filter_cons_of_pos (by exact h), List.map_cons]
theorem sd_vw_cf {al : Nat → Bool} (s : Nat → Int32) {e : List Nat} (L : List (List Nat)) (h : ¬ e.all al = true) : sd_vw al s (e :: L) = sd_vw al s L := by
  unfold sd_vw
  rw [List.filter_cons_of_neg (by exact h)]
theorem sd_vw_len (al : Nat → Bool) (s : Nat → Int32) (L : List (List Nat)) : (sd_vw al s L).length ≤ L.length := by
  unfold sd_vw
  rw [List.length_map]
  exact List.length_filter_le _ _
theorem sd_vw_mem {al : Nat → Bool} {s : Nat → Int32} {L : List (List Nat)} {x : Int} (h : x ∈ sd_vw al s L) : ∃ e, e ∈ L ∧ sd_sc s e = x := by
  unfold sd_vw at h
  obtain ⟨e, he, hx⟩ := List.mem_map.mp h
  exact ⟨e, (List.mem_filter.mp he).1, hx⟩
def sd_pr (A B : List (List Nat)) (r : List Nat) : List (List Nat) := A.flatMap (fun e => B.map (fun f => e ++ (f ++ r)))
theorem sd_pr_cons (e : List Nat) (A B : List (List Nat)) (r : List Nat) : sd_pr (e :: A) B r = B.map (fun f => e ++ (f ++ r)) ++ sd_pr A B r := rfl
theorem sd_row_t {al : Nat → Bool} (s : Nat → Int32) {e r : List Nat} (B : List (List Nat)) (he : e.all al = true) (hr : r.all al = true) : sd_vw al s (B.map (fun f => e ++ (f ++ r))) = (sd_vw al s B).map (fun b => sd_sc s e + b + sd_sc s r) := by
  induction B with
  | nil => rfl
  | cons f B ih =>
    rw [List.map_cons]
    by_cases hf : f.all al = true
    · rw [sd_vw_ct s _ (by rw [List.all_append, List.all_append, he, hf, hr]; rfl), ih, sd_vw_ct s _ hf, List.map_cons, sd_sc_app, sd_sc_app]
      congr 1
      omega
    · rw [sd_vw_cf s _ (by rw [List.all_append, List.all_append, he, hr]; simpa using hf), ih, sd_vw_cf s _ hf]
theorem sd_row_f {al : Nat → Bool} (s : Nat → Int32) {e r : List Nat} (B : List (List Nat)) (h : e.all al = false ∨ r.all al = false) : sd_vw al s (B.map (fun f => e ++ (f ++ r))) = [] := by
  induction B with
  | nil => rfl
  | cons f B ih =>
    rw [List.map_cons, sd_vw_cf s _ _, ih]
    rw [List.all_append, List.all_append]
    rcases h with h | h
    · rw [h]; simp
    · rw [h]; simp
theorem sd_vw_pr_t {al : Nat → Bool} (s : Nat → Int32) (A B : List (List Nat)) {r : List Nat} (hr : r.all al = true) : sd_vw al s (sd_pr A B r) = sd_sum (sd_vw al s A) (sd_vw al s B) (sd_sc s r) := by
  induction A with
  | nil => rfl
  | cons e A ih =>
    rw [sd_pr_cons, sd_vw_app, ih]
    by_cases he : e.all al = true
    · rw [sd_row_t s B he hr, sd_vw_ct s _ he, sd_sum_cons]
    · rw [sd_row_f s B (Or.inl (by simpa using he)), sd_vw_cf s _ he, List.nil_append]
theorem sd_vw_pr_f {al : Nat → Bool} (s : Nat → Int32) (A B : List (List Nat)) {r : List Nat} (hr : r.all al = false) : sd_vw al s (sd_pr A B r) = [] := by
  induction A with
  | nil => rfl
  | cons e A ih => rw [sd_pr_cons, sd_vw_app, ih, sd_row_f s B (Or.inr hr)]; rfl
/-- the table: the latest content of a cell stands first -/
def sd_get : List (Nat × List (List Nat)) → Nat → List (List Nat)
  | [], _ => []
  | p :: S, c => if c = p.1 then p.2 else sd_get S c
def sd_step (S : List (Nat × List (List Nat))) (i : Nat × Nat × Nat × List Nat) : List (Nat × List (List Nat)) :=
  (i.1, sd_get S i.1 ++ sd_pr (sd_get S i.2.1) (sd_get S i.2.2.1) i.2.2.2) :: S
def sd_run : List (Nat × Nat × Nat × List Nat) → List (Nat × List (List Nat)) → List (Nat × List (List Nat))
  | [], S => S
  | i :: p, S => sd_run p (sd_step S i)
def sd_sm (L : List (List Nat)) : Bool := decide (L.length ≤ 1000) && L.all (fun e => decide (e.length ≤ 10))
def sd_okI (S : List (Nat × List (List Nat))) (i : Nat × Nat × Nat × List Nat) : Bool :=
  decide (i.1 < 145) && (decide (i.2.1 < 145) && (decide (i.2.2.1 < 145) && (decide (i.2.2.2.length ≤ 10) && (sd_sm (sd_get S i.1) && (sd_sm (sd_get S i.2.1) && sd_sm (sd_get S i.2.2.1))))))
def sd_ok : List (Nat × Nat × Nat × List Nat) → List (Nat × List (List Nat)) → Bool
  | [], _ => true
  | i :: p, S => sd_okI S i && sd_ok p (sd_step S i)
theorem sd_ok_c {i : Nat × Nat × Nat × List Nat} {p : List (Nat × Nat × Nat × List Nat)} {S : List (Nat × List (List Nat))} (h : sd_ok (i :: p) S = true) : sd_okI S i = true ∧ sd_ok p (sd_step S i) = true := by
  have h' : (sd_okI S i && sd_ok p (sd_step S i)) = true := h
  rw [Bool.and_eq_true] at h'
  exact h'
theorem sd_run_app (p q : List (Nat × Nat × Nat × List Nat)) : ∀ S, sd_run (p ++ q) S = sd_run q (sd_run p S) := by
  induction p with
  | nil => intro S; rfl
  | cons i p ih => intro S; exact ih (sd_step S i)
theorem sd_ok_app (p q : List (Nat × Nat × Nat × List Nat)) : ∀ S, sd_ok (p ++ q) S = true → sd_ok p S = true ∧ sd_ok q (sd_run p S) = true := by
  induction p with
  | nil => intro S h; exact ⟨rfl, h⟩
  | cons i p ih =>
    intro S h
    obtain ⟨h1, h2⟩ := sd_ok_c (p := p ++ q) h
    obtain ⟨h3, h4⟩ := ih _ h2
    refine ⟨?_, h4⟩
    show (sd_okI S i && sd_ok p (sd_step S i)) = true
    rw [h1, h3]; rfl
theorem sd_sm_i {L : List (List Nat)} (h : sd_sm L = true) : L.length ≤ 1000 ∧ ∀ e, e ∈ L → e.length ≤ 10 := by
  unfold sd_sm at h
  rw [Bool.and_eq_true, decide_eq_true_eq, List.all_eq_true] at h
  exact ⟨h.1, fun e he => of_decide_eq_true (h.2 e he)⟩
theorem sd_okI_i {S : List (Nat × List (List Nat))} {c a b : Nat} {r : List Nat} (h : sd_okI S (c, a, b, r) = true) :
    c < 145 ∧ a < 145 ∧ b < 145 ∧ r.length ≤ 10 ∧ sd_sm (sd_get S c) = true ∧ sd_sm (sd_get S a) = true ∧ sd_sm (sd_get S b) = true := by
  simp only [sd_okI, Bool.and_eq_true, decide_eq_true_eq] at h
  exact h
/-- the three arrays hold the summaries of a table's views -/
def sd_RC (al : Nat → Bool) (s : Nat → Int32) (S : List (Nat × List (List Nat))) (gr wb wa : Nat → Int32) : Prop :=
  ∀ c, c < 145 → sd_rep (gr c) (wb c) (wa c) (sd_vw al s (sd_get S c))
theorem sd_get_s {S : List (Nat × List (List Nat))} {c : Nat} {v : List (List Nat)} : sd_get ((c, v) :: S) c = v := if_pos rfl
theorem sd_get_n {S : List (Nat × List (List Nat))} {c j : Nat} {v : List (List Nat)} (h : j ≠ c) : sd_get ((c, v) :: S) j = sd_get S j := if_neg h
theorem sd_RC_put {al : Nat → Bool} {s : Nat → Int32} {S : List (Nat × List (List Nat))} {gr wb wa gr' wb' wa' : Nat → Int32} {c : Nat} {v : List (List Nat)}
    (R : sd_RC al s S gr wb wa) (hc : sd_rep (gr' c) (wb' c) (wa' c) (sd_vw al s v)) (hn : ∀ j, j ≠ c → gr' j = gr j ∧ wb' j = wb j ∧ wa' j = wa j) : sd_RC al s ((c, v) :: S) gr' wb' wa' := by
  intro j hj
  by_cases e : j = c
  · rw [e, sd_get_s]; exact hc
  · obtain ⟨h1, h2, h3⟩ := hn j e
    rw [sd_get_n e, h1, h2, h3]
    exact R j hj
theorem sd_RC_keep {al : Nat → Bool} {s : Nat → Int32} {S : List (Nat × List (List Nat))} {gr wb wa : Nat → Int32} {c a b : Nat} {r : List Nat}
    (R : sd_RC al s S gr wb wa) (hc : c < 145) (h : sd_vw al s (sd_pr (sd_get S a) (sd_get S b) r) = []) : sd_RC al s (sd_step S (c, a, b, r)) gr wb wa :=
  sd_RC_put R (by rw [sd_vw_app, h, List.append_nil]; exact R c hc) (fun j _ => ⟨rfl, rfl, rfl⟩)
/-- the joins of one span, of a width, of the whole table -/
def sd_p1 (i j : Nat) : Nat → Nat → List (Nat × Nat × Nat × List Nat)
  | 0, _ => []
  | m + 1, k => (72 + (6 * i + j), 6 * i + k, 36 + 6 * (k + 1) + j, [6 * i + j]) :: ((if 0 < i then [(108 + (6 * i + j), 6 * i + k, 36 + 6 * (k + 1) + j, [6 * j + i])] else []) ++ sd_p1 i j m (k + 1))
def sd_p2 (i j : Nat) : Nat → Nat → List (Nat × Nat × Nat × List Nat)
  | 0, _ => []
  | m + 1, k => (6 * i + j, 72 + 6 * i + k, 6 * k + j, []) :: sd_p2 i j m (k + 1)
def sd_p3 (i j : Nat) : Nat → Nat → List (Nat × Nat × Nat × List Nat)
  | 0, _ => []
  | m + 1, k => (36 + (6 * i + j), 36 + 6 * i + k, 108 + 6 * k + j, []) :: sd_p3 i j m (k + 1)
def sd_ps (i j : Nat) : List (Nat × Nat × Nat × List Nat) := sd_p1 i j (j - i) i ++ (sd_p2 i j (j - i) (i + 1) ++ sd_p3 i j (j - i) i)
def sd_pw (w : Nat) : Nat → Nat → List (Nat × Nat × Nat × List Nat)
  | 0, _ => []
  | m + 1, i => sd_ps i (i + w) ++ sd_pw w m (i + 1)
def sd_pn (n : Nat) : Nat → Nat → List (Nat × Nat × Nat × List Nat)
  | 0, _ => []
  | m + 1, w => sd_pw w (n + 1 - w) 0 ++ sd_pn n m (w + 1)
def sd_pg (n : Nat) : Nat → Nat → List (Nat × Nat × Nat × List Nat)
  | 0, _ => []
  | m + 1, d => (144, 42 + d, 6 * d + n, [d]) :: sd_pg n m (d + 1)
def sd_goal (n s : Nat) : List (Nat × Nat × Nat × List Nat) := if s = 0 then [(144, n, 0, [])] else sd_pg n n 1
def sd_prog (n s : Nat) : List (Nat × Nat × Nat × List Nat) := sd_pn n n 1 ++ sd_goal n s
def sd_s0 : Nat → List (Nat × List (List Nat))
  | 0 => []
  | i + 1 => (36 + 7 * i, [[]]) :: (7 * i, [[]]) :: sd_s0 i
end
section
/-! the component's table: allowed, join, begin, the loops of fill -/
theorem sd_t0 : (0 : Int32).toInt = 0 := by decide
theorem sd_ix (c a b : Nat) : (nI c + 6 * nI a) + nI b = nI (c + 6 * a + b) := by
  show (nI c + nI 6 * nI a) + nI b = _
  rw [pk_mul, nI_add, nI_add]
theorem sd_ix0 (a b : Nat) : (0 + 6 * nI a) + nI b = nI (6 * a + b) := by
  have h := sd_ix 0 a b
  rw [Nat.zero_add] at h
  exact h
theorem sd_arc (h d : Nat) : (6 : Int32) * nI h + nI d = nI (6 * h + d) := by
  show nI 6 * nI h + nI d = _
  rw [pk_mul, nI_add]
def sd_al (bn : Nat → Int32) (fl : Int32) (gh : Nat → Int32) (a : Nat) : Bool :=
  decide (bn a = 0) && (!decide (nI a = fl) && (decide (gh (a % 6) < 0) || decide (gh (a % 6) = nI (a / 6))))
theorem sd_RC_step {al : Nat → Bool} {s : Nat → Int32} {S : List (Nat × List (List Nat))} {gr wb wa gr' wb' wa' : Nat → Int32} {c a b : Nat} {r : List Nat}
    (R : sd_RC al s S gr wb wa) (hc : sd_rep (gr' c) (wb' c) (wa' c) (sd_vw al s (sd_get S c) ++ sd_vw al s (sd_pr (sd_get S a) (sd_get S b) r))) (hn : ∀ j, j ≠ c → gr' j = gr j ∧ wb' j = wb j ∧ wa' j = wa j) : sd_RC al s (sd_step S (c, a, b, r)) gr' wb' wa' := by
  refine sd_RC_put R ?_ hn
  show sd_rep _ _ _ (sd_vw al s (sd_get S c ++ sd_pr (sd_get S a) (sd_get S b) r))
  rw [sd_vw_app]
  exact hc
section
variable {fw fo fl fh : Int32} {s bn gh fi : Nat → Int32}
theorem sd_allowed {post : Int32 → Prop} {gr wb wa : Nat → Int32} {h d : Nat} (hh : h ≤ 5) (hd : d ≤ 5) (K1 : sd_al bn fl gh (6 * h + d) = true → post 1) (K0 : sd_al bn fl gh (6 * h + d) = false → post 0) :
    wpX_allowed post (fw, fo, fl, fh, s, bn, gh, gr, wb, wa, fi) (nI h) (nI d) := by
  have e6 : (6 * h + d) % 6 = d := by omega
  have e7 : (6 * h + d) / 6 = h := by omega
  unfold wpX_allowed
  dsimp only
  refine nm_r (sd_arc h d) ?_
  rw [nI_clamp (show 6 * h + d < 2 ^ 31 by omega), nI_clamp (show d < 2 ^ 31 by omega)]
  unfold sd_al at K1 K0
  rw [e6, e7] at K1 K0
  have i6 : vp_in (nI d) 6 := vp_in_nI (by omega) (by decide)
  refine ⟨vp_in_nI (by omega) (by decide), ?_⟩
  by_cases h1 : bn (6 * h + d) = 0
  · refine br_t h1 ?_
    by_cases h2 : nI (6 * h + d) = fl
    · exact br_t h2 (K0 (by simp [h1, h2]))
    · refine br_f h2 ⟨i6, ?_⟩
      by_cases h3 : gh d < 0
      · exact br_t h3 (K1 (by simp [h1, h2, h3]))
      · refine br_f h3 ⟨i6, ?_⟩
        by_cases h4 : gh d = nI h
        · exact br_t h4 (K1 (by simp [h1, h2, h4]))
        · exact br_f h4 (K0 (by simp [h1, h2, h3, h4]))
  · exact br_f h1 (K0 (by simp [h1]))
theorem sd_join {al : Nat → Bool} {post : SX → Prop} {S : List (Nat × List (List Nat))} {gr wb wa : Nat → Int32} {c a b : Nat} {r : List Nat} {m : Int32}
    (hs : sd_bd s) (R : sd_RC al s S gr wb wa) (ok : sd_okI S (c, a, b, r) = true) (hr : r.all al = true) (hm : m.toInt = sd_sc s r)
    (K : ∀ gr' wb' wa', sd_RC al s (sd_step S (c, a, b, r)) gr' wb' wa' → post (fw, fo, fl, fh, s, bn, gh, gr', wb', wa', fi)) :
    wpX_join post (fw, fo, fl, fh, s, bn, gh, gr, wb, wa, fi) (nI c) (nI a) (nI b) m := by
  obtain ⟨hc, ha, hb, hrl, mc, ma, mb⟩ := sd_okI_i ok
  have ic : vp_in (nI c) 145 := vp_in_nI hc (by decide)
  have ia : vp_in (nI a) 145 := vp_in_nI ha (by decide)
  have ib : vp_in (nI b) 145 := vp_in_nI hb (by decide)
  have La := sd_sm_i ma
  have Lb := sd_sm_i mb
  have Lc := sd_sm_i mc
  have Ra := R a ha
  have Rb := R b hb
  have Rc := R c hc
  have la : (sd_vw al s (sd_get S a)).length < 2 ^ 31 := by have := sd_vw_len al s (sd_get S a); have := La.1; omega
  have lb : (sd_vw al s (sd_get S b)).length < 2 ^ 31 := by have := sd_vw_len al s (sd_get S b); have := Lb.1; omega
  have lc : (sd_vw al s (sd_get S c)).length < 2 ^ 31 := by have := sd_vw_len al s (sd_get S c); have := Lc.1; omega
  have P := sd_vw_pr_t s (sd_get S a) (sd_get S b) hr
  unfold wpX_join wX_join_72 wX_join_113
  dsimp only
  simp only [nI_clamp (show c < 2 ^ 31 by omega), nI_clamp (show a < 2 ^ 31 by omega), nI_clamp (show b < 2 ^ 31 by omega)]
  refine ⟨ia, ?_⟩
  by_cases za : wa a = 0
  · refine br_t za (K gr wb wa (sd_RC_keep R hc ?_))
    rw [P, (sd_rep_z Ra la).mp za]
    rfl
  · refine br_f za ⟨ib, ?_⟩
    by_cases zb : wa b = 0
    · refine br_t zb (K gr wb wa (sd_RC_keep R hc ?_))
      rw [P, (sd_rep_z Rb lb).mp zb, sd_sum_nil2]
    · have nA : sd_vw al s (sd_get S a) ≠ [] := fun z => za ((sd_rep_z Ra la).mpr z)
      have nB : sd_vw al s (sd_get S b) ≠ [] := fun z => zb ((sd_rep_z Rb lb).mpr z)
      obtain ⟨s1, s2, s3, s4⟩ := sd_sum_max Ra Rb nA nB (sd_sc s r)
      have bA : -100000 ≤ (gr a).toInt ∧ (gr a).toInt ≤ 100000 := by
        obtain ⟨e, he, hx⟩ := sd_vw_mem (Ra.2 nA).1
        have h1 := sd_sc_bd hs e
        have h2 := La.2 e he
        omega
      have bB : -100000 ≤ (gr b).toInt ∧ (gr b).toInt ≤ 100000 := by
        obtain ⟨e, he, hx⟩ := sd_vw_mem (Rb.2 nB).1
        have h1 := sd_sc_bd hs e
        have h2 := Lb.2 e he
        omega
      have bm : -100000 ≤ m.toInt ∧ m.toInt ≤ 100000 := by
        have h1 := sd_sc_bd hs r
        omega
      have ht : (gr a + gr b + m).toInt = (gr a).toInt + (gr b).toInt + sd_sc s r := by rw [sd_add3 bA bB bm, hm]
      rw [← ht] at s1 s2 s3
      rw [← P] at s1 s2 s3 s4
      refine br_f zb ⟨ia, ib, nm_e ⟨ia, ib, nm_e ⟨ic, ?_⟩⟩⟩
      by_cases zc : wa c = 0
      · refine br_t zc ⟨ic, nm_e ⟨ic, nm_e ⟨ic, ia, ib, ic, nm_e (K _ _ _ (sd_RC_step R ?_ (fun j hj => ⟨pk_un hj, pk_un hj, pk_un hj⟩)))⟩⟩⟩
        rw [pk_us, pk_us, pk_us]
        exact sd_j_new Rc s1 s2 s3 s4 (Or.inl ((sd_rep_z Rc lc).mp zc))
      · have nC : sd_vw al s (sd_get S c) ≠ [] := fun z => zc ((sd_rep_z Rc lc).mpr z)
        refine br_f zc ⟨ic, ?_⟩
        by_cases q : gr a + gr b + m ≤ gr c
        · refine br_t q ⟨ic, ?_⟩
          by_cases q2 : gr a + gr b + m = gr c
          · refine br_t q2 ⟨ic, ic, nm_e ⟨ic, ia, ib, ic, nm_e (K _ _ _ (sd_RC_step R ?_ (fun j hj => ⟨rfl, pk_un hj, pk_un hj⟩)))⟩⟩
            rw [pk_us, pk_us]
            rw [q2] at s2 s3
            exact sd_j_eq Rc s2 s3 s4 nC
          · refine br_f q2 ⟨ic, ia, ib, ic, nm_e (K _ _ _ (sd_RC_step R ?_ (fun j hj => ⟨rfl, rfl, pk_un hj⟩)))⟩
            rw [pk_us]
            have q3 : (gr a + gr b + m).toInt < (gr c).toInt := by
              rw [Int32.le_iff_toInt_le] at q
              rw [← Int32.toInt_inj] at q2
              omega
            exact sd_j_lt Rc (fun x hx => by have := s2 x hx; omega) s4 nC
        · refine br_f q ⟨ic, nm_e ⟨ic, nm_e ⟨ic, ia, ib, ic, nm_e (K _ _ _ (sd_RC_step R ?_ (fun j hj => ⟨pk_un hj, pk_un hj, pk_un hj⟩)))⟩⟩⟩
          rw [pk_us, pk_us, pk_us]
          refine sd_j_new Rc s1 s2 s3 s4 (Or.inr ?_)
          rw [Int32.le_iff_toInt_le] at q
          omega
theorem sd_begin {al : Nat → Bool} {post : SX → Prop} {S : List (Nat × List (List Nat))} {gr wb wa : Nat → Int32} {c : Nat} (hc : c < 145) (R : sd_RC al s S gr wb wa)
    (K : ∀ gr' wb' wa', sd_RC al s ((c, [[]]) :: S) gr' wb' wa' → post (fw, fo, fl, fh, s, bn, gh, gr', wb', wa', fi)) : wpX_begin post (fw, fo, fl, fh, s, bn, gh, gr, wb, wa, fi) (nI c) := by
  have ic : vp_in (nI c) 145 := vp_in_nI hc (by decide)
  unfold wpX_begin
  dsimp only
  rw [nI_clamp (show c < 2 ^ 31 by omega)]
  refine ⟨ic, nm_e ⟨ic, nm_e ⟨ic, nm_e (K _ _ _ (sd_RC_put R ?_ (fun j hj => ⟨pk_un hj, pk_un hj, pk_un hj⟩)))⟩⟩⟩
  rw [pk_us, pk_us, pk_us]
  show sd_rep 0 1 1 [0]
  refine ⟨rfl, fun _ => ?_⟩
  rw [sd_t0]
  refine ⟨by simp, by simp, rfl⟩
theorem sd_l3 {al : Nat → Bool} {post : SX → Prop} {i j : Nat} (hs : sd_bd s) (hj : j ≤ 5) : ∀ (m k : Nat) (S : List (Nat × List (List Nat))) (gr wb wa : Nat → Int32), k + m = j → i ≤ k → sd_RC al s S gr wb wa →
    sd_ok (sd_p3 i j m k) S = true → (∀ gr' wb' wa', sd_RC al s (sd_run (sd_p3 i j m k) S) gr' wb' wa' → post (fw, fo, fl, fh, s, bn, gh, gr', wb', wa', fi)) →
    wX_fillSpan_157 post (nI i) (nI j) (nI (6 * i + j)) (m + 1) (nI k) fw fo fl fh s bn gh gr wb wa fi := by
  intro m
  induction m with
  | zero => intro k S gr wb wa hk hi R ok K; exact br_t (nI_le (by omega) (by omega)) (K _ _ _ R)
  | succ m ih =>
    intro k S gr wb wa hk hi R ok K
    have ok' : sd_ok ((36 + (6 * i + j), 36 + 6 * i + k, 108 + 6 * k + j, []) :: sd_p3 i j m (k + 1)) S = true := ok
    obtain ⟨o1, o2⟩ := sd_ok_c ok'
    refine br_f (nI_ge (by omega) (by omega)) ?_
    rw [show (36 : Int32) + nI (6 * i + j) = nI (36 + (6 * i + j)) from nI_add 36 _, show ((36 : Int32) + 6 * nI i) + nI k = nI (36 + 6 * i + k) from sd_ix 36 i k, show ((108 : Int32) + 6 * nI k) + nI j = nI (108 + 6 * k + j) from sd_ix 108 k j]
    refine sd_join hs R o1 rfl sd_t0 ?_
    intro gr' wb' wa' R'
    dsimp only
    exact nm_r (nI_1 k) (ih (k + 1) _ gr' wb' wa' (by omega) (by omega) R' o2 K)
theorem sd_l2 {al : Nat → Bool} {post : SX → Prop} {i j : Nat} (hs : sd_bd s) (hj : j ≤ 5) : ∀ (m k : Nat) (S : List (Nat × List (List Nat))) (gr wb wa : Nat → Int32), k + m = j + 1 → i < k → sd_RC al s S gr wb wa →
    sd_ok (sd_p2 i j m k) S = true → (∀ gr' wb' wa', sd_RC al s (sd_run (sd_p2 i j m k) S) gr' wb' wa' → ∃ n : Nat, wX_fillSpan_157 post (nI i) (nI j) (nI (6 * i + j)) n (nI i) fw fo fl fh s bn gh gr' wb' wa' fi) →
    wX_fillSpan_115 post (nI i) (nI j) (nI (6 * i + j)) (m + 1) (nI k) fw fo fl fh s bn gh gr wb wa fi := by
  intro m
  induction m with
  | zero => intro k S gr wb wa hk hi R ok K; exact br_t (nI_lt (by omega) (by omega)) (K _ _ _ R)
  | succ m ih =>
    intro k S gr wb wa hk hi R ok K
    have ok' : sd_ok ((6 * i + j, 72 + 6 * i + k, 6 * k + j, []) :: sd_p2 i j m (k + 1)) S = true := ok
    obtain ⟨o1, o2⟩ := sd_ok_c ok'
    refine br_f (nI_nlt (by omega) (by omega)) ?_
    rw [show (0 : Int32) + nI (6 * i + j) = nI (6 * i + j) from Int32.zero_add _, show ((72 : Int32) + 6 * nI i) + nI k = nI (72 + 6 * i + k) from sd_ix 72 i k, sd_ix0 k j]
    refine sd_join hs R o1 rfl sd_t0 ?_
    intro gr' wb' wa' R'
    dsimp only
    exact nm_r (nI_1 k) (ih (k + 1) _ gr' wb' wa' (by omega) (by omega) R' o2 K)
theorem sd_l68 {post : SX → Prop} {J : Int32 → Int32 → Int32 → Int32 → Int32 → (Nat → Int32) → (Nat → Int32) → (Nat → Int32) → (Nat → Int32) → (Nat → Int32) → (Nat → Int32) → (Nat → Int32) → Prop} {i j k : Nat} {S : List (Nat × List (List Nat))} {gr wb wa : Nat → Int32}
    (hs : sd_bd s) (hj : j ≤ 5) (hk : k < j) (hi : i ≤ k) (R : sd_RC (sd_al bn fl gh) s S gr wb wa)
    (ok : sd_ok (if 0 < i then [(108 + (6 * i + j), 6 * i + k, 36 + 6 * (k + 1) + j, [6 * j + i])] else []) S = true)
    (K : ∀ gr' wb' wa', sd_RC (sd_al bn fl gh) s (sd_run (if 0 < i then [(108 + (6 * i + j), 6 * i + k, 36 + 6 * (k + 1) + j, [6 * j + i])] else []) S) gr' wb' wa' → J (nI (k + 1)) fw fo fl fh s bn gh gr' wb' wa' fi) :
    wX_fillSpan_68 post J (nI i) (nI j) (nI (6 * i + j)) (nI k) (nI (6 * i + k)) (nI (36 + 6 * (k + 1) + j)) fw fo fl fh s bn gh gr wb wa fi := by
  unfold wX_fillSpan_68
  by_cases h0 : 0 < i
  · rw [if_pos h0] at ok K
    obtain ⟨o1, o2⟩ := sd_ok_c ok
    refine br_f (nI_nle h0 (by omega)) (sd_allowed (by omega) (by omega) (fun ha => ?_) (fun ha => ?_))
    · refine br_f (by decide) ?_
      rw [sd_arc, nI_clamp (show 6 * j + i < 2 ^ 31 by omega)]
      refine ⟨vp_in_nI (by omega) (by decide), ?_⟩
      rw [show (108 : Int32) + nI (6 * i + j) = nI (108 + (6 * i + j)) from nI_add 108 _]
      refine sd_join hs R o1 ?_ ?_ ?_
      · rw [List.all_cons, ha]; rfl
      · show _ = (s (6 * j + i)).toInt + 0
        rw [Int.add_zero]
      · intro gr' wb' wa' R'
        dsimp only
        exact nm_r (nI_1 k) (K _ _ _ R')
    · refine br_t rfl (nm_r (nI_1 k) (K _ _ _ (sd_RC_keep R (sd_okI_i o1).1 (sd_vw_pr_f s _ _ ?_))))
      rw [List.all_cons, ha]; rfl
  · rw [if_neg h0] at ok K
    have e : i = 0 := by omega
    subst e
    exact br_t (by decide) (nm_r (nI_1 k) (K _ _ _ R))
theorem sd_l1 {post : SX → Prop} {i j : Nat} (hs : sd_bd s) (hj : j ≤ 5) : ∀ (m k : Nat) (S : List (Nat × List (List Nat))) (gr wb wa : Nat → Int32), k + m = j → i ≤ k → sd_RC (sd_al bn fl gh) s S gr wb wa →
    sd_ok (sd_p1 i j m k) S = true → (∀ gr' wb' wa', sd_RC (sd_al bn fl gh) s (sd_run (sd_p1 i j m k) S) gr' wb' wa' → ∃ n : Nat, wX_fillSpan_115 post (nI i) (nI j) (nI (6 * i + j)) n (nI (i + 1)) fw fo fl fh s bn gh gr' wb' wa' fi) →
    wX_fillSpan_10 post (nI i) (nI j) (nI (6 * i + j)) (m + 1) (nI k) fw fo fl fh s bn gh gr wb wa fi := by
  intro m
  induction m with
  | zero => intro k S gr wb wa hk hi R ok K; exact br_t (nI_le (by omega) (by omega)) (nm_r (nI_1 i) (K _ _ _ R))
  | succ m ih =>
    intro k S gr wb wa hk hi R ok K
    have ok' : sd_ok ((72 + (6 * i + j), 6 * i + k, 36 + 6 * (k + 1) + j, [6 * i + j]) :: ((if 0 < i then [(108 + (6 * i + j), 6 * i + k, 36 + 6 * (k + 1) + j, [6 * j + i])] else []) ++ sd_p1 i j m (k + 1))) S = true := ok
    obtain ⟨o1, o2⟩ := sd_ok_c ok'
    obtain ⟨o3, o4⟩ := sd_ok_app _ _ _ o2
    have K' : ∀ gr' wb' wa', sd_RC (sd_al bn fl gh) s (sd_run (sd_p1 i j m (k + 1)) (sd_run (if 0 < i then [(108 + (6 * i + j), 6 * i + k, 36 + 6 * (k + 1) + j, [6 * j + i])] else []) (sd_step S (72 + (6 * i + j), 6 * i + k, 36 + 6 * (k + 1) + j, [6 * i + j])))) gr' wb' wa' → ∃ n : Nat, wX_fillSpan_115 post (nI i) (nI j) (nI (6 * i + j)) n (nI (i + 1)) fw fo fl fh s bn gh gr' wb' wa' fi := by
      intro gr' wb' wa' R'
      rw [← sd_run_app] at R'
      exact K _ _ _ R'
    have Q : ∀ gr' wb' wa', sd_RC (sd_al bn fl gh) s (sd_step S (72 + (6 * i + j), 6 * i + k, 36 + 6 * (k + 1) + j, [6 * i + j])) gr' wb' wa' →
        wX_fillSpan_68 post (wX_fillSpan_10 post (nI i) (nI j) (nI (6 * i + j)) (m + 1)) (nI i) (nI j) (nI (6 * i + j)) (nI k) (nI (6 * i + k)) (nI (36 + 6 * (k + 1) + j)) fw fo fl fh s bn gh gr' wb' wa' fi :=
      fun gr' wb' wa' R' => sd_l68 hs hj (by omega) hi R' o3 (fun g2 w2 a2 R2 => ih (k + 1) _ g2 w2 a2 (by omega) (by omega) R2 o4 K')
    refine br_f (nI_ge (by omega) (by omega)) ?_
    refine nm_r (sd_ix0 i k) (nm_r (e' := nI (36 + 6 * (k + 1) + j)) ?_ ?_)
    · rw [nI_1]; exact sd_ix 36 (k + 1) j
    · refine sd_allowed (by omega) hj (fun ha => ?_) (fun ha => ?_)
      · refine br_f (by decide) ?_
        rw [nI_clamp (show 6 * i + j < 2 ^ 31 by omega)]
        refine ⟨vp_in_nI (by omega) (by decide), ?_⟩
        rw [show (72 : Int32) + nI (6 * i + j) = nI (72 + (6 * i + j)) from nI_add 72 _]
        refine sd_join hs R o1 ?_ ?_ ?_
        · rw [List.all_cons, ha]; rfl
        · show _ = (s (6 * i + j)).toInt + 0
          rw [Int.add_zero]
        · intro gr' wb' wa' R'
          dsimp only
          exact Q _ _ _ R'
      · refine br_t rfl (Q _ _ _ (sd_RC_keep R (sd_okI_i o1).1 (sd_vw_pr_f s _ _ ?_)))
        rw [List.all_cons, ha]; rfl
theorem sd_span {post : SX → Prop} {i j : Nat} {S : List (Nat × List (List Nat))} {gr wb wa : Nat → Int32} (hs : sd_bd s) (hij : i < j) (hj : j ≤ 5) (R : sd_RC (sd_al bn fl gh) s S gr wb wa)
    (ok : sd_ok (sd_ps i j) S = true) (K : ∀ gr' wb' wa', sd_RC (sd_al bn fl gh) s (sd_run (sd_ps i j) S) gr' wb' wa' → post (fw, fo, fl, fh, s, bn, gh, gr', wb', wa', fi)) : wpX_fillSpan post (fw, fo, fl, fh, s, bn, gh, gr, wb, wa, fi) (nI i) (nI j) := by
  unfold wpX_fillSpan
  dsimp only
  unfold sd_ps at ok K
  obtain ⟨o1, o2⟩ := sd_ok_app _ _ _ ok
  obtain ⟨o3, o4⟩ := sd_ok_app _ _ _ o2
  refine nm_r (sd_arc i j) ⟨j - i + 1, sd_l1 hs hj (j - i) i S gr wb wa (by omega) (by omega) R o1 (fun g1 w1 a1 R1 => ⟨j - i + 1, sd_l2 hs hj (j - i) (i + 1) _ g1 w1 a1 (by omega) (by omega) R1 o3 (fun g2 w2 a2 R2 => ⟨j - i + 1, sd_l3 hs hj (j - i) i _ g2 w2 a2 (by omega) (by omega) R2 o4 (fun g3 w3 a3 R3 => ?_)⟩)⟩)⟩
  rw [← sd_run_app, ← sd_run_app] at R3
  exact K _ _ _ R3
end
section
variable {fo fl fh : Int32} {s bn gh fi : Nat → Int32} {n : Nat}
theorem sd_l71 {post : SX → Prop} {J : Int32 → Int32 → Int32 → Int32 → Int32 → (Nat → Int32) → (Nat → Int32) → (Nat → Int32) → (Nat → Int32) → (Nat → Int32) → (Nat → Int32) → (Nat → Int32) → Prop} {w : Nat} (hs : sd_bd s) (hn : n ≤ 5) (hw : 1 ≤ w) (hwn : w ≤ n) : ∀ (m i : Nat) (S : List (Nat × List (List Nat))) (gr wb wa : Nat → Int32), i + m = n + 1 - w → sd_RC (sd_al bn fl gh) s S gr wb wa →
    sd_ok (sd_pw w m i) S = true → (∀ gr' wb' wa', sd_RC (sd_al bn fl gh) s (sd_run (sd_pw w m i) S) gr' wb' wa' → J (nI (w + 1)) (nI n) fo fl fh s bn gh gr' wb' wa' fi) →
    wX_fill_71 post J (nI w) (m + 1) (nI i) (nI n) fo fl fh s bn gh gr wb wa fi := by
  intro m
  induction m with
  | zero =>
    intro i S gr wb wa hi R ok K
    refine br_t ?_ (nm_r (nI_1 w) (K _ _ _ R))
    rw [nI_add]
    exact nI_lt (by omega) (by omega)
  | succ m ih =>
    intro i S gr wb wa hi R ok K
    have ok' : sd_ok (sd_ps i (i + w) ++ sd_pw w m (i + 1)) S = true := ok
    obtain ⟨o1, o2⟩ := sd_ok_app _ _ _ ok'
    refine br_f ?_ ?_
    · rw [nI_add]
      exact nI_nlt (by omega) (by omega)
    · rw [nI_add]
      refine sd_span hs (by omega) (by omega) R o1 ?_
      intro gr' wb' wa' R'
      dsimp only
      refine nm_r (nI_1 i) (ih (i + 1) _ gr' wb' wa' (by omega) R' o2 ?_)
      intro g2 w2 a2 R2
      rw [← sd_run_app] at R2
      exact K _ _ _ R2
theorem sd_l25 {post : SX → Prop} (hs : sd_bd s) (hn : n ≤ 5) : ∀ (m d : Nat) (S : List (Nat × List (List Nat))) (gr wb wa : Nat → Int32), d + m = n + 1 → 1 ≤ d → sd_RC (sd_al bn fl gh) s S gr wb wa →
    sd_ok (sd_pg n m d) S = true → (∀ gr' wb' wa', sd_RC (sd_al bn fl gh) s (sd_run (sd_pg n m d) S) gr' wb' wa' → post (nI n, fo, fl, fh, s, bn, gh, gr', wb', wa', fi)) →
    wX_fillGoal_25 post (m + 1) (nI d) (nI n) fo fl fh s bn gh gr wb wa fi := by
  intro m
  induction m with
  | zero => intro d S gr wb wa hd h1 R ok K; exact br_t (nI_lt (by omega) (by omega)) (K _ _ _ R)
  | succ m ih =>
    intro d S gr wb wa hd h1 R ok K
    have ok' : sd_ok ((144, 42 + d, 6 * d + n, [d]) :: sd_pg n m (d + 1)) S = true := ok
    obtain ⟨o1, o2⟩ := sd_ok_c ok'
    refine br_f (nI_nlt (by omega) (by omega)) (sd_allowed (h := 0) (by omega) (by omega) (fun ha => ?_) (fun ha => ?_))
    · rw [show 6 * 0 + d = d by omega] at ha
      refine br_f (by decide) ?_
      rw [nI_clamp (show d < 2 ^ 31 by omega)]
      refine ⟨vp_in_nI (by omega) (by decide), ?_⟩
      rw [show (42 : Int32) + nI d = nI (42 + d) from nI_add 42 _, sd_ix0 d n]
      refine sd_join (c := 144) hs R o1 ?_ ?_ ?_
      · rw [List.all_cons, ha]; rfl
      · show _ = (s d).toInt + 0
        rw [Int.add_zero]
      · intro gr' wb' wa' R'
        dsimp only
        exact nm_r (nI_1 d) (ih (d + 1) _ gr' wb' wa' (by omega) (by omega) R' o2 K)
    · rw [show 6 * 0 + d = d by omega] at ha
      refine br_t rfl (nm_r (nI_1 d) (ih (d + 1) _ gr wb wa (by omega) (by omega) (sd_RC_keep R (sd_okI_i o1).1 (sd_vw_pr_f s _ _ ?_)) o2 K))
      rw [List.all_cons, ha]; rfl
theorem sd_goalL {post : SX → Prop} {t : Nat} {S : List (Nat × List (List Nat))} {gr wb wa : Nat → Int32} (hs : sd_bd s) (hn : n ≤ 5) (ht : fo = 0 ↔ t = 0) (R : sd_RC (sd_al bn fl gh) s S gr wb wa)
    (ok : sd_ok (sd_goal n t) S = true) (K : ∀ gr' wb' wa', sd_RC (sd_al bn fl gh) s (sd_run (sd_goal n t) S) gr' wb' wa' → post (nI n, fo, fl, fh, s, bn, gh, gr', wb', wa', fi)) : wpX_fillGoal post (nI n, fo, fl, fh, s, bn, gh, gr, wb, wa, fi) := by
  unfold wpX_fillGoal
  dsimp only
  unfold sd_goal at ok K
  by_cases h : fo = 0
  · rw [if_pos (ht.mp h)] at ok K
    obtain ⟨o1, o2⟩ := sd_ok_c ok
    refine br_t h ?_
    rw [show (0 : Int32) + nI n = nI n from Int32.zero_add _]
    refine sd_join (c := 144) (b := 0) hs R o1 rfl sd_t0 ?_
    intro gr' wb' wa' R'
    dsimp only
    exact K _ _ _ R'
  · rw [if_neg (fun z => h (ht.mpr z))] at ok K
    exact br_f h ⟨n + 1, sd_l25 hs hn n 1 S gr wb wa (by omega) (by omega) R ok K⟩
theorem sd_l61 {post : SX → Prop} {t : Nat} (hs : sd_bd s) (hn : n ≤ 5) (ht : fo = 0 ↔ t = 0) : ∀ (m w : Nat) (S : List (Nat × List (List Nat))) (gr wb wa : Nat → Int32), w + m = n + 1 → 1 ≤ w → sd_RC (sd_al bn fl gh) s S gr wb wa →
    sd_ok (sd_pn n m w ++ sd_goal n t) S = true → (∀ gr' wb' wa', sd_RC (sd_al bn fl gh) s (sd_run (sd_pn n m w ++ sd_goal n t) S) gr' wb' wa' → post (nI n, fo, fl, fh, s, bn, gh, gr', wb', wa', fi)) →
    wX_fill_61 post (m + 1) (nI w) (nI n) fo fl fh s bn gh gr wb wa fi := by
  intro m
  induction m with
  | zero =>
    intro w S gr wb wa hw h1 R ok K
    refine br_t (nI_lt (by omega) (by omega)) (sd_goalL hs hn ht R ok ?_)
    intro gr' wb' wa' R'
    dsimp only
    exact K _ _ _ R'
  | succ m ih =>
    intro w S gr wb wa hw h1 R ok K
    have e : sd_pn n (m + 1) w ++ sd_goal n t = sd_pw w (n + 1 - w) 0 ++ (sd_pn n m (w + 1) ++ sd_goal n t) := by
      show (sd_pw w (n + 1 - w) 0 ++ sd_pn n m (w + 1)) ++ sd_goal n t = _
      rw [List.append_assoc]
    rw [e] at ok K
    obtain ⟨o1, o2⟩ := sd_ok_app _ _ _ ok
    refine br_f (nI_nlt (by omega) (by omega)) ⟨n + 1 - w + 1, sd_l71 hs hn h1 (by omega) (n + 1 - w) 0 S gr wb wa (by omega) R o1 ?_⟩
    intro gr' wb' wa' R'
    refine ih (w + 1) _ gr' wb' wa' (by omega) (by omega) R' o2 ?_
    intro g2 w2 a2 R2
    rw [← sd_run_app] at R2
    exact K _ _ _ R2
theorem sd_l24 {post : SX → Prop} {t : Nat} (hs : sd_bd s) (hn : n ≤ 5) (ht : fo = 0 ↔ t = 0) (ok : sd_ok (sd_prog n t) (sd_s0 (n + 1)) = true) (K : ∀ gr' wb' wa', sd_RC (sd_al bn fl gh) s (sd_run (sd_prog n t) (sd_s0 (n + 1))) gr' wb' wa' → post (nI n, fo, fl, fh, s, bn, gh, gr', wb', wa', fi)) : ∀ (m i : Nat) (gr wb wa : Nat → Int32), i + m = n + 1 → sd_RC (sd_al bn fl gh) s (sd_s0 i) gr wb wa →
    wX_fill_24 post (m + 1) (nI i) (nI n) fo fl fh s bn gh gr wb wa fi := by
  intro m
  induction m with
  | zero =>
    intro i gr wb wa hi R
    have e : i = n + 1 := by omega
    subst e
    exact br_t (nI_lt (by omega) (by omega)) ⟨n + 1, sd_l61 (t := t) hs hn ht n 1 _ gr wb wa (by omega) (by omega) R ok K⟩
  | succ m ih =>
    intro i gr wb wa hi R
    refine br_f (nI_nlt (by omega) (by omega)) ?_
    rw [show (0 : Int32) + 7 * nI i = nI (7 * i) from by rw [Int32.zero_add]; exact pk_mul 7 i, show (36 : Int32) + 7 * nI i = nI (36 + 7 * i) from by show nI 36 + nI 7 * nI i = _; rw [pk_mul, nI_add]]
    refine sd_begin (by omega) R ?_
    intro g1 w1 a1 R1
    dsimp only
    refine sd_begin (by omega) R1 ?_
    intro g2 w2 a2 R2
    dsimp only
    exact nm_r (nI_1 i) (ih (i + 1) g2 w2 a2 (by omega) R2)
theorem sd_l2z {post : SX → Prop} {t : Nat} (hs : sd_bd s) (hn : n ≤ 5) (ht : fo = 0 ↔ t = 0) (ok : sd_ok (sd_prog n t) (sd_s0 (n + 1)) = true) (K : ∀ gr' wb' wa', sd_RC (sd_al bn fl gh) s (sd_run (sd_prog n t) (sd_s0 (n + 1))) gr' wb' wa' → post (nI n, fo, fl, fh, s, bn, gh, gr', wb', wa', fi)) : ∀ (m c : Nat) (gr wb wa : Nat → Int32), c + m = 145 → (∀ j, j < c → wa j = 0) →
    wX_fill_2 post (nI n) fo fl fh (m + 1) (nI c) s bn gh gr wb wa fi := by
  intro m
  induction m with
  | zero =>
    intro c gr wb wa hc hz
    have e : c = 145 := by omega
    subst e
    refine br_t (by decide) ⟨n + 1 + 1, sd_l24 hs hn ht ok K (n + 1) 0 gr wb wa (by omega) ?_⟩
    intro j hj
    rw [hz j hj]
    exact sd_rep_0 _ _
  | succ m ih =>
    intro c gr wb wa hc hz
    refine br_f (nI_ge (b := 145) (by omega) (by decide)) ?_
    rw [nI_clamp (show c < 2 ^ 31 by omega)]
    refine ⟨vp_in_nI (by omega) (by decide), nm_e (nm_r (nI_1 c) (ih (c + 1) gr wb _ (by omega) ?_))⟩
    intro j hj
    by_cases e : j = c
    · rw [e, pk_us]
    · rw [pk_un e]; exact hz j (by omega)
theorem sd_fill0 {post : SX → Prop} {t : Nat} {gr wb wa : Nat → Int32} (hs : sd_bd s) (hn : n ≤ 5) (ht : fo = 0 ↔ t = 0) (ok : sd_ok (sd_prog n t) (sd_s0 (n + 1)) = true) (K : ∀ gr' wb' wa', sd_RC (sd_al bn fl gh) s (sd_run (sd_prog n t) (sd_s0 (n + 1))) gr' wb' wa' → post (nI n, fo, fl, fh, s, bn, gh, gr', wb', wa', fi)) : wpX_fill post (nI n, fo, fl, fh, s, bn, gh, gr, wb, wa, fi) := by
  unfold wpX_fill
  dsimp only
  exact ⟨146, sd_l2z hs hn ht ok K 145 0 gr wb wa (by omega) (fun j hj => absurd hj (by omega))⟩
end
section
variable {fw fo fl fh : Int32} {s bn gr wb wa fi : Nat → Int32}
theorem sd_m1 : vp_nar .byte (-1) = -1 := by rw [vp_nar_byte]; decide
theorem sd_lift0 {post : SX → Prop} (K : ∀ gh : Nat → Int32, (∀ j, j < 6 → gh j = -1) → post (fw, fo, -1, fh, s, bn, gh, gr, wb, wa, fi)) : ∀ (m d : Nat) (gh : Nat → Int32), d + m = 6 → (∀ j, j < d → gh j = -1) →
    wX_lift_2 post fw fo fl fh (m + 1) (nI d) s bn gh gr wb wa fi := by
  intro m
  induction m with
  | zero =>
    intro d gh hd hz
    have e : d = 6 := by omega
    subst e
    exact br_t (by decide) (K gh hz)
  | succ m ih =>
    intro d gh hd hz
    refine br_f (nI_ge (b := 6) (by omega) (by decide)) ?_
    rw [nI_clamp (show d < 2 ^ 31 by omega), sd_m1]
    refine ⟨vp_in_nI (by omega) (by decide), nm_e (nm_r (nI_1 d) (ih (d + 1) _ (by omega) ?_))⟩
    intro j hj
    by_cases e : j = d
    · rw [e, pk_us]
    · rw [pk_un e]; exact hz j (by omega)
theorem sd_lift {post : SX → Prop} {gh : Nat → Int32} (K : ∀ gh' : Nat → Int32, (∀ j, j < 6 → gh' j = -1) → post (fw, fo, -1, fh, s, bn, gh', gr, wb, wa, fi)) : wpX_lift post (fw, fo, fl, fh, s, bn, gh, gr, wb, wa, fi) := by
  unfold wpX_lift
  dsimp only
  exact ⟨7, sd_lift0 K 6 0 gh (by omega) (fun j hj => absurd hj (by omega))⟩
end
end
section
/-! the trees as numbers (base 6, word 1 first), the flat ones listed, closed checks -/
def sd_dg (m d : Nat) : Nat := m / 6 ^ (5 - d) % 6
def sd_ar (n m : Nat) : List Nat := (List.range' 1 n).map (fun d => 6 * sd_dg m d + d)
def sd_code : List Nat → Nat
  | [] => 0
  | a :: e => (a / 6) * 6 ^ (5 - a % 6) + sd_code e
def sd_cm (f : Nat → Nat) (b : Nat) : Nat → Nat → Bool
  | 0, _ => false
  | k + 1, a => if a = b then true else sd_cm f b k (f a)
def sd_cv (f : Nat → Nat) (d k : Nat) : Bool := (decide (f d < k) && decide (k < d)) || (decide (d < k) && decide (k < f d))
def sd_g1 (n : Nat) (f : Nat → Nat) (d : Nat) : Bool := (decide (d ≤ n) || decide (f d = 0)) && (decide (f d ≤ n) && !decide (f d = d))
def sd_f1 (n : Nat) (f : Nat → Nat) : Nat → Nat → Bool
  | 0, _ => true
  | m + 1, d => sd_g1 n f d && sd_f1 n f m (d + 1)
def sd_rt (n : Nat) (f : Nat → Nat) : Nat → Nat → Nat → Nat
  | 0, _, r => r
  | m + 1, d, r => sd_rt n f m (d + 1) (if d ≤ n ∧ f d = 0 then r + 1 else r)
def sd_f3 (f : Nat → Nat) (d : Nat) : Nat → Nat → Bool
  | 0, _ => true
  | m + 1, k => (!sd_cv f d k || sd_cm f (f d) 6 k) && sd_f3 f d m (k + 1)
def sd_f2 (n : Nat) (f : Nat → Nat) : Nat → Nat → Bool
  | 0, _ => true
  | m + 1, d => sd_cm f 0 6 d && (sd_f3 f d n 1 && sd_f2 n f m (d + 1))
def sd_fl (n s : Nat) (f : Nat → Nat) : Bool := sd_f1 n f 5 1 && ((decide (s = 0) || decide (sd_rt n f 5 1 0 = 1)) && sd_f2 n f n 1)
def sd_ls (n s N : Nat) : List Nat := (List.range N).filter (fun m => sd_fl n s (sd_dg m))
def sd_T10 : List Nat := [0]
def sd_T11 : List Nat := [0]
def sd_T20 : List Nat := [0, 216, 2592]
def sd_T21 : List Nat := [216, 2592]
def sd_T30 : List Nat := [0, 72, 216, 252, 288, 648, 684, 2592, 2664, 3240, 4104, 4536]
def sd_T31 : List Nat := [252, 288, 684, 2664, 3240, 4104, 4536]
def sd_T40 : List Nat := [0, 18, 72, 84, 90, 144, 156, 216, 234, 252, 258, 270, 288, 294, 300, 306, 360, 366, 372, 648, 666, 684, 690, 702, 792, 798, 936, 942, 1008, 1014, 2592, 2610, 2664, 2676, 2682, 2736, 2748, 3240, 3258, 3384, 3528, 3600, 4104, 4122, 4248, 4536, 4554, 4680, 5436, 5472, 5544, 5868, 5976, 6120, 6192]
def sd_T41 : List Nat := [258, 270, 294, 300, 306, 366, 372, 690, 702, 798, 942, 1014, 2676, 2682, 2748, 3258, 3384, 3528, 3600, 4122, 4248, 4554, 4680, 5436, 5472, 5544, 5868, 5976, 6120, 6192]
def sd_T50 : List Nat := [0, 4, 18, 21, 22, 30, 33, 72, 76, 84, 86, 88, 90, 92, 93, 94, 102, 104, 105, 144, 148, 156, 158, 160, 174, 176, 198, 200, 210, 212, 216, 220, 234, 237, 238, 246, 249, 252, 256, 258, 259, 262, 270, 271, 273, 274, 282, 283, 285, 288, 292, 294, 295, 298, 300, 301, 302, 304, 306, 307, 308, 309, 310, 318, 319, 320, 321, 360, 364, 366, 367, 370, 372, 373, 374, 376, 390, 391, 392, 414, 415, 416, 426, 427, 428, 648, 652, 666, 669, 670, 678, 681, 684, 688, 690, 691, 694, 702, 703, 705, 706, 714, 715, 717, 792, 796, 798, 799, 802, 822, 823, 846, 847, 858, 859, 936, 940, 942, 943, 946, 966, 967, 1008, 1012, 1014, 1015, 1018, 1038, 1039, 1164, 1165, 1170, 1171, 1182, 1183, 1236, 1237, 1254, 1255, 1278, 1279, 1290, 1291, 2592, 2596, 2610, 2613, 2614, 2622, 2625, 2664, 2668, 2676, 2678, 2680, 2682, 2684, 2685, 2686, 2694, 2696, 2697, 2736, 2740, 2748, 2750, 2752, 2766, 2768, 2790, 2792, 2802, 2804, 3240, 3244, 3258, 3261, 3262, 3270, 3273, 3384, 3388, 3414, 3438, 3450, 3528, 3532, 3558, 3600, 3604, 3630, 3756, 3762, 3774, 3828, 3846, 3870, 3882, 4104, 4108, 4122, 4125, 4126, 4134, 4137, 4248, 4252, 4278, 4302, 4314, 4536, 4540, 4554, 4557, 4558, 4566, 4569, 4680, 4684, 4710, 4734, 4746, 5436, 5440, 5466, 5472, 5476, 5502, 5544, 5548, 5574, 5868, 5872, 5898, 5976, 5980, 6006, 6120, 6124, 6150, 6192, 6196, 6222, 6738, 6750, 6762, 6774, 6780, 6786, 6798, 6846, 6852, 6870, 6894, 6906, 7170, 7182, 7194, 7278, 7302, 7326, 7338, 7422, 7446, 7494, 7518, 7644, 7650, 7662, 7716, 7734, 7758, 7770]
def sd_T51 : List Nat := [259, 262, 271, 273, 274, 283, 285, 295, 298, 301, 302, 304, 307, 308, 309, 310, 319, 320, 321, 367, 370, 373, 374, 376, 391, 392, 415, 416, 427, 428, 691, 694, 703, 705, 706, 715, 717, 799, 802, 823, 847, 859, 943, 946, 967, 1015, 1018, 1039, 1165, 1171, 1183, 1237, 1255, 1279, 1291, 2678, 2680, 2684, 2685, 2686, 2696, 2697, 2750, 2752, 2768, 2792, 2804, 3261, 3262, 3273, 3388, 3414, 3438, 3450, 3532, 3558, 3604, 3630, 3756, 3762, 3774, 3828, 3846, 3870, 3882, 4125, 4126, 4137, 4252, 4278, 4302, 4314, 4557, 4558, 4569, 4684, 4710, 4734, 4746, 5440, 5466, 5476, 5502, 5548, 5574, 5872, 5898, 5980, 6006, 6124, 6150, 6196, 6222, 6738, 6750, 6762, 6774, 6780, 6786, 6798, 6846, 6852, 6870, 6894, 6906, 7170, 7182, 7194, 7278, 7302, 7326, 7338, 7422, 7446, 7494, 7518, 7644, 7650, 7662, 7716, 7734, 7758, 7770]
def sd_L (n s : Nat) : List Nat := if s = 0 then (if n = 1 then sd_T10 else if n = 2 then sd_T20 else if n = 3 then sd_T30 else if n = 4 then sd_T40 else sd_T50) else (if n = 1 then sd_T11 else if n = 2 then sd_T21 else if n = 3 then sd_T31 else if n = 4 then sd_T41 else sd_T51)
def sd_G (n s : Nat) : List (List Nat) := sd_get (sd_run (sd_prog n s) (sd_s0 (n + 1))) 144
def sd_ck (n s : Nat) : Bool := ((sd_G n s).map sd_code).isPerm (sd_L n s) && (sd_G n s).all (fun e => e.isPerm (sd_ar n (sd_code e)))
def sd_ck4 (n s : Nat) : Bool := (sd_L n s).all (fun m => (List.range' 1 n).all (fun d => decide (sd_dg m d ≤ n) && !decide (sd_dg m d = d))) && decide ((sd_L n s).length < 300)
theorem sd_ca10 : sd_ok (sd_prog 1 0) (sd_s0 2) = true := by decide +kernel
theorem sd_cb10 : sd_ck 1 0 = true := by decide +kernel
theorem sd_cc10 : sd_ls 1 0 7776 = sd_L 1 0 := by decide +kernel
theorem sd_cd10 : sd_ck4 1 0 = true := by decide +kernel
theorem sd_ca11 : sd_ok (sd_prog 1 1) (sd_s0 2) = true := by decide +kernel
theorem sd_cb11 : sd_ck 1 1 = true := by decide +kernel
theorem sd_cc11 : sd_ls 1 1 7776 = sd_L 1 1 := by decide +kernel
theorem sd_cd11 : sd_ck4 1 1 = true := by decide +kernel
theorem sd_ca20 : sd_ok (sd_prog 2 0) (sd_s0 3) = true := by decide +kernel
theorem sd_cb20 : sd_ck 2 0 = true := by decide +kernel
theorem sd_cc20 : sd_ls 2 0 7776 = sd_L 2 0 := by decide +kernel
theorem sd_cd20 : sd_ck4 2 0 = true := by decide +kernel
theorem sd_ca21 : sd_ok (sd_prog 2 1) (sd_s0 3) = true := by decide +kernel
theorem sd_cb21 : sd_ck 2 1 = true := by decide +kernel
theorem sd_cc21 : sd_ls 2 1 7776 = sd_L 2 1 := by decide +kernel
theorem sd_cd21 : sd_ck4 2 1 = true := by decide +kernel
theorem sd_ca30 : sd_ok (sd_prog 3 0) (sd_s0 4) = true := by decide +kernel
theorem sd_cb30 : sd_ck 3 0 = true := by decide +kernel
theorem sd_cc30 : sd_ls 3 0 7776 = sd_L 3 0 := by decide +kernel
theorem sd_cd30 : sd_ck4 3 0 = true := by decide +kernel
theorem sd_ca31 : sd_ok (sd_prog 3 1) (sd_s0 4) = true := by decide +kernel
theorem sd_cb31 : sd_ck 3 1 = true := by decide +kernel
theorem sd_cc31 : sd_ls 3 1 7776 = sd_L 3 1 := by decide +kernel
theorem sd_cd31 : sd_ck4 3 1 = true := by decide +kernel
theorem sd_ca40 : sd_ok (sd_prog 4 0) (sd_s0 5) = true := by decide +kernel
theorem sd_cb40 : sd_ck 4 0 = true := by decide +kernel
theorem sd_cc40 : sd_ls 4 0 7776 = sd_L 4 0 := by decide +kernel
theorem sd_cd40 : sd_ck4 4 0 = true := by decide +kernel
theorem sd_ca41 : sd_ok (sd_prog 4 1) (sd_s0 5) = true := by decide +kernel
theorem sd_cb41 : sd_ck 4 1 = true := by decide +kernel
theorem sd_cc41 : sd_ls 4 1 7776 = sd_L 4 1 := by decide +kernel
theorem sd_cd41 : sd_ck4 4 1 = true := by decide +kernel
theorem sd_ca50 : sd_ok (sd_prog 5 0) (sd_s0 6) = true := by decide +kernel
theorem sd_cb50 : sd_ck 5 0 = true := by decide +kernel
theorem sd_cc50 : sd_ls 5 0 7776 = sd_L 5 0 := by decide +kernel
theorem sd_cd50 : sd_ck4 5 0 = true := by decide +kernel
theorem sd_ca51 : sd_ok (sd_prog 5 1) (sd_s0 6) = true := by decide +kernel
theorem sd_cb51 : sd_ck 5 1 = true := by decide +kernel
theorem sd_cc51 : sd_ls 5 1 7776 = sd_L 5 1 := by decide +kernel
theorem sd_cd51 : sd_ck4 5 1 = true := by decide +kernel
theorem sd_cA {n s : Nat} (h1 : 1 ≤ n) (h5 : n ≤ 5) (hs : s ≤ 1) : sd_ok (sd_prog n s) (sd_s0 (n + 1)) = true := by
  obtain rfl | rfl : s = 0 ∨ s = 1 := by omega
  · obtain rfl | rfl | rfl | rfl | rfl : n = 1 ∨ n = 2 ∨ n = 3 ∨ n = 4 ∨ n = 5 := by omega
    · exact sd_ca10
    · exact sd_ca20
    · exact sd_ca30
    · exact sd_ca40
    · exact sd_ca50
  · obtain rfl | rfl | rfl | rfl | rfl : n = 1 ∨ n = 2 ∨ n = 3 ∨ n = 4 ∨ n = 5 := by omega
    · exact sd_ca11
    · exact sd_ca21
    · exact sd_ca31
    · exact sd_ca41
    · exact sd_ca51
theorem sd_cB {n s : Nat} (h1 : 1 ≤ n) (h5 : n ≤ 5) (hs : s ≤ 1) : sd_ck n s = true := by
  obtain rfl | rfl : s = 0 ∨ s = 1 := by omega
  · obtain rfl | rfl | rfl | rfl | rfl : n = 1 ∨ n = 2 ∨ n = 3 ∨ n = 4 ∨ n = 5 := by omega
    · exact sd_cb10
    · exact sd_cb20
    · exact sd_cb30
    · exact sd_cb40
    · exact sd_cb50
  · obtain rfl | rfl | rfl | rfl | rfl : n = 1 ∨ n = 2 ∨ n = 3 ∨ n = 4 ∨ n = 5 := by omega
    · exact sd_cb11
    · exact sd_cb21
    · exact sd_cb31
    · exact sd_cb41
    · exact sd_cb51
theorem sd_cC {n s : Nat} (h1 : 1 ≤ n) (h5 : n ≤ 5) (hs : s ≤ 1) : sd_ls n s 7776 = sd_L n s := by
  obtain rfl | rfl : s = 0 ∨ s = 1 := by omega
  · obtain rfl | rfl | rfl | rfl | rfl : n = 1 ∨ n = 2 ∨ n = 3 ∨ n = 4 ∨ n = 5 := by omega
    · exact sd_cc10
    · exact sd_cc20
    · exact sd_cc30
    · exact sd_cc40
    · exact sd_cc50
  · obtain rfl | rfl | rfl | rfl | rfl : n = 1 ∨ n = 2 ∨ n = 3 ∨ n = 4 ∨ n = 5 := by omega
    · exact sd_cc11
    · exact sd_cc21
    · exact sd_cc31
    · exact sd_cc41
    · exact sd_cc51
theorem sd_cD {n s : Nat} (h1 : 1 ≤ n) (h5 : n ≤ 5) (hs : s ≤ 1) : sd_ck4 n s = true := by
  obtain rfl | rfl : s = 0 ∨ s = 1 := by omega
  · obtain rfl | rfl | rfl | rfl | rfl : n = 1 ∨ n = 2 ∨ n = 3 ∨ n = 4 ∨ n = 5 := by omega
    · exact sd_cd10
    · exact sd_cd20
    · exact sd_cd30
    · exact sd_cd40
    · exact sd_cd50
  · obtain rfl | rfl | rfl | rfl | rfl : n = 1 ∨ n = 2 ∨ n = 3 ∨ n = 4 ∨ n = 5 := by omega
    · exact sd_cd11
    · exact sd_cd21
    · exact sd_cd31
    · exact sd_cd41
    · exact sd_cd51
end
section
/-! the goal cell's view is the listed trees' scores -/
theorem sd_all_perm {al : Nat → Bool} {e f : List Nat} (p : e.Perm f) : e.all al = f.all al := by
  rw [Bool.eq_iff_iff, List.all_eq_true, List.all_eq_true]
  exact ⟨fun h x hx => h x (p.mem_iff.mpr hx), fun h x hx => h x (p.mem_iff.mp hx)⟩
/-- the scores of those trees of a list that satisfy p -/
def sd_fv (n : Nat) (s : Nat → Int32) (p : Nat → Bool) (L : List Nat) : List Int := (L.filter p).map (fun m => sd_sc s (sd_ar n m))
def sd_tv (n t : Nat) (al : Nat → Bool) (s : Nat → Int32) : List Int := sd_fv n s (fun m => (sd_ar n m).all al) (sd_L n t)
theorem sd_vw_code (n : Nat) (al : Nat → Bool) (s : Nat → Int32) (G : List (List Nat)) (h : ∀ e, e ∈ G → e.Perm (sd_ar n (sd_code e))) : sd_vw al s G = sd_fv n s (fun m => (sd_ar n m).all al) (G.map sd_code) := by
  unfold sd_fv
  induction G with
  | nil => rfl
  | cons e G ih =>
    have p := h e List.mem_cons_self
    have ih' := ih (fun f hf => h f (List.mem_cons_of_mem _ hf))
    rw [List.map_cons]
    by_cases q : e.all al = true
    · rw [sd_vw_ct s G q, ih', List.filter_cons_of_pos (by rw [← sd_all_perm p]; exact q), List.map_cons, sd_sc_perm s p]
    · rw [sd_vw_cf s G q, ih', List.filter_cons_of_neg (by rw [← sd_all_perm p]; exact q)]
theorem sd_goalV {n t : Nat} (h1 : 1 ≤ n) (h5 : n ≤ 5) (ht : t ≤ 1) (al : Nat → Bool) (s : Nat → Int32) : (sd_vw al s (sd_G n t)).Perm (sd_tv n t al s) := by
  have c := sd_cB h1 h5 ht
  unfold sd_ck at c
  rw [Bool.and_eq_true, List.all_eq_true] at c
  rw [sd_vw_code n al s (sd_G n t) (fun e he => List.isPerm_iff.mp (c.2 e he))]
  exact ((List.isPerm_iff.mp c.1).filter _).map _
theorem sd_L_len {n t : Nat} (h1 : 1 ≤ n) (h5 : n ≤ 5) (ht : t ≤ 1) : (sd_L n t).length < 300 := by
  have c := sd_cD h1 h5 ht
  unfold sd_ck4 at c
  rw [Bool.and_eq_true, decide_eq_true_eq] at c
  exact c.2
theorem sd_L_dg {n t m d : Nat} (h1 : 1 ≤ n) (h5 : n ≤ 5) (ht : t ≤ 1) (hm : m ∈ sd_L n t) (hd : 1 ≤ d) (hn : d ≤ n) : sd_dg m d ≤ n ∧ sd_dg m d ≠ d := by
  have c := sd_cD h1 h5 ht
  unfold sd_ck4 at c
  rw [Bool.and_eq_true, List.all_eq_true] at c
  have c2 := c.1 m hm
  rw [List.all_eq_true] at c2
  have c3 := c2 d (List.mem_range'_1.mpr (by omega))
  simp only [Bool.and_eq_true, decide_eq_true_eq, Bool.not_eq_true', decide_eq_false_iff_not] at c3
  exact c3
theorem sd_fv_len (n : Nat) (s : Nat → Int32) (p : Nat → Bool) (L : List Nat) : (sd_fv n s p L).length ≤ L.length := by
  unfold sd_fv
  rw [List.length_map]
  exact List.length_filter_le _ _
theorem sd_fv_congr {n : Nat} {s : Nat → Int32} {p q : Nat → Bool} {L : List Nat} (h : ∀ m, m ∈ L → p m = q m) : sd_fv n s p L = sd_fv n s q L := by
  unfold sd_fv
  rw [List.filter_congr h]
theorem sd_fv_mem {n : Nat} {s : Nat → Int32} {p : Nat → Bool} {L : List Nat} {x : Int} : x ∈ sd_fv n s p L ↔ ∃ m, m ∈ L ∧ p m = true ∧ sd_sc s (sd_ar n m) = x := by
  unfold sd_fv
  rw [List.mem_map]
  constructor
  · rintro ⟨m, hm, e⟩
    exact ⟨m, (List.mem_filter.mp hm).1, (List.mem_filter.mp hm).2, e⟩
  · rintro ⟨m, h1, h2, e⟩
    exact ⟨m, List.mem_filter.mpr ⟨h1, h2⟩, e⟩
theorem sd_ar_len (n m : Nat) : (sd_ar n m).length = n := by
  unfold sd_ar
  rw [List.length_map, List.length_range']
theorem sd_sc_in {n m : Nat} {s : Nat → Int32} (hs : sd_bd s) (hn : n ≤ 5) : -5000 ≤ sd_sc s (sd_ar n m) ∧ sd_sc s (sd_ar n m) ≤ 5000 := by
  have h := sd_sc_bd hs (sd_ar n m)
  rw [sd_ar_len] at h
  omega
theorem sd_ar_all {n m : Nat} {al : Nat → Bool} : (sd_ar n m).all al = true ↔ ∀ d, 1 ≤ d → d ≤ n → al (6 * sd_dg m d + d) = true := by
  unfold sd_ar
  rw [List.all_eq_true]
  constructor
  · intro h d h1 h2
    exact h _ (List.mem_map.mpr ⟨d, List.mem_range'_1.mpr (by omega), rfl⟩)
  · intro h x hx
    obtain ⟨d, hd, e⟩ := List.mem_map.mp hx
    have := List.mem_range'_1.mp hd
    rw [← e]
    exact h d (by omega) (by omega)
theorem sd_dg_lt (m d : Nat) : sd_dg m d ≤ 5 := by
  unfold sd_dg
  have := Nat.mod_lt (m / 6 ^ (5 - d)) (show 0 < 6 by decide)
  omega
end
section
/-! the reference's constructor: its list is sd_ls -/
section
variable {yn yc : Int32} {ys yb hd now : Nat → Int32} {f : Nat → Nat}
theorem sd_comes0 {post : Int32 → Prop} {b : Nat} (hf : ∀ d, d ≤ 5 → now d = nI (f d) ∧ f d ≤ 5) (hb : b ≤ 5) : ∀ (k a : Nat), k ≤ 6 → a ≤ 5 → (sd_cm f b k a = true → post 1) → (sd_cm f b k a = false → post 0) →
    wY_comes_5 post (nI b) yn yc ys yb hd now (k + 1) (nI a) (nI (6 - k)) := by
  intro k
  induction k with
  | zero => intro a hk ha K1 K0; exact br_t (by decide) (K0 rfl)
  | succ k ih =>
    intro a hk ha K1 K0
    refine br_f (nI_ge (b := 6) (by omega) (by decide)) ?_
    by_cases e : a = b
    · exact br_t (congrArg nI e) (K1 (if_pos e))
    · refine br_f (fun z => e ((nI_eq (by omega) (by omega)).mp z)) ⟨vp_in_nI (by omega) (by decide), ?_⟩
      rw [nI_clamp (show a < 2 ^ 31 by omega)]
      have e2 : nI (6 - (k + 1)) + 1 = nI (6 - k) := by
        rw [nI_1, show 6 - (k + 1) + 1 = 6 - k by omega]
      have e3 : sd_cm f b (k + 1) a = sd_cm f b k (f a) := if_neg e
      rw [e3] at K1 K0
      exact nm_r (hf a ha).1 (nm_r e2 (ih (f a) (by omega) (hf a ha).2 K1 K0))
theorem sd_comes {post : Int32 → Prop} {a b : Nat} (hf : ∀ d, d ≤ 5 → now d = nI (f d) ∧ f d ≤ 5) (ha : a ≤ 5) (hb : b ≤ 5) (K1 : sd_cm f b 6 a = true → post 1) (K0 : sd_cm f b 6 a = false → post 0) :
    wpY_comes post (yn, yc, ys, yb, hd, now) (nI a) (nI b) := by
  unfold wpY_comes
  dsimp only
  exact ⟨6 + 1, sd_comes0 hf hb 6 a (by omega) ha K1 K0⟩
theorem sd_cov17 {post : Int32 → Prop} {d k h : Nat} (hd' : d ≤ 5) (hk : k ≤ 5) (hh : h ≤ 5) (K1 : d < k ∧ k < h → post 1) (K0 : ¬ (d < k ∧ k < h) → post 0) : wY_covers_17 post (nI d) (nI k) (nI h) yn yc ys yb hd now := by
  unfold wY_covers_17
  exact pk_le k d (fun h3 => K0 (by omega)) (fun h3 => pk_le h k (fun h4 => K0 (by omega)) (fun h4 => K1 (by omega)))
theorem sd_covers {post : Int32 → Prop} {d k : Nat} (hf : ∀ d, d ≤ 5 → now d = nI (f d) ∧ f d ≤ 5) (hd' : d ≤ 5) (hk : k ≤ 5) (K1 : sd_cv f d k = true → post 1) (K0 : sd_cv f d k = false → post 0) : wpY_covers post (yn, yc, ys, yb, hd, now) (nI d) (nI k) := by
  have hc : sd_cv f d k = true ↔ (f d < k ∧ k < d) ∨ (d < k ∧ k < f d) := by
    unfold sd_cv
    simp only [Bool.or_eq_true, Bool.and_eq_true, decide_eq_true_eq]
  have hc' : ¬ ((f d < k ∧ k < d) ∨ (d < k ∧ k < f d)) → post 0 := fun z => K0 (by cases q : sd_cv f d k with | false => rfl | true => exact absurd (hc.mp q) z)
  have hc1 : ((f d < k ∧ k < d) ∨ (d < k ∧ k < f d)) → post 1 := fun z => K1 (hc.mpr z)
  have hfd := (hf d hd').2
  unfold wpY_covers
  dsimp only
  rw [nI_clamp (show d < 2 ^ 31 by omega)]
  refine ⟨vp_in_nI (by omega) (by decide), nm_r (hf d hd').1 ?_⟩
  exact pk_le k (f d) (fun h => sd_cov17 hd' hk hfd (fun z => hc1 (Or.inr z)) (fun z => hc' (by omega)))
    (fun h => pk_lt k d (fun h2 => hc1 (Or.inl ⟨h, h2⟩)) (fun h2 => sd_cov17 hd' hk hfd (fun z => hc1 (Or.inr z)) (fun z => hc' (by omega))))
theorem sd_l112 {post : Int32 → Prop} {J : Int32 → Prop} {n d : Nat} (hn : n ≤ 5) (hf : ∀ d, d ≤ 5 → now d = nI (f d) ∧ f d ≤ 5) (hd' : d ≤ 5) : ∀ (m k : Nat), k + m = n + 1 → (sd_f3 f d m k = true → J (nI (d + 1))) → (sd_f3 f d m k = false → post 0) →
    wY_isFlat_112 post J (nI d) (nI n) yc ys yb hd now (m + 1) (nI k) := by
  intro m
  induction m with
  | zero => intro k hk K1 K0; exact br_t (nI_lt (by omega) (by omega)) (nm_r (nI_1 d) (K1 rfl))
  | succ m ih =>
    intro k hk K1 K0
    have e3 : sd_f3 f d (m + 1) k = ((!sd_cv f d k || sd_cm f (f d) 6 k) && sd_f3 f d m (k + 1)) := rfl
    rw [e3] at K1 K0
    refine br_f (nI_nlt (by omega) (by omega)) (sd_covers hf hd' (by omega) (fun hc => ?_) (fun hc => ?_))
    · refine br_f (by decide) ?_
      rw [nI_clamp (show d < 2 ^ 31 by omega), (hf d hd').1]
      refine ⟨vp_in_nI (by omega) (by decide), sd_comes hf (by omega) (hf d hd').2 (fun hm => ?_) (fun hm => ?_)⟩
      · rw [hc, hm] at K1 K0
        exact br_f (by decide) (nm_r (nI_1 k) (ih (k + 1) (by omega) K1 K0))
      · rw [hc, hm] at K0
        exact br_t rfl (K0 rfl)
    · rw [hc] at K1 K0
      exact br_t rfl (nm_r (nI_1 k) (ih (k + 1) (by omega) K1 K0))
theorem sd_l90 {post : Int32 → Prop} {n : Nat} (hn : n ≤ 5) (hf : ∀ d, d ≤ 5 → now d = nI (f d) ∧ f d ≤ 5) : ∀ (m d : Nat), d + m = n + 1 → (sd_f2 n f m d = true → post 1) → (sd_f2 n f m d = false → post 0) →
    wY_isFlat_90 post (nI n) yc ys yb hd now (m + 1) (nI d) := by
  intro m
  induction m with
  | zero => intro d hd' K1 K0; exact br_t (nI_lt (by omega) (by omega)) (K1 rfl)
  | succ m ih =>
    intro d hd' K1 K0
    have e3 : sd_f2 n f (m + 1) d = (sd_cm f 0 6 d && (sd_f3 f d n 1 && sd_f2 n f m (d + 1))) := rfl
    rw [e3] at K1 K0
    refine br_f (nI_nlt (by omega) (by omega)) (sd_comes (b := 0) hf (by omega) (by omega) (fun hc => ?_) (fun hc => ?_))
    · rw [hc] at K1 K0
      refine br_f (by decide) ⟨n + 1, sd_l112 hn hf (by omega) n 1 (by omega) (fun hm => ?_) (fun hm => ?_)⟩
      · rw [hm] at K1 K0
        exact ih (d + 1) (by omega) K1 K0
      · rw [hm] at K0
        exact K0 rfl
    · rw [hc] at K0
      exact br_t rfl (K0 rfl)
theorem sd_l4 {post : Int32 → Prop} {n t : Nat} {x1 : Int32} (hn : n ≤ 5) (ht : x1 = 0 ↔ t = 0) (hf : ∀ d, d ≤ 5 → now d = nI (f d) ∧ f d ≤ 5) : ∀ (m d r : Nat), d + m = 6 → 1 ≤ d → r < d →
    ((sd_f1 n f m d && ((decide (t = 0) || decide (sd_rt n f m d r = 1)) && sd_f2 n f n 1)) = true → post 1) → ((sd_f1 n f m d && ((decide (t = 0) || decide (sd_rt n f m d r = 1)) && sd_f2 n f n 1)) = false → post 0) →
    wY_isFlat_4 post x1 (nI n) yc ys yb hd now (m + 1) (nI r) (nI d) := by
  intro m
  induction m with
  | zero =>
    intro d r hd' h1 hr K1 K0
    have e : d = 6 := by omega
    subst e
    have e1 : sd_f1 n f 0 6 = true := rfl
    have e2 : sd_rt n f 0 6 r = r := rfl
    rw [e1, e2, Bool.true_and] at K1 K0
    refine br_t (by decide) ?_
    by_cases h0 : x1 = 0
    · rw [decide_eq_true (ht.mp h0), Bool.true_or, Bool.true_and] at K1 K0
      exact br_t h0 ⟨n + 1, sd_l90 hn hf n 1 (by omega) K1 K0⟩
    · have h0' : ¬ t = 0 := fun z => h0 (ht.mpr z)
      rw [decide_eq_false h0', Bool.false_or] at K1 K0
      refine br_f h0 (pk_eq r 1 (fun h => ?_) (fun h => ?_))
      · rw [decide_eq_true h, Bool.true_and] at K1 K0
        exact ⟨n + 1, sd_l90 hn hf n 1 (by omega) K1 K0⟩
      · rw [decide_eq_false h] at K0
        exact K0 rfl
  | succ m ih =>
    intro d r hd' h1 hr K1 K0
    have e1 : sd_f1 n f (m + 1) d = (sd_g1 n f d && sd_f1 n f m (d + 1)) := rfl
    have e2 : sd_rt n f (m + 1) d r = sd_rt n f m (d + 1) (if d ≤ n ∧ f d = 0 then r + 1 else r) := rfl
    rw [e1, e2] at K1 K0
    have hfd := hf d (by omega)
    have i6 : vp_in (nI d) 6 := vp_in_nI (by omega) (by decide)
    have g0 : sd_g1 n f d = false → post 0 := fun z => by rw [z] at K0; exact K0 rfl
    have gc : sd_g1 n f d = true ↔ (d ≤ n ∨ f d = 0) ∧ f d ≤ n ∧ ¬ f d = d := by
      unfold sd_g1
      simp only [Bool.or_eq_true, Bool.and_eq_true, decide_eq_true_eq, Bool.not_eq_true', decide_eq_false_iff_not]
    have g0' : ¬ ((d ≤ n ∨ f d = 0) ∧ f d ≤ n ∧ ¬ f d = d) → post 0 := fun z => g0 (by cases q : sd_g1 n f d with | false => rfl | true => exact absurd (gc.mp q) z)
    have Q : (d ≤ n ∨ f d = 0) → wY_isFlat_26 post (wY_isFlat_4 post x1 (nI n) yc ys yb hd now (m + 1)) x1 (nI r) (nI d) (nI n) yc ys yb hd now := by
      intro hq
      unfold wY_isFlat_26
      rw [nI_clamp (show d < 2 ^ 31 by omega), hfd.1]
      refine ⟨i6, pk_lt n (f d) (fun h => g0' (by omega)) (fun h => ⟨i6, pk_eq (f d) d (fun h2 => g0' (by omega)) (fun h2 => ?_)⟩)⟩
      rw [gc.mpr ⟨hq, h, h2⟩, Bool.true_and] at K1 K0
      refine pk_lt n d (fun h3 => nm_r (nI_1 d) ?_) (fun h3 => ⟨i6, pk_eq (f d) 0 (fun h4 => nm_r (nI_1 r) (nm_r (nI_1 d) ?_)) (fun h4 => nm_r (nI_1 d) ?_)⟩)
      · rw [if_neg (by omega)] at K1 K0
        exact ih (d + 1) r (by omega) (by omega) (by omega) K1 K0
      · rw [if_pos ⟨h3, h4⟩] at K1 K0
        exact ih (d + 1) (r + 1) (by omega) (by omega) (by omega) K1 K0
      · rw [if_neg (fun z => h4 z.2)] at K1 K0
        exact ih (d + 1) r (by omega) (by omega) (by omega) K1 K0
    refine br_f (nI_nlt (a := 5) (by omega) (by omega)) ?_
    refine pk_le d n (fun h => Q (Or.inl h)) (fun h => ⟨i6, ?_⟩)
    rw [nI_clamp (show d < 2 ^ 31 by omega), hfd.1]
    exact pk_eq (f d) 0 (fun h2 => Q (Or.inr h2)) (fun h2 => g0' (by omega))
theorem sd_isFlat {post : Int32 → Prop} {n t : Nat} {x1 : Int32} (hn : n ≤ 5) (ht : x1 = 0 ↔ t = 0) (hf : ∀ d, d ≤ 5 → now d = nI (f d) ∧ f d ≤ 5) (K1 : sd_fl n t f = true → post 1) (K0 : sd_fl n t f = false → post 0) :
    wpY_isFlat post (nI n, yc, ys, yb, hd, now) x1 := by
  unfold wpY_isFlat
  dsimp only
  exact ⟨5 + 1, sd_l4 hn ht hf 5 1 0 (by omega) (by omega) (by omega) K1 K0⟩
end
theorem sd_ls_t {n t N : Nat} (h : sd_fl n t (sd_dg N) = true) : sd_ls n t (N + 1) = sd_ls n t N ++ [N] := by
  unfold sd_ls
  rw [List.range_succ, List.filter_append, List.filter_cons_of_pos (by exact h), List.filter_nil]
theorem sd_ls_f {n t N : Nat} (h : sd_fl n t (sd_dg N) = false) : sd_ls n t (N + 1) = sd_ls n t N := by
  unfold sd_ls
  rw [List.range_succ, List.filter_append, List.filter_cons_of_neg (by rw [h]; decide), List.filter_nil, List.append_nil]
theorem sd_ls_len {n t N : Nat} (h1 : 1 ≤ n) (h5 : n ≤ 5) (ht : t ≤ 1) (hN : N ≤ 7776) : (sd_ls n t N).length < 300 := by
  have h := sd_L_len h1 h5 ht
  rw [← sd_cC h1 h5 ht] at h
  have s : (sd_ls n t N).Sublist (sd_ls n t 7776) := List.Sublist.filter _ (List.range_sublist.mpr hN)
  have := s.length_le
  omega
theorem sd_L_in {n t m : Nat} (h1 : 1 ≤ n) (h5 : n ≤ 5) (ht : t ≤ 1) (hm : m ∈ sd_L n t) : m < 7776 := by
  rw [← sd_cC h1 h5 ht] at hm
  unfold sd_ls at hm
  exact List.mem_range.mp (List.mem_filter.mp hm).1
theorem sd_L_sorted {n t : Nat} (h1 : 1 ≤ n) (h5 : n ≤ 5) (ht : t ≤ 1) : (sd_L n t).Pairwise (· < ·) := by
  rw [← sd_cC h1 h5 ht]
  unfold sd_ls
  exact List.Pairwise.filter _ List.pairwise_lt_range
/-- the array of heads holds the trees of L -/
def sd_hd (n : Nat) (L : List Nat) (hd : Nat → Int32) : Prop := ∀ (k m : Nat), L[k]? = some m → ∀ d, 1 ≤ d → d ≤ n → hd (6 * k + d) = nI (sd_dg m d)
section
variable {ys yb : Nat → Int32} {n t : Nat}
theorem sd_l140 {post : SY → Prop} {J : Int32 → Int32 → (Nat → Int32) → (Nat → Int32) → (Nat → Int32) → (Nat → Int32) → Prop} {x2 : Int32} {N c : Nat} {now : Nat → Int32} (hn : n ≤ 5) (hc : c < 300) (hf : ∀ d, d ≤ 5 → now d = nI (sd_dg N d)) (hd0 : Nat → Int32)
    (K : ∀ hd', (∀ j, j < 6 * c + 1 → hd' j = hd0 j) → (∀ d, 1 ≤ d → d ≤ n → hd' (6 * c + d) = nI (sd_dg N d)) → J (nI (N + 1)) (nI (c + 1)) ys yb hd' now) :
    ∀ (m d : Nat) (hd : Nat → Int32), d + m = n + 1 → 1 ≤ d → (∀ j, j < 6 * c + 1 → hd j = hd0 j) → (∀ e, 1 ≤ e → e < d → hd (6 * c + e) = nI (sd_dg N e)) →
    wY_init_140 post J x2 (nI N) (nI n) (nI c) (m + 1) (nI d) ys yb hd now := by
  intro m
  induction m with
  | zero =>
    intro d hd hdm h1 hj he
    exact br_t (nI_lt (by omega) (by omega)) (nm_r (nI_1 c) (nm_r (nI_1 N) (K hd hj (fun e a b => he e a (by omega)))))
  | succ m ih =>
    intro d hd hdm h1 hj he
    refine br_f (nI_nlt (by omega) (by omega)) ?_
    rw [sd_arc, nI_clamp (show 6 * c + d < 2 ^ 31 by omega), nI_clamp (show d < 2 ^ 31 by omega), hf d (by omega)]
    refine ⟨vp_in_nI (by omega) (by decide), vp_in_nI (by omega) (by decide), nm_e (nm_r (nI_1 d) (ih (d + 1) _ (by omega) (by omega) ?_ ?_))⟩
    · intro j hjj
      rw [pk_un (by omega)]
      exact hj j hjj
    · intro e a b
      by_cases q : e = d
      · rw [q, pk_us]
      · rw [pk_un (by omega)]
        exact he e a (by omega)
theorem sd_l121 {post : SY → Prop} {J : Int32 → Int32 → (Nat → Int32) → (Nat → Int32) → (Nat → Int32) → (Nat → Int32) → Prop} {x2 z0 : Int32} {N : Nat} {hd now : Nat → Int32} (h1 : 1 ≤ n) (hn : n ≤ 5) (ht1 : t ≤ 1) (ht : z0 = 0 ↔ t = 0) (hN : N < 7776) (hf : ∀ d, d ≤ 5 → now d = nI (sd_dg N d)) (H : sd_hd n (sd_ls n t N) hd)
    (K : ∀ hd', sd_hd n (sd_ls n t (N + 1)) hd' → J (nI (N + 1)) (nI (sd_ls n t (N + 1)).length) ys yb hd' now) :
    wY_init_121 post J x2 (nI N) z0 (nI n) (nI (sd_ls n t N).length) ys yb hd now := by
  have hl := sd_ls_len h1 hn ht1 (show N ≤ 7776 by omega)
  unfold wY_init_121
  refine sd_isFlat (t := t) hn ht (fun d h => ⟨hf d h, sd_dg_lt N d⟩) (fun hy => ?_) (fun hy => ?_)
  · rw [sd_ls_t hy, List.length_append, List.length_singleton] at K
    refine br_f (by decide) (br_f (nI_ge (b := 300) hl (by decide)) ⟨n + 1, sd_l140 hn hl hf hd ?_ n 1 hd (by omega) (by omega) (fun j _ => rfl) (fun e a b => absurd b (by omega))⟩)
    intro hd' a b
    refine K hd' ?_
    intro k m hk d e1 e2
    rw [List.getElem?_append] at hk
    split at hk
    · rename_i q
      rw [a _ (by omega)]
      exact H k m hk d e1 e2
    · rename_i q
      have hz : k - (sd_ls n t N).length = 0 := by
        have := (List.getElem?_eq_some_iff.mp hk).1
        rw [List.length_singleton] at this
        omega
      rw [hz] at hk
      have hm : N = m := by
        have h3 : some N = some m := hk
        exact Option.some.inj h3
      rw [← hm, show k = (sd_ls n t N).length by omega]
      exact b d e1 e2
  · rw [sd_ls_f hy] at K
    exact br_t rfl (nm_r (nI_1 N) (K hd H))
theorem sd_l80 {post : SY → Prop} {J : Int32 → Int32 → (Nat → Int32) → (Nat → Int32) → (Nat → Int32) → (Nat → Int32) → Prop} {x2 : Int32} {N : Nat} {hd : Nat → Int32} (h1 : 1 ≤ n) (hn : n ≤ 5) (ht1 : t ≤ 1) (ht : x2 = 0 ↔ t = 0) (hN : N < 7776) (H : sd_hd n (sd_ls n t N) hd)
    (K : ∀ hd' now', now' 0 = 0 → sd_hd n (sd_ls n t (N + 1)) hd' → J (nI (N + 1)) (nI (sd_ls n t (N + 1)).length) ys yb hd' now') :
    ∀ (d : Nat) (now : Nat → Int32), d ≤ 5 → now 0 = 0 → (∀ e, d < e → e ≤ 5 → now e = nI (sd_dg N e)) →
    wY_init_80 post J x2 (nI N) (nI n) (nI (sd_ls n t N).length) (d + 1) (nI (N / 6 ^ (5 - d))) (nI d) ys yb hd now := by
  intro d
  induction d with
  | zero =>
    intro now hd' h0 he
    have hf : ∀ e, e ≤ 5 → now e = nI (sd_dg N e) := by
      intro e h
      by_cases q : e = 0
      · rw [q, h0]
        have : sd_dg N 0 = 0 := by
          show N / 6 ^ 5 % 6 = 0
          rw [Nat.div_eq_of_lt (show N < 6 ^ 5 from hN)]
        rw [this]
        rfl
      · exact he e (by omega) h
    refine br_t (by decide) ?_
    by_cases z : x2 = 0
    · exact br_t z (sd_l121 h1 hn ht1 ⟨fun _ => ht.mp z, fun _ => rfl⟩ hN hf H (fun hd' a => K hd' now h0 a))
    · exact br_f z (sd_l121 h1 hn ht1 ⟨fun q => absurd q (by decide), fun q => absurd (ht.mpr q) z⟩ hN hf H (fun hd' a => K hd' now h0 a))
  | succ d ih =>
    intro now hd' h0 he
    have hb : N / 6 ^ (5 - (d + 1)) < 2 ^ 31 := Nat.lt_of_le_of_lt (Nat.div_le_self _ _) (by omega)
    have er : nI (N / 6 ^ (5 - (d + 1))) - nI (N / 6 ^ (5 - (d + 1))) / 6 * 6 = nI (sd_dg N (d + 1)) := pk_rem (d := 6) hb (by decide) (by decide)
    have eq : nI (N / 6 ^ (5 - (d + 1))) / 6 = nI (N / 6 ^ (5 - d)) := by
      have h := pk_div (d := 6) hb (by decide) (by decide)
      rw [Nat.div_div_eq_div_mul, ← Nat.pow_succ, show (5 - (d + 1)).succ = 5 - d by omega] at h
      exact h
    refine br_f (nI_nlt (b := 1) (by omega) (by omega)) ⟨by decide, vp_in_nI (by omega) (by decide), ?_⟩
    rw [er, nI_clamp (show d + 1 < 2 ^ 31 by omega)]
    refine nm_e ⟨by decide, nm_r eq (nm_r (pk_m1 d) (ih _ (by omega) ?_ ?_))⟩
    · rw [pk_un (by omega)]; exact h0
    · intro e a b
      by_cases q : e = d + 1
      · rw [q, pk_us]
      · rw [pk_un q]; exact he e (by omega) b
theorem sd_l67 {post : SY → Prop} {x2 : Int32} (h1 : 1 ≤ n) (hn : n ≤ 5) (ht1 : t ≤ 1) (ht : x2 = 0 ↔ t = 0)
    (K : ∀ hd now, sd_hd n (sd_L n t) hd → post (nI n, nI (sd_L n t).length, ys, yb, hd, now)) :
    ∀ (m N : Nat) (hd now : Nat → Int32), N + m = 7776 → now 0 = 0 → sd_hd n (sd_ls n t N) hd →
    wY_init_67 post x2 (nI n) (m + 1) (nI N) (nI (sd_ls n t N).length) ys yb hd now := by
  intro m
  induction m with
  | zero =>
    intro N hd now hN h0 H
    have e : N = 7776 := by omega
    subst e
    rw [sd_cC h1 hn ht1] at H
    rw [sd_cC h1 hn ht1]
    exact br_t (by decide) (K hd now H)
  | succ m ih =>
    intro N hd now hN h0 H
    refine br_f (nI_ge (b := 7776) (by omega) (by decide)) ⟨5 + 1, ?_⟩
    have h := sd_l80 (post := post) (J := wY_init_67 post x2 (nI n) (m + 1)) (ys := ys) (yb := yb) h1 hn ht1 ht (show N < 7776 by omega) H (fun hd' now' a b => ih (N + 1) hd' now' (by omega) a b) 5 now (by omega) h0 (fun e a b => absurd b (by omega))
    rw [show N / 6 ^ (5 - 5) = N from Nat.div_one N] at h
    exact h
end
end
section
/-! the reference's questions over its list -/
def sd_nb (bn : Nat → Int32) (a : Nat) : Bool := decide (bn a = 0)
def sd_af (m d j : Nat) : List Nat := (List.range' d j).map (fun d => 6 * sd_dg m d + d)
def sd_q (h dd w m : Nat) : Bool := decide (dd = 0) || (decide (sd_dg m dd = h) == decide (w = 1))
def sd_p (n : Nat) (yb : Nat → Int32) (q : Nat → Bool) (m : Nat) : Bool := (sd_ar n m).all (sd_nb yb) && q m
theorem sd_fv_app (n : Nat) (s : Nat → Int32) (p : Nat → Bool) (A B : List Nat) : sd_fv n s p (A ++ B) = sd_fv n s p A ++ sd_fv n s p B := by
  unfold sd_fv
  rw [List.filter_append, List.map_append]
theorem sd_fv_1t {n : Nat} {s : Nat → Int32} {p : Nat → Bool} {m : Nat} (A : List Nat) (h : p m = true) : sd_fv n s p (A ++ [m]) = sd_fv n s p A ++ [sd_sc s (sd_ar n m)] := by
  rw [sd_fv_app]
  unfold sd_fv
  rw [List.filter_cons_of_pos h]
  rfl
theorem sd_fv_1f {n : Nat} {s : Nat → Int32} {p : Nat → Bool} {m : Nat} (A : List Nat) (h : p m = false) : sd_fv n s p (A ++ [m]) = sd_fv n s p A := by
  rw [sd_fv_app]
  unfold sd_fv
  rw [List.filter_cons_of_neg (by rw [h]; decide)]
  exact List.append_nil _
theorem sd_bs_add {V : List Int} {x w : Int32} (h : sd_bs V x) (hw : -5000 ≤ w.toInt) : (w ≤ x → sd_bs (V ++ [w.toInt]) x) ∧ (¬ w ≤ x → sd_bs (V ++ [w.toInt]) w) := by
  have hN : (-1000000 : Int32).toInt = -1000000 := by decide
  constructor
  · intro l
    rw [Int32.le_iff_toInt_le] at l
    by_cases z : V = []
    · rw [h.1 z, hN] at l
      omega
    · obtain ⟨a, b⟩ := h.2 z
      refine ⟨fun e => absurd e (by simp), fun _ => ⟨List.mem_append_left _ a, fun y hy => ?_⟩⟩
      rcases List.mem_append.mp hy with q | q
      · exact b y q
      · rw [List.mem_singleton.mp q]; exact l
  · intro l
    rw [Int32.le_iff_toInt_le] at l
    refine ⟨fun e => absurd e (by simp), fun _ => ⟨List.mem_append_right _ (List.mem_singleton.mpr rfl), fun y hy => ?_⟩⟩
    rcases List.mem_append.mp hy with q | q
    · have := (h.2 (List.ne_nil_of_mem q)).2 y q
      omega
    · rw [List.mem_singleton.mp q]; omega
theorem sd_bs_ge {V : List Int} {x : Int32} (h : sd_bs V x) (hV : ∀ y, y ∈ V → -5000 ≤ y) : (-1000000 : Int32) ≤ x := by
  by_cases z : V = []
  · rw [h.1 z]; decide
  · rw [Int32.le_iff_toInt_le, show (-1000000 : Int32).toInt = -1000000 by decide]
    have := hV _ (h.2 z).1
    omega
theorem sd_fv_ge {n : Nat} {s : Nat → Int32} {p : Nat → Bool} {L : List Nat} (hs : sd_bd s) (hn : n ≤ 5) : ∀ y, y ∈ sd_fv n s p L → -5000 ≤ y ∧ y ≤ 5000 := by
  intro y hy
  obtain ⟨m, _, _, e⟩ := sd_fv_mem.mp hy
  rw [← e]
  exact sd_sc_in hs hn
theorem sd_N_ne {w : Int32} (h : -5000 ≤ w.toInt) : ¬ w = -1000000 := by
  intro e
  rw [e, show (-1000000 : Int32).toInt = -1000000 by decide] at h
  omega
section
variable {ys yb hd now : Nat → Int32} {n : Nat} {yc : Int32}
theorem sd_w4 {post : Int32 → Prop} {k m : Nat} (hn : n ≤ 5) (hk : k < 300) (hm : ∀ d, 1 ≤ d → d ≤ n → hd (6 * k + d) = nI (sd_dg m d)) : ∀ (j d : Nat) (z : Int), d + j = n + 1 → 1 ≤ d →
    ((sd_af m d j).all (sd_nb yb) = true → post (Int32.ofInt (z + sd_sc ys (sd_af m d j)))) → ((sd_af m d j).all (sd_nb yb) = false → post (-1000000)) →
    wY_worth_4 post (nI k) (nI n) yc ys yb hd now (j + 1) (Int32.ofInt z) (nI d) := by
  intro j
  induction j with
  | zero =>
    intro d z hd' h1 K1 K0
    have h := K1 rfl
    rw [show sd_sc ys (sd_af m d 0) = 0 from rfl, Int.add_zero] at h
    exact br_t (nI_lt (by omega) (by omega)) h
  | succ j ih =>
    intro d z hd' h1 K1 K0
    have ea : sd_af m d (j + 1) = (6 * sd_dg m d + d) :: sd_af m (d + 1) j := rfl
    have hg := sd_dg_lt m d
    rw [ea] at K1 K0
    refine br_f (nI_nlt (by omega) (by omega)) ?_
    rw [sd_arc k d, nI_clamp (show 6 * k + d < 2 ^ 31 by omega), hm d h1 (by omega)]
    refine ⟨vp_in_nI (by omega) (by decide), nm_r (sd_arc (sd_dg m d) d) ?_⟩
    rw [nI_clamp (show 6 * sd_dg m d + d < 2 ^ 31 by omega)]
    have i36 : vp_in (nI (6 * sd_dg m d + d)) 36 := vp_in_nI (by omega) (by decide)
    refine ⟨i36, ?_⟩
    by_cases hb : yb (6 * sd_dg m d + d) = 0
    · have hb' : sd_nb yb (6 * sd_dg m d + d) = true := decide_eq_true hb
      rw [List.all_cons, hb', Bool.true_and] at K1 K0
      have es : Int32.ofInt z + ys (6 * sd_dg m d + d) = Int32.ofInt (z + (ys (6 * sd_dg m d + d)).toInt) := by rw [Int32.ofInt_add, Int32.ofInt_toInt]
      refine br_t hb ⟨i36, nm_r es (nm_r (nI_1 d) (ih (d + 1) _ (by omega) (by omega) (fun h => ?_) K0))⟩
      have h2 := K1 h
      rw [show sd_sc ys ((6 * sd_dg m d + d) :: sd_af m (d + 1) j) = (ys (6 * sd_dg m d + d)).toInt + sd_sc ys (sd_af m (d + 1) j) from rfl, ← Int.add_assoc] at h2
      exact h2
    · have hb' : sd_nb yb (6 * sd_dg m d + d) = false := decide_eq_false hb
      rw [List.all_cons, hb', Bool.false_and] at K0
      exact br_f hb (K0 rfl)
theorem sd_worth {post : Int32 → Prop} {k m : Nat} (hs : sd_bd ys) (hn : n ≤ 5) (hk : k < 300) (hm : ∀ d, 1 ≤ d → d ≤ n → hd (6 * k + d) = nI (sd_dg m d))
    (K1 : (sd_ar n m).all (sd_nb yb) = true → ∀ w : Int32, w.toInt = sd_sc ys (sd_ar n m) → post w) (K0 : (sd_ar n m).all (sd_nb yb) = false → post (-1000000)) :
    wpY_worth post (nI n, yc, ys, yb, hd, now) (nI k) := by
  unfold wpY_worth
  dsimp only
  have hb := sd_sc_in (m := m) hs hn
  refine ⟨n + 1, sd_w4 hn hk hm n 1 0 (by omega) (by omega) (fun h => K1 h _ ?_) K0⟩
  rw [Int.zero_add, Int32.toInt_ofInt_of_le]
  · rfl
  · show _ ≤ sd_sc ys (sd_ar n m); omega
  · show sd_sc ys (sd_ar n m) < _; omega
theorem sd_gb {post : Int32 → Prop} {J : Int32 → Int32 → Prop} {h dd w k m : Nat} {x r : Int32} (hn : n ≤ 5) (hk : k < 300) (hdd : dd ≤ n) (hw : w ≤ 1) (hh : h ≤ 5) (hm : ∀ d, 1 ≤ d → d ≤ n → hd (6 * k + d) = nI (sd_dg m d))
    (K1 : sd_q h dd w m = true → wY_greatest_53 post J (nI h) (nI dd) (nI w) x (nI k) r (nI n) yc ys yb hd now) (K0 : sd_q h dd w m = false → J x (nI (k + 1))) :
    ((nI dd = 0 → wY_greatest_53 post J (nI h) (nI dd) (nI w) x (nI k) r (nI n) yc ys yb hd now) ∧ (¬ nI dd = 0 → (vp_in ((6 * nI k) + nI dd) 1800 ∧ (((hd ((6 * nI k) + nI dd).toNatClampNeg) = nI h → wY_greatest_49 post J (nI h) (nI dd) (nI w) x (nI k) r 1 (nI n) yc ys yb hd now) ∧ (¬ (hd ((6 * nI k) + nI dd).toNatClampNeg) = nI h → wY_greatest_49 post J (nI h) (nI dd) (nI w) x (nI k) r 0 (nI n) yc ys yb hd now))))) := by
  have hg := sd_dg_lt m dd
  refine pk_eq dd 0 (fun e => K1 (by simp [sd_q, e])) (fun e => ?_)
  rw [sd_arc, nI_clamp (show 6 * k + dd < 2 ^ 31 by omega), hm dd (by omega) hdd]
  refine ⟨vp_in_nI (by omega) (by decide), pk_eq (sd_dg m dd) h (fun e2 => ?_) (fun e2 => ?_)⟩
  · unfold wY_greatest_49
    exact pk_eq 1 w (fun e3 => K1 (by simp [sd_q, e2, ← e3])) (fun e3 => nm_r (nI_1 k) (K0 (by simp [sd_q, e, e2, Ne.symm e3])))
  · unfold wY_greatest_49
    refine pk_eq 0 w (fun e3 => K1 (by simp [sd_q, e2, ← e3])) (fun e3 => nm_r (nI_1 k) (K0 ?_))
    have e4 : w = 1 := by omega
    simp [sd_q, e, e2, e4]
theorem sd_at {L done rest : List Nat} {m : Nat} (hd0 : sd_hd n L hd) (e : done ++ m :: rest = L) : ∀ d, 1 ≤ d → d ≤ n → hd (6 * done.length + d) = nI (sd_dg m d) := by
  refine hd0 done.length m ?_
  rw [← e, List.getElem?_append_right (Nat.le_refl _), Nat.sub_self]
  rfl
theorem sd_nx {L done rest : List Nat} {m : Nat} (e : done ++ m :: rest = L) : (done ++ [m]) ++ rest = L ∧ done.length < L.length ∧ (done ++ [m]).length = done.length + 1 := by
  refine ⟨by rw [List.append_assoc]; exact e, ?_, by rw [List.length_append, List.length_singleton]⟩
  rw [← e, List.length_append, List.length_cons]
  omega
theorem sd_l7 {post : Int32 → Prop} {L : List Nat} {h dd w : Nat} (hs : sd_bd ys) (hn : n ≤ 5) (hL : L.length < 300) (H : sd_hd n L hd) (hdd : dd ≤ n) (hw : w ≤ 1) (hh : h ≤ 5)
    (K : ∀ r, sd_bs (sd_fv n ys (sd_p n yb (sd_q h dd w)) L) r → post r) : ∀ (rest done : List Nat) (x : Int32), done ++ rest = L → sd_bs (sd_fv n ys (sd_p n yb (sd_q h dd w)) done) x →
    wY_greatest_7 post (nI h) (nI dd) (nI w) (nI n) (nI L.length) ys yb hd now (rest.length + 1) x (nI done.length) := by
  intro rest
  induction rest with
  | nil =>
    intro done x e B
    rw [List.append_nil] at e
    subst e
    exact br_t (nI_le (Nat.le_refl _) (by omega)) (K x B)
  | cons m rest ih =>
    intro done x e B
    obtain ⟨e1, e2, e3⟩ := sd_nx e
    have hm := sd_at H e
    have Next : ∀ x', sd_bs (sd_fv n ys (sd_p n yb (sd_q h dd w)) (done ++ [m])) x' → wY_greatest_7 post (nI h) (nI dd) (nI w) (nI n) (nI L.length) ys yb hd now (rest.length + 1) x' (nI (done.length + 1)) := by
      intro x' B'
      have := ih (done ++ [m]) x' e1 B'
      rw [e3] at this
      exact this
    refine br_f (nI_ge e2 (by omega)) (sd_worth hs hn (by omega) hm (fun ha w' hw' => ?_) (fun ha => ?_))
    · refine sd_gb hn (by omega) hdd hw hh hm (fun hq => ?_) (fun hq => ?_)
      · have hp : sd_p n yb (sd_q h dd w) m = true := by unfold sd_p; rw [ha, hq]; rfl
        rw [sd_fv_1t done hp, ← hw'] at Next
        have hb := sd_sc_in (m := m) hs hn
        have A := sd_bs_add B (w := w') (by omega)
        unfold wY_greatest_53
        exact br_c (fun a => nm_r (nI_1 _) (Next _ (A.1 a))) (fun a => nm_r (nI_1 _) (Next _ (A.2 a)))
      · have hp : sd_p n yb (sd_q h dd w) m = false := by unfold sd_p; rw [ha, hq]; rfl
        rw [sd_fv_1f done hp] at Next
        exact Next x B
    · have hp : sd_p n yb (sd_q h dd w) m = false := by unfold sd_p; rw [ha]; rfl
      rw [sd_fv_1f done hp] at Next
      refine sd_gb hn (by omega) hdd hw hh hm (fun hq => ?_) (fun hq => Next x B)
      unfold wY_greatest_53
      exact br_t (sd_bs_ge B (fun y hy => (sd_fv_ge hs hn y hy).1)) (nm_r (nI_1 _) (Next x B))
theorem sd_greatest {post : Int32 → Prop} {L : List Nat} {h dd w : Nat} (hs : sd_bd ys) (hn : n ≤ 5) (hL : L.length < 300) (H : sd_hd n L hd) (hdd : dd ≤ n) (hw : w ≤ 1) (hh : h ≤ 5)
    (K : ∀ r, sd_bs (sd_fv n ys (sd_p n yb (sd_q h dd w)) L) r → post r) : wpY_greatest post (nI n, nI L.length, ys, yb, hd, now) (nI h) (nI dd) (nI w) := by
  unfold wpY_greatest
  dsimp only
  exact ⟨L.length + 1, sd_l7 hs hn hL H hdd hw hh K L [] (-1000000) rfl ⟨fun _ => rfl, fun z => absurd rfl z⟩⟩
def sd_pa (n : Nat) (yb : Nat → Int32) (m : Nat) : Bool := (sd_ar n m).all (sd_nb yb)
theorem sd_best {post : Int32 → Prop} {L : List Nat} (hs : sd_bd ys) (hn : n ≤ 5) (hL : L.length < 300) (H : sd_hd n L hd)
    (K : ∀ r, sd_bs (sd_fv n ys (sd_pa n yb) L) r → post r) : wpY_best post (nI n, nI L.length, ys, yb, hd, now) := by
  unfold wpY_best
  dsimp only
  refine sd_greatest (h := 0) (dd := 0) (w := 1) hs hn hL H (by omega) (by omega) (by omega) (fun r hr => K r ?_)
  rw [sd_fv_congr (q := sd_pa n yb)] at hr
  · exact hr
  · intro m _
    unfold sd_p sd_pa sd_q
    simp
theorem sd_l9 {post : Int32 → Prop} {L : List Nat} {r : Int32} (hs : sd_bd ys) (hn : n ≤ 5) (hL : L.length < 300) (H : sd_hd n L hd)
    (K : post (nI ((sd_fv n ys (sd_pa n yb) L).count r.toInt))) : ∀ (rest done : List Nat), done ++ rest = L →
    wY_bestTrees_9 post r (nI n) (nI L.length) ys yb hd now (rest.length + 1) (nI ((sd_fv n ys (sd_pa n yb) done).count r.toInt)) (nI done.length) := by
  intro rest
  induction rest with
  | nil =>
    intro done e
    rw [List.append_nil] at e
    subst e
    exact br_t (nI_le (Nat.le_refl _) (by omega)) K
  | cons m rest ih =>
    intro done e
    obtain ⟨e1, e2, e3⟩ := sd_nx e
    have hm := sd_at H e
    have Next := ih (done ++ [m]) e1
    rw [e3] at Next
    refine br_f (nI_ge e2 (by omega)) (sd_worth hs hn (by omega) hm (fun ha w' hw' => ?_) (fun ha => ?_))
    · have hb := sd_sc_in (m := m) hs hn
      rw [sd_fv_1t (p := sd_pa n yb) done ha, ← hw', List.count_append, List.count_singleton] at Next
      refine br_f (sd_N_ne (by omega)) ?_
      by_cases q : w' = r
      · rw [if_pos (by rw [q]; exact beq_self_eq_true _)] at Next
        exact br_t q (nm_r (nI_1 _) (nm_r (nI_1 _) Next))
      · rw [if_neg (fun z => q (Int32.toInt_inj.mp (beq_iff_eq.mp z)))] at Next
        exact br_f q (nm_r (nI_1 _) Next)
    · rw [sd_fv_1f (p := sd_pa n yb) done ha] at Next
      exact br_t rfl (nm_r (nI_1 _) Next)
theorem sd_bestTrees {post : Int32 → Prop} {L : List Nat} (hs : sd_bd ys) (hn : n ≤ 5) (hL : L.length < 300) (H : sd_hd n L hd)
    (K : ∀ r, sd_bs (sd_fv n ys (sd_pa n yb) L) r → post (nI ((sd_fv n ys (sd_pa n yb) L).count r.toInt))) : wpY_bestTrees post (nI n, nI L.length, ys, yb, hd, now) := by
  unfold wpY_bestTrees
  dsimp only
  exact sd_best hs hn hL H (fun r hr => ⟨L.length + 1, sd_l9 hs hn hL H (K r hr) L [] rfl⟩)
theorem sd_lt4 {post : Int32 → Prop} {L : List Nat} (hs : sd_bd ys) (hn : n ≤ 5) (hL : L.length < 300) (H : sd_hd n L hd)
    (K : post (nI (sd_fv n ys (sd_pa n yb) L).length)) : ∀ (rest done : List Nat), done ++ rest = L →
    wY_trees_4 post (nI n) (nI L.length) ys yb hd now (rest.length + 1) (nI (sd_fv n ys (sd_pa n yb) done).length) (nI done.length) := by
  intro rest
  induction rest with
  | nil =>
    intro done e
    rw [List.append_nil] at e
    subst e
    exact br_t (nI_le (Nat.le_refl _) (by omega)) K
  | cons m rest ih =>
    intro done e
    obtain ⟨e1, e2, e3⟩ := sd_nx e
    have hm := sd_at H e
    have Next := ih (done ++ [m]) e1
    rw [e3] at Next
    refine br_f (nI_ge e2 (by omega)) (sd_worth hs hn (by omega) hm (fun ha w' hw' => ?_) (fun ha => ?_))
    · have hb := sd_sc_in (m := m) hs hn
      rw [sd_fv_1t (p := sd_pa n yb) done ha, List.length_append, List.length_singleton] at Next
      exact br_f (sd_N_ne (by omega)) (nm_r (nI_1 _) (nm_r (nI_1 _) Next))
    · rw [sd_fv_1f (p := sd_pa n yb) done ha] at Next
      exact br_t rfl (nm_r (nI_1 _) Next)
theorem sd_trees {post : Int32 → Prop} {L : List Nat} (hs : sd_bd ys) (hn : n ≤ 5) (hL : L.length < 300) (H : sd_hd n L hd)
    (K : post (nI (sd_fv n ys (sd_pa n yb) L).length)) : wpY_trees post (nI n, nI L.length, ys, yb, hd, now) := by
  unfold wpY_trees
  dsimp only
  exact ⟨L.length + 1, sd_lt4 hs hn hL H K L [] rfl⟩
def sd_pw2 (n : Nat) (yb : Nat → Int32) (h d m : Nat) : Bool := (sd_ar n m).all (sd_nb yb) && decide (sd_dg m d = h)
theorem sd_lt17 {post : Int32 → Prop} {L : List Nat} {h d : Nat} (hs : sd_bd ys) (hn : n ≤ 5) (hL : L.length < 300) (H : sd_hd n L hd) (h1 : 1 ≤ d) (hdn : d ≤ n) (hh : h ≤ 5)
    (K : post (nI (sd_fv n ys (sd_pw2 n yb h d) L).length)) : ∀ (rest done : List Nat), done ++ rest = L →
    wY_treesWith_17 post (nI h) (nI d) (nI n) (nI L.length) ys yb hd now (rest.length + 1) (nI (sd_fv n ys (sd_pw2 n yb h d) done).length) (nI done.length) := by
  intro rest
  induction rest with
  | nil =>
    intro done e
    rw [List.append_nil] at e
    subst e
    exact br_t (nI_le (Nat.le_refl _) (by omega)) K
  | cons m rest ih =>
    intro done e
    obtain ⟨e1, e2, e3⟩ := sd_nx e
    have hm := sd_at H e
    have hg := sd_dg_lt m d
    have Next := ih (done ++ [m]) e1
    rw [e3] at Next
    refine br_f (nI_ge e2 (by omega)) ?_
    rw [sd_arc, nI_clamp (show 6 * done.length + d < 2 ^ 31 by omega), hm d h1 hdn]
    refine ⟨vp_in_nI (by omega) (by decide), pk_eq (sd_dg m d) h (fun q => ?_) (fun q => ?_)⟩
    · refine sd_worth hs hn (by omega) hm (fun ha w' hw' => ?_) (fun ha => ?_)
      · have hb := sd_sc_in (m := m) hs hn
        rw [sd_fv_1t (p := sd_pw2 n yb h d) done (by unfold sd_pw2; rw [ha, decide_eq_true q]; rfl), List.length_append, List.length_singleton] at Next
        exact br_f (sd_N_ne (by omega)) (nm_r (nI_1 _) (nm_r (nI_1 _) Next))
      · rw [sd_fv_1f (p := sd_pw2 n yb h d) done (by unfold sd_pw2; rw [ha]; rfl)] at Next
        exact br_t rfl (nm_r (nI_1 _) Next)
    · rw [sd_fv_1f (p := sd_pw2 n yb h d) done (by unfold sd_pw2; rw [decide_eq_false q, Bool.and_false])] at Next
      exact nm_r (nI_1 _) Next
theorem sd_lh23 {post : Int32 → Prop} {L : List Nat} {d : Nat} {r : Int32} (hs : sd_bd ys) (hn : n ≤ 5) (hL : L.length < 300) (H : sd_hd n L hd) (h1 : 1 ≤ d) (hdn : d ≤ n)
    (K0 : (∀ m, m ∈ L → sd_pa n yb m = true → sd_sc ys (sd_ar n m) ≠ r.toInt) → post (-1000000))
    (K1 : ∀ done m rest, done ++ m :: rest = L → sd_pa n yb m = true → sd_sc ys (sd_ar n m) = r.toInt → (∀ m', m' ∈ done → sd_pa n yb m' = true → sd_sc ys (sd_ar n m') ≠ r.toInt) → post (nI (sd_dg m d))) :
    ∀ (rest done : List Nat), done ++ rest = L → (∀ m', m' ∈ done → sd_pa n yb m' = true → sd_sc ys (sd_ar n m') ≠ r.toInt) →
    wY_head_23 post (nI d) r (nI n) (nI L.length) ys yb hd now (rest.length + 1) (nI done.length) := by
  intro rest
  induction rest with
  | nil =>
    intro done e B
    rw [List.append_nil] at e
    subst e
    exact br_t (nI_le (Nat.le_refl _) (by omega)) (K0 B)
  | cons m rest ih =>
    intro done e B
    obtain ⟨e1, e2, e3⟩ := sd_nx e
    have hm := sd_at H e
    have Next := ih (done ++ [m]) e1
    rw [e3] at Next
    have Next' : (sd_pa n yb m = true → sd_sc ys (sd_ar n m) ≠ r.toInt) → wY_head_23 post (nI d) r (nI n) (nI L.length) ys yb hd now (rest.length + 1) (nI (done.length + 1)) := by
      intro z
      refine Next (fun m' hm' hp => ?_)
      rcases List.mem_append.mp hm' with q | q
      · exact B m' q hp
      · rw [List.mem_singleton.mp q] at hp ⊢
        exact z hp
    refine br_f (nI_ge e2 (by omega)) (sd_worth hs hn (by omega) hm (fun ha w' hw' => ?_) (fun ha => ?_))
    · have hb := sd_sc_in (m := m) hs hn
      refine br_f (sd_N_ne (by omega)) ?_
      by_cases q : w' = r
      · refine br_t q ?_
        rw [sd_arc, nI_clamp (show 6 * done.length + d < 2 ^ 31 by omega), hm d h1 hdn]
        exact ⟨vp_in_nI (by omega) (by decide), K1 done m rest e ha (by rw [← q, hw']) B⟩
      · exact br_f q (nm_r (nI_1 _) (Next' (fun _ z => q (Int32.toInt_inj.mp (by omega)))))
    · refine br_t rfl (nm_r (nI_1 _) (Next' (fun z => ?_)))
      rw [show sd_pa n yb m = false from ha] at z
      exact absurd z (by decide)
end
end
section
/-! the component's answers: fill in full, best score, the first best tree -/
section
variable {fo fl fh : Int32} {s bn gh fi : Nat → Int32} {n t : Nat}
theorem sd_fill {post : SX → Prop} {gr wb wa : Nat → Int32} (hs : sd_bd s) (h1 : 1 ≤ n) (hn : n ≤ 5) (ht1 : t ≤ 1) (ht : fo = 0 ↔ t = 0)
    (K : ∀ gr' wb' wa', sd_rep (gr' 144) (wb' 144) (wa' 144) (sd_tv n t (sd_al bn fl gh) s) → post (nI n, fo, fl, fh, s, bn, gh, gr', wb', wa', fi)) : wpX_fill post (nI n, fo, fl, fh, s, bn, gh, gr, wb, wa, fi) :=
  sd_fill0 hs hn ht (sd_cA h1 hn ht1) (fun g w a R => K g w a (sd_rep_perm (sd_goalV h1 hn ht1 _ _) (R 144 (by omega))))
theorem sd_tv_len {al : Nat → Bool} (h1 : 1 ≤ n) (hn : n ≤ 5) (ht1 : t ≤ 1) : (sd_tv n t al s).length < 300 := by
  have := sd_fv_len n s (fun m => (sd_ar n m).all al) (sd_L n t)
  have := sd_L_len h1 hn ht1
  unfold sd_tv
  omega
theorem sd_bestScore {post : Int32 → Prop} {gr wb wa : Nat → Int32} {V : List Int} {fw : Int32} (h : sd_rep (gr 144) (wb 144) (wa 144) V) (l : V.length < 300) (K : ∀ r, sd_bs V r → post r) : wpX_bestScore post (fw, fo, fl, fh, s, bn, gh, gr, wb, wa, fi) := by
  unfold wpX_bestScore
  dsimp only
  have z := sd_rep_z h (show V.length < 2 ^ 31 by omega)
  by_cases e : wa 144 = 0
  · exact br_t e (K _ ⟨fun _ => rfl, fun q => absurd (z.mp e) q⟩)
  · exact br_f e (K _ (sd_bs_rep h (fun q => e (z.mpr q))))
end
theorem sd_al_iff {bn gh : Nat → Int32} {fl : Int32} {h d : Nat} (hd : d ≤ 5) : sd_al bn fl gh (6 * h + d) = true ↔ bn (6 * h + d) = 0 ∧ ¬ nI (6 * h + d) = fl ∧ (gh d < 0 ∨ gh d = nI h) := by
  unfold sd_al
  rw [show (6 * h + d) % 6 = d by omega, show (6 * h + d) / 6 = h by omega]
  simp only [Bool.and_eq_true, Bool.or_eq_true, decide_eq_true_eq, Bool.not_eq_true', decide_eq_false_iff_not]
theorem sd_ne_m1 {a : Nat} (h : a < 2 ^ 31) : ¬ nI a = -1 := by
  intro e
  have q := nI_toInt h
  rw [e, show (-1 : Int32).toInt = -1 by decide] at q
  omega
theorem sd_m1_lt : (-1 : Int32) < 0 := by decide
theorem sd_pa_iff {n m : Nat} {bn : Nat → Int32} : sd_pa n bn m = true ↔ ∀ d, 1 ≤ d → d ≤ n → bn (6 * sd_dg m d + d) = 0 := by
  unfold sd_pa
  rw [sd_ar_all]
  unfold sd_nb
  simp only [decide_eq_true_eq]
theorem sd_all_g {n m : Nat} {bn gh : Nat → Int32} (hn : n ≤ 5) : (sd_ar n m).all (sd_al bn (-1) gh) = true ↔ sd_pa n bn m = true ∧ ∀ d, 1 ≤ d → d ≤ n → (gh d < 0 ∨ gh d = nI (sd_dg m d)) := by
  rw [sd_ar_all, sd_pa_iff]
  constructor
  · intro h
    exact ⟨fun d a b => ((sd_al_iff (by omega)).mp (h d a b)).1, fun d a b => ((sd_al_iff (by omega)).mp (h d a b)).2.2⟩
  · rintro ⟨h, g⟩ d a b
    have := sd_dg_lt m d
    exact (sd_al_iff (by omega)).mpr ⟨h d a b, sd_ne_m1 (by omega), g d a b⟩
theorem sd_beq {x y : Bool} (h : x = true ↔ y = true) : x = y := Bool.eq_iff_iff.mpr h
/-- no limits -/
theorem sd_v_free {n t : Nat} {s bn gh : Nat → Int32} (hn : n ≤ 5) (hg : ∀ j, j < 6 → gh j = -1) : sd_tv n t (sd_al bn (-1) gh) s = sd_fv n s (sd_pa n bn) (sd_L n t) := by
  unfold sd_tv
  refine sd_fv_congr (fun m _ => sd_beq ?_)
  rw [sd_all_g hn]
  exact ⟨fun h => h.1, fun h => ⟨h, fun d a b => Or.inl (by rw [hg d (by omega)]; exact sd_m1_lt)⟩⟩
/-- one head given -/
theorem sd_v_with {n t h d : Nat} {s bn gh : Nat → Int32} (hn : n ≤ 5) (hg : ∀ j, j < 6 → gh j = -1) (h1 : 1 ≤ d) (hd : d ≤ n) (hh : h ≤ 5) : sd_tv n t (sd_al bn (-1) (upd gh d (nI h))) s = sd_fv n s (sd_pw2 n bn h d) (sd_L n t) := by
  unfold sd_tv
  refine sd_fv_congr (fun m _ => sd_beq ?_)
  have hx := sd_dg_lt m d
  rw [sd_all_g hn]
  unfold sd_pw2
  rw [Bool.and_eq_true, decide_eq_true_eq]
  constructor
  · rintro ⟨a, b⟩
    refine ⟨a, ?_⟩
    have c := b d h1 hd
    rw [pk_us] at c
    rcases c with c | c
    · exact absurd c (nI_pos (by omega))
    · exact ((nI_eq (by omega) (by omega)).mp c).symm
  · rintro ⟨a, b⟩
    refine ⟨a, fun e e1 e2 => ?_⟩
    by_cases q : e = d
    · rw [q, pk_us, b]; exact Or.inr rfl
    · rw [pk_un q, hg e (by omega)]; exact Or.inl sd_m1_lt
/-- one arc left out -/
theorem sd_v_out {n t h d : Nat} {s bn gh : Nat → Int32} (hn : n ≤ 5) (hg : ∀ j, j < 6 → gh j = -1) (h1 : 1 ≤ d) (hd : d ≤ n) (hh : h ≤ 5) : sd_tv n t (sd_al bn (nI (6 * h + d)) gh) s = sd_fv n s (sd_p n bn (sd_q h d 0)) (sd_L n t) := by
  unfold sd_tv
  refine sd_fv_congr (fun m _ => sd_beq ?_)
  have hx := sd_dg_lt m d
  rw [sd_ar_all]
  have hq : sd_p n bn (sd_q h d 0) m = true ↔ sd_pa n bn m = true ∧ ¬ sd_dg m d = h := by
    unfold sd_p sd_q sd_pa
    rw [Bool.and_eq_true]
    simp [show ¬ d = 0 by omega]
  rw [hq, sd_pa_iff]
  constructor
  · intro a
    refine ⟨fun e e1 e2 => ((sd_al_iff (by omega)).mp (a e e1 e2)).1, fun e => ?_⟩
    have c := ((sd_al_iff (by omega)).mp (a d h1 hd)).2.1
    rw [e] at c
    exact c rfl
  · rintro ⟨a, b⟩ e e1 e2
    have he := sd_dg_lt m e
    refine (sd_al_iff (by omega)).mpr ⟨a e e1 e2, fun z => ?_, Or.inl (by rw [hg e (by omega)]; exact sd_m1_lt)⟩
    have z2 := (nI_eq (by omega) (by omega)).mp z
    have z3 : e = d := by omega
    subst z3
    exact b (by omega)
theorem sd_q_with {n t h d : Nat} {s bn : Nat → Int32} (h1 : 1 ≤ d) : sd_fv n s (sd_p n bn (sd_q h d 1)) (sd_L n t) = sd_fv n s (sd_pw2 n bn h d) (sd_L n t) := by
  refine sd_fv_congr (fun m _ => ?_)
  unfold sd_p sd_q sd_pw2
  simp [show ¬ d = 0 by omega]
theorem sd_lex {a b d : Nat} (ha : a < 7776) (hb : b < 7776) (h1 : 1 ≤ d) (h5 : d ≤ 5) (h : ∀ j, 1 ≤ j → j < d → sd_dg a j = sd_dg b j) (hl : sd_dg a d < sd_dg b d) : a < b := by
  have e : ∀ m : Nat, sd_dg m 1 = m / 1296 % 6 ∧ sd_dg m 2 = m / 216 % 6 ∧ sd_dg m 3 = m / 36 % 6 ∧ sd_dg m 4 = m / 6 % 6 ∧ sd_dg m 5 = m % 6 := by
    intro m
    refine ⟨rfl, rfl, rfl, rfl, ?_⟩
    show m / 1 % 6 = m % 6
    rw [Nat.div_one]
  obtain ⟨a1, a2, a3, a4, a5⟩ := e a
  obtain ⟨b1, b2, b3, b4, b5⟩ := e b
  obtain rfl | rfl | rfl | rfl | rfl : d = 1 ∨ d = 2 ∨ d = 3 ∨ d = 4 ∨ d = 5 := by omega
  · omega
  · have := h 1 (by omega) (by omega)
    omega
  · have := h 1 (by omega) (by omega)
    have := h 2 (by omega) (by omega)
    omega
  · have := h 1 (by omega) (by omega)
    have := h 2 (by omega) (by omega)
    have := h 3 (by omega) (by omega)
    omega
  · have := h 1 (by omega) (by omega)
    have := h 2 (by omega) (by omega)
    have := h 3 (by omega) (by omega)
    have := h 4 (by omega) (by omega)
    omega
def sd_first (n t : Nat) (bn s : Nat → Int32) (m : Nat) : Prop :=
  m ∈ sd_L n t ∧ sd_pa n bn m = true ∧ (∀ m', m' ∈ sd_L n t → sd_pa n bn m' = true → sd_sc s (sd_ar n m') ≤ sd_sc s (sd_ar n m)) ∧
  (∀ m', m' ∈ sd_L n t → sd_pa n bn m' = true → sd_sc s (sd_ar n m') = sd_sc s (sd_ar n m) → m ≤ m')
theorem sd_first_u {n t : Nat} {bn s : Nat → Int32} {a b : Nat} (ha : sd_first n t bn s a) (hb : sd_first n t bn s b) : a = b := by
  obtain ⟨a1, a2, a3, a4⟩ := ha
  obtain ⟨b1, b2, b3, b4⟩ := hb
  have e1 := a3 b b1 b2
  have e2 := b3 a a1 a2
  have e3 := a4 b b1 b2 (by omega)
  have e4 := b4 a a1 a2 (by omega)
  omega
/-- the kept heads are those of the first best tree, -1 where there is none -/
def sd_FH (n t : Nat) (bn s fi : Nat → Int32) : Prop :=
  ((∀ m, m ∈ sd_L n t → sd_pa n bn m = false) → ∀ d, 1 ≤ d → d ≤ n → fi d = -1) ∧ (∀ m, sd_first n t bn s m → ∀ d, 1 ≤ d → d ≤ n → fi d = nI (sd_dg m d))
theorem sd_least (P : Nat → Prop) : ∀ k, P k → ∃ j, P j ∧ ∀ i, P i → j ≤ i := by
  intro k
  induction k using Nat.strongRecOn with
  | ind k ih =>
    intro hk
    by_cases h : ∃ i, P i ∧ i < k
    · obtain ⟨i, hi, hl⟩ := h
      exact ih i hl hi
    · exact ⟨k, hk, fun i hi => by
        have : ¬ i < k := fun z => h ⟨i, hi, z⟩
        omega⟩
theorem sd_first_ex {n t : Nat} {bn s : Nat → Int32} {r : Int32} (h : sd_bs (sd_fv n s (sd_pa n bn) (sd_L n t)) r) (z : sd_fv n s (sd_pa n bn) (sd_L n t) ≠ []) : ∃ m, sd_first n t bn s m ∧ r.toInt = sd_sc s (sd_ar n m) := by
  obtain ⟨h1, h2⟩ := h.2 z
  obtain ⟨m0, k1, k2, k3⟩ := sd_fv_mem.mp h1
  obtain ⟨m, ⟨a, b, c⟩, d⟩ := sd_least (fun m => m ∈ sd_L n t ∧ sd_pa n bn m = true ∧ sd_sc s (sd_ar n m) = r.toInt) m0 ⟨k1, k2, k3⟩
  refine ⟨m, ⟨a, b, fun m' e f => ?_, fun m' e f g => d m' ⟨e, f, by omega⟩⟩, c.symm⟩
  have := h2 _ (sd_fv_mem.mpr ⟨m', e, f, rfl⟩)
  omega
theorem sd_fv_none {n t : Nat} {bn s : Nat → Int32} : sd_fv n s (sd_pa n bn) (sd_L n t) = [] ↔ ∀ m, m ∈ sd_L n t → sd_pa n bn m = false := by
  constructor
  · intro h m hm
    cases q : sd_pa n bn m with
    | false => rfl
    | true =>
      have := sd_fv_mem (n := n) (s := s) (p := sd_pa n bn) (L := sd_L n t).mpr ⟨m, hm, q, rfl⟩
      rw [h] at this
      exact absurd this (by simp)
  · intro h
    cases q : sd_fv n s (sd_pa n bn) (sd_L n t) with
    | nil => rfl
    | cons x l =>
      have hx : x ∈ sd_fv n s (sd_pa n bn) (sd_L n t) := by rw [q]; exact List.mem_cons_self
      obtain ⟨m, a, b, _⟩ := sd_fv_mem.mp hx
      rw [h m a] at b
      exact absurd b (by decide)
theorem sd_by : ∀ g, g ≤ 5 → vp_nar .byte (nI g) = nI g ∧ (nI g).toInt8.toInt32 = nI g := by
  intro g h
  rw [vp_nar_byte]
  obtain rfl | rfl | rfl | rfl | rfl | rfl : g = 0 ∨ g = 1 ∨ g = 2 ∨ g = 3 ∨ g = 4 ∨ g = 5 := by omega
  all_goals decide
section
variable {fo fh : Int32} {s bn fi : Nat → Int32} {n t : Nat}
theorem sd_fh118 {post : SX → Prop} {J : Int32 → Int32 → Int32 → Int32 → Int32 → (Nat → Int32) → (Nat → Int32) → (Nat → Int32) → (Nat → Int32) → (Nat → Int32) → (Nat → Int32) → (Nat → Int32) → Prop} {x1 : Int32} {d g : Nat} {gh gr wb wa : Nat → Int32} (hd : d ≤ 5) (hg : g ≤ 5) (e : gh d = nI g)
    (K : J (nI (d + 1)) (nI n) fo (-1) fh s bn gh gr wb wa (upd fi d (nI g))) : wX_findHeads_118 post J x1 (nI d) (nI n) fo (-1) fh s bn gh gr wb wa fi := by
  unfold wX_findHeads_118
  rw [nI_clamp (show d < 2 ^ 31 by omega), e, (sd_by g hg).1]
  have i6 : vp_in (nI d) 6 := vp_in_nI (by omega) (by decide)
  exact ⟨i6, i6, nm_e (nm_r (nI_1 d) K)⟩
theorem sd_fh63s {post : SX → Prop} {J : Int32 → Int32 → Int32 → Int32 → Int32 → (Nat → Int32) → (Nat → Int32) → (Nat → Int32) → (Nat → Int32) → (Nat → Int32) → (Nat → Int32) → (Nat → Int32) → Prop} {x1 : Int32} {d g k h : Nat} {gh gr wb wa : Nat → Int32} (hn : n ≤ 5) (hd : d ≤ 5) (hg : g ≤ 5) (hh : h ≤ 10) (e : gh d = nI g)
    (K : J (nI (d + 1)) (nI n) fo (-1) fh s bn gh gr wb wa (upd fi d (nI g))) : wX_findHeads_63 post J x1 (nI d) (k + 1) 1 (nI h) (nI n) fo (-1) fh s bn gh gr wb wa fi :=
  pk_lt n h (fun _ => sd_fh118 hd hg e K) (fun _ => br_f (by decide) (sd_fh118 hd hg e K))
theorem sd_fh63 {post : SX → Prop} {J : Int32 → Int32 → Int32 → Int32 → Int32 → (Nat → Int32) → (Nat → Int32) → (Nat → Int32) → (Nat → Int32) → (Nat → Int32) → (Nat → Int32) → (Nat → Int32) → Prop} {r : Int32} {d M : Nat} {gh0 : Nat → Int32} (hs : sd_bd s) (h1 : 1 ≤ n) (hn : n ≤ 5) (ht1 : t ≤ 1) (ht : fo = 0 ↔ t = 0)
    (hd1 : 1 ≤ d) (hdn : d ≤ n) (F : sd_first n t bn s M) (hr : r.toInt = sd_sc s (sd_ar n M)) (G : ∀ j, 1 ≤ j → j < d → gh0 j = nI (sd_dg M j)) (G2 : ∀ j, d < j → j ≤ 5 → gh0 j = -1)
    (K : ∀ gh gr wb wa, (∀ j, j ≠ d → gh j = gh0 j) → gh d = nI (sd_dg M d) → J (nI (d + 1)) (nI n) fo (-1) fh s bn gh gr wb wa (upd fi d (nI (sd_dg M d)))) :
    ∀ (k h : Nat) (gh gr wb wa : Nat → Int32), h + k = n + 1 → h ≤ sd_dg M d → (∀ j, j ≠ d → gh j = gh0 j) →
    wX_findHeads_63 post J r (nI d) (k + 1) 0 (nI h) (nI n) fo (-1) fh s bn gh gr wb wa fi := by
  obtain ⟨f1, f2, f3, f4⟩ := F
  have hM := sd_L_dg h1 hn ht1 f1 hd1 hdn
  have hb := sd_sc_in (m := M) hs hn
  intro k
  induction k with
  | zero => intro h gh gr wb wa hk hl; exact absurd hl (by omega)
  | succ k ih =>
    intro h gh gr wb wa hk hl hg
    refine br_f (nI_nlt (by omega) (by omega)) (br_t rfl (pk_eq h d (fun e => ?_) (fun e => ?_)))
    · exact nm_r (nI_1 h) (ih (h + 1) gh gr wb wa (by omega) (by omega) hg)
    · rw [nI_clamp (show d < 2 ^ 31 by omega), (sd_by h (by omega)).2, (sd_by h (by omega)).1]
      refine ⟨vp_in_nI (by omega) (by decide), nm_e (sd_fill hs h1 hn ht1 ht (fun gr' wb' wa' R => ?_))⟩
      dsimp only
      refine sd_bestScore R (sd_tv_len h1 hn ht1) (fun r' B => ?_)
      have hg' : ∀ j, j ≠ d → upd gh d (nI h) j = gh0 j := fun j hj => by rw [pk_un hj]; exact hg j hj
      have mem : ∀ x, x ∈ sd_tv n t (sd_al bn (-1) (upd gh d (nI h))) s ↔ ∃ m, m ∈ sd_L n t ∧ (sd_pa n bn m = true ∧ ∀ e, 1 ≤ e → e ≤ n → (upd gh d (nI h) e < 0 ∨ upd gh d (nI h) e = nI (sd_dg m e))) ∧ sd_sc s (sd_ar n m) = x := by
        intro x
        unfold sd_tv
        rw [sd_fv_mem]
        simp only [sd_all_g hn]
      by_cases q : h = sd_dg M d
      · have hmem : sd_sc s (sd_ar n M) ∈ sd_tv n t (sd_al bn (-1) (upd gh d (nI h))) s := by
          refine (mem _).mpr ⟨M, f1, ⟨f2, fun e e1 e2 => ?_⟩, rfl⟩
          by_cases c : e = d
          · rw [c, pk_us, q]; exact Or.inr rfl
          · rw [hg' e c]
            by_cases c2 : e < d
            · exact Or.inr (G e e1 c2)
            · rw [G2 e (by omega) (by omega)]; exact Or.inl sd_m1_lt
        obtain ⟨b1, b2⟩ := B.2 (List.ne_nil_of_mem hmem)
        obtain ⟨m, c1, c2, c3⟩ := (mem _).mp b1
        have c4 := f3 m c1 c2.1
        have c5 := b2 _ hmem
        have er : r' = r := Int32.toInt_inj.mp (by omega)
        refine br_t er (nm_r (nI_1 h) (sd_fh63s (g := sd_dg M d) hn (by omega) (by omega) (by omega) (by rw [pk_us, q]) (K _ _ _ _ hg' (by rw [pk_us, q]))))
      · have er : ¬ r' = r := by
          intro e
          subst e
          by_cases z : sd_tv n t (sd_al bn (-1) (upd gh d (nI h))) s = []
          · exact sd_N_ne (by omega) (B.1 z)
          · obtain ⟨m, c1, ⟨c2, c3⟩, c4⟩ := (mem _).mp (B.2 z).1
            have l1 := f4 m c1 c2 (by omega)
            have hdig : ∀ e, 1 ≤ e → e ≤ n → ∀ v, v ≤ 5 → upd gh d (nI h) e = nI v → sd_dg m e = v := by
              intro e e1 e2 v hv ev
              have hx := sd_dg_lt m e
              rcases c3 e e1 e2 with c | c
              · rw [ev] at c
                exact absurd c (nI_pos (by omega))
              · rw [ev] at c
                exact ((nI_eq (by omega) (by omega)).mp c).symm
            have l2 : m < M := by
              refine sd_lex (d := d) (sd_L_in h1 hn ht1 c1) (sd_L_in h1 hn ht1 f1) hd1 (by omega) (fun j j1 j2 => ?_) ?_
              · exact hdig j j1 (by omega) _ (sd_dg_lt M j) (by rw [hg' j (by omega)]; exact G j j1 j2)
              · rw [hdig d hd1 hdn h (by omega) pk_us]
                omega
            omega
        exact br_f er (nm_r (nI_1 h) (ih (h + 1) _ gr' wb' wa' (by omega) (by omega) hg'))
end
section
variable {fo fh : Int32} {s bn : Nat → Int32} {n t : Nat}
theorem sd_fh50 {post : SX → Prop} {r : Int32} {M : Nat} (hs : sd_bd s) (h1 : 1 ≤ n) (hn : n ≤ 5) (ht1 : t ≤ 1) (ht : fo = 0 ↔ t = 0) (F : sd_first n t bn s M) (hr : r.toInt = sd_sc s (sd_ar n M))
    (K : ∀ gh gr wb wa fi, (∀ j, 1 ≤ j → j ≤ n → fi j = nI (sd_dg M j)) → post (nI n, fo, -1, fh, s, bn, gh, gr, wb, wa, fi)) :
    ∀ (k d : Nat) (gh gr wb wa fi : Nat → Int32), d + k = n + 1 → 1 ≤ d → (∀ j, 1 ≤ j → j < d → gh j = nI (sd_dg M j)) → (∀ j, d ≤ j → j ≤ 5 → gh j = -1) → (∀ j, 1 ≤ j → j < d → fi j = nI (sd_dg M j)) →
    wX_findHeads_50 post r (k + 1) (nI d) (nI n) fo (-1) fh s bn gh gr wb wa fi := by
  intro k
  induction k with
  | zero =>
    intro d gh gr wb wa fi hk hd1 G1 G2 G3
    exact br_t (nI_lt (by omega) (by omega)) (K gh gr wb wa fi (fun j a b => G3 j a (by omega)))
  | succ k ih =>
    intro d gh gr wb wa fi hk hd1 G1 G2 G3
    refine br_f (nI_nlt (by omega) (by omega)) ⟨n + 1 + 1, sd_fh63 hs h1 hn ht1 ht hd1 (by omega) F hr G1 (fun j a b => G2 j (by omega) b) (fun gh' gr' wb' wa' a b => ?_) (n + 1) 0 gh gr wb wa (by omega) (by omega) (fun j _ => rfl)⟩
    refine ih (d + 1) gh' gr' wb' wa' _ (by omega) (by omega) (fun j j1 j2 => ?_) (fun j j1 j2 => ?_) (fun j j1 j2 => ?_)
    · by_cases q : j = d
      · rw [q]; exact b
      · rw [a j q]; exact G1 j j1 (by omega)
    · rw [a j (by omega)]; exact G2 j (by omega) j2
    · by_cases q : j = d
      · rw [q, pk_us]
      · rw [pk_un q]; exact G3 j j1 (by omega)
theorem sd_fh20 {post : SX → Prop} {r fl : Int32} {gh gr wb wa : Nat → Int32} (hn : n ≤ 5)
    (K : ∀ fi, (∀ j, 1 ≤ j → j ≤ n → fi j = -1) → ((r = (-1000000) → post (nI n, fo, fl, fh, s, bn, gh, gr, wb, wa, fi)) ∧ (¬ r = (-1000000) → ∃ m : Nat, wX_findHeads_50 post r m 1 (nI n) fo fl fh s bn gh gr wb wa fi))) :
    ∀ (k d : Nat) (fi : Nat → Int32), d + k = n + 1 → 1 ≤ d → (∀ j, 1 ≤ j → j < d → fi j = -1) → wX_findHeads_20 post r (nI n) fo fl fh (k + 1) (nI d) s bn gh gr wb wa fi := by
  intro k
  induction k with
  | zero =>
    intro d fi hk hd1 G
    exact br_t (nI_lt (by omega) (by omega)) (K fi (fun j a b => G j a (by omega)))
  | succ k ih =>
    intro d fi hk hd1 G
    refine br_f (nI_nlt (by omega) (by omega)) ?_
    rw [nI_clamp (show d < 2 ^ 31 by omega), sd_m1]
    refine ⟨vp_in_nI (by omega) (by decide), nm_e (nm_r (nI_1 d) (ih (d + 1) _ (by omega) (by omega) (fun j j1 j2 => ?_)))⟩
    by_cases q : j = d
    · rw [q, pk_us]
    · rw [pk_un q]; exact G j j1 (by omega)
theorem sd_findHeads {post : SX → Prop} {fl : Int32} {gh gr wb wa fi : Nat → Int32} (hs : sd_bd s) (h1 : 1 ≤ n) (hn : n ≤ 5) (ht1 : t ≤ 1) (ht : fo = 0 ↔ t = 0)
    (K : ∀ gh gr wb wa fi, sd_FH n t bn s fi → post (nI n, fo, -1, 1, s, bn, gh, gr, wb, wa, fi)) : wpX_findHeads post (nI n, fo, fl, fh, s, bn, gh, gr, wb, wa, fi) := by
  unfold wpX_findHeads
  dsimp only
  refine sd_lift (fun gh' hg => ?_)
  dsimp only
  refine sd_fill hs h1 hn ht1 ht (fun gr' wb' wa' R => ?_)
  dsimp only
  rw [sd_v_free hn hg] at R
  have hl : (sd_fv n s (sd_pa n bn) (sd_L n t)).length < 300 := by
    have := sd_fv_len n s (sd_pa n bn) (sd_L n t)
    have := sd_L_len h1 hn ht1
    omega
  refine sd_bestScore R hl (fun r B => ⟨n + 1, sd_fh20 hn (fun fi' hf => ?_) n 1 fi (by omega) (by omega) (fun j a b => absurd b (by omega))⟩)
  by_cases z : sd_fv n s (sd_pa n bn) (sd_L n t) = []
  · have hno := sd_fv_none.mp z
    refine br_t (B.1 z) (K _ _ _ _ _ ⟨fun _ d a b => hf d a b, fun m F => ?_⟩)
    have q := hno m F.1
    rw [F.2.1] at q
    exact absurd q (by decide)
  · obtain ⟨M, F, hr⟩ := sd_first_ex B z
    have hb := sd_sc_in (m := M) hs hn
    refine br_f (sd_N_ne (by omega)) ⟨n + 1, sd_fh50 hs h1 hn ht1 ht F hr (fun gh2 gr2 wb2 wa2 fi2 h2 => K _ _ _ _ _ ⟨fun no => ?_, fun m F' d a b => ?_⟩) n 1 gh' gr' wb' wa' fi' (by omega) (by omega) (fun j a b => absurd b (by omega)) (fun j a b => hg j (by omega)) (fun j a b => absurd b (by omega))⟩
    · exact absurd (sd_fv_none.mpr no) z
    · rw [sd_first_u F' F]; exact h2 d a b
end
end
section
/-! the relation and what is owed -/
/-- the same scores and bans; the reference's list is sd_L; the kept heads are right where they are known -/
def i_Rel (k : Nat) (u : SX) (v : SY) : Prop :=
  ∃ (n t : Nat) (fo fl fh : Int32) (s bn gh gr wb wa fi hd now : Nat → Int32),
    u = (nI n, fo, fl, fh, s, bn, gh, gr, wb, wa, fi) ∧ v = (nI n, nI (sd_L n t).length, s, bn, hd, now) ∧ 1 ≤ n ∧ n ≤ 5 ∧ t ≤ 1 ∧ (fo = 0 ↔ t = 0) ∧ sd_bd s ∧ sd_hd n (sd_L n t) hd ∧ (fh = 0 ∨ sd_FH n t bn s fi)
theorem i_up {k : Nat} {u : SX} {v : SY} (h : i_Rel k u v) : i_Rel (k + 4) u v := h
theorem sd_bd0 : sd_bd (fun _ => 0) := fun _ => by
  show -1000 ≤ (0 : Int32).toInt ∧ (0 : Int32).toInt ≤ 1000
  decide
theorem sd_x83 {post : SX → Prop} {x2 : Int32} {n : Nat} (K : ∀ (fo : Int32) (gh : Nat → Int32), (fo = 0 ↔ x2 = 0) → post (nI n, fo, -1, 0, fun _ => 0, fun _ => 0, gh, fun _ => 0, fun _ => 0, fun _ => 0, fun _ => 0)) :
    wX_init_83 post x2 (nI n) 0 0 0 0 (fun _ => 0) (fun _ => 0) (fun _ => 0) (fun _ => 0) (fun _ => 0) (fun _ => 0) (fun _ => 0) := by
  unfold wX_init_83
  by_cases z : x2 = 0
  · refine br_t z ?_
    unfold wX_init_96
    refine ⟨rfl, rfl, sd_lift (fun gh _ => ?_)⟩
    dsimp only
    exact K 0 gh ⟨fun _ => z, fun _ => rfl⟩
  · refine br_f z ?_
    unfold wX_init_96
    refine ⟨rfl, rfl, sd_lift (fun gh _ => ?_)⟩
    dsimp only
    exact K 1 gh ⟨fun q => absurd q (by decide), fun q => absurd q z⟩
theorem sd_y0 {n : Nat} {k1 fo : Int32} {gh : Nat → Int32} (h1 : 1 ≤ n) (hn : n ≤ 5) (e : fo = 0 ↔ k1 = 0) :
    ∃ n67 : Nat, wY_init_67 (fun v => i_Rel 2 (nI n, fo, -1, 0, fun _ => 0, fun _ => 0, gh, fun _ => 0, fun _ => 0, fun _ => 0, fun _ => 0) v) k1 (nI n) n67 0 0 (fun _ => 0) (fun _ => 0) (fun _ => 0) (fun _ => 0) := by
  obtain ⟨t, ht1, ht⟩ : ∃ t : Nat, t ≤ 1 ∧ (k1 = 0 ↔ t = 0) := by
    by_cases z : k1 = 0
    · exact ⟨0, by omega, fun _ => rfl, fun _ => z⟩
    · exact ⟨1, by omega, fun q => absurd q z, fun q => absurd q (by decide)⟩
  have h0 : sd_hd n (sd_ls n t 0) (fun _ => 0) := by
    intro k m hk
    have h' : ([] : List Nat)[k]? = some m := hk
    simp at h'
  exact ⟨7776 + 1, sd_l67 (t := t) h1 hn ht1 ht (fun hd now H => ⟨n, t, fo, -1, 0, fun _ => 0, fun _ => 0, gh, fun _ => 0, fun _ => 0, fun _ => 0, fun _ => 0, hd, now, rfl, rfl, h1, hn, ht1, e.trans ht, sd_bd0, H, Or.inl rfl⟩) 7776 0 (fun _ => 0) (fun _ => 0) (by omega) rfl h0⟩
theorem i_vc0 (k0 : Int32) (k1 : Int32) : wpX_init (fun u => wpY_init (fun v => i_Rel 2 u v) k0 k1) k0 k1 := by
  unfold wpX_init
  by_cases a : 1 ≤ k0
  · by_cases b : k0 ≤ 5
    · have c : ¬ k0 < 0 := by
        rw [Int32.lt_iff_toInt_lt, sd_t0]
        rw [Int32.le_iff_toInt_le, show (1 : Int32).toInt = 1 by decide] at a
        omega
      obtain ⟨n, hn, rfl⟩ := nI_of2 (M := 5) (n := 5) (by decide) c b
      have h1 : 1 ≤ n := (nI_leI (a := 1) (by decide) (by omega)).mp a
      refine br_t a (br_t b (sd_x83 (fun fo gh e => ?_)))
      unfold wpY_init
      exact br_t a (br_t b (sd_y0 h1 hn e))
    · refine br_t a (br_f b (sd_x83 (n := 5) (fun fo gh e => ?_)))
      unfold wpY_init
      exact br_t a (br_f b (sd_y0 (n := 5) (by omega) (by omega) e))
  · refine br_f a (sd_x83 (n := 1) (fun fo gh e => ?_))
    unfold wpY_init
    exact br_f a (sd_y0 (n := 1) (by omega) (by omega) e)
def sd_isA (n : Nat) (v1 v2 : Int32) : Prop := ∃ h d : Nat, v1 = nI h ∧ v2 = nI d ∧ h ≤ n ∧ 1 ≤ d ∧ d ≤ n ∧ h ≠ d
theorem sd_isB {P0 P1 : Prop} {n : Nat} {v1 v2 : Int32} (hn : n ≤ 5) (K1 : sd_isA n v1 v2 → P1) (K0 : ¬ sd_isA n v1 v2 → P0) :
    ((v1 < 0 → P0) ∧ (¬ v1 < 0 → (((nI n < v1 → P0) ∧ (¬ nI n < v1 → (((v2 < 1 → P0) ∧ (¬ v2 < 1 → (((nI n < v2 → P0) ∧ (¬ nI n < v2 → (((v1 = v2 → P0) ∧ (¬ v1 = v2 → P1)))))))))))))) := by
  by_cases c1 : v1 < 0
  · refine br_t c1 (K0 ?_)
    rintro ⟨h, d, e, _, l, _⟩
    rw [e] at c1
    exact nI_pos (by omega) c1
  · obtain ⟨h, hh, rfl⟩ := nI_of c1
    refine br_f c1 (pk_lt n h (fun a => K0 ?_) (fun a => ?_))
    · rintro ⟨h', d', e, e2, l, _⟩
      have := (nI_eq hh (by omega)).mp e
      omega
    · by_cases c2 : v2 < 0
      · have c3 : v2 < 1 := by
          rw [Int32.lt_iff_toInt_lt, sd_t0] at c2
          rw [Int32.lt_iff_toInt_lt, show (1 : Int32).toInt = 1 by decide]
          omega
        refine br_t c3 (K0 ?_)
        rintro ⟨h', d', e, e2, l, l2, l3, _⟩
        rw [e2] at c2
        exact nI_pos (by omega) c2
      · obtain ⟨d, hd, rfl⟩ := nI_of c2
        refine pk_lt d 1 (fun b => K0 ?_) (fun b => pk_lt n d (fun c => K0 ?_) (fun c => pk_eq h d (fun e => K0 ?_) (fun e => K1 ⟨h, d, rfl, rfl, a, b, c, e⟩)))
        all_goals
          rintro ⟨h', d', e1, e2, l, l2, l3, l4⟩
          have := (nI_eq hh (by omega)).mp e1
          have := (nI_eq hd (by omega)).mp e2
          omega
theorem sd_arcX {post : Int32 → Prop} {n : Nat} {v1 v2 fo fl fh : Int32} {s bn gh gr wb wa fi : Nat → Int32} (hn : n ≤ 5) (K1 : sd_isA n v1 v2 → post 1) (K0 : ¬ sd_isA n v1 v2 → post 0) : wpX_isArc post (nI n, fo, fl, fh, s, bn, gh, gr, wb, wa, fi) v1 v2 := by
  unfold wpX_isArc
  dsimp only
  exact sd_isB hn K1 K0
theorem sd_arcY {post : Int32 → Prop} {n : Nat} {v1 v2 yc : Int32} {s bn hd now : Nat → Int32} (hn : n ≤ 5) (K1 : sd_isA n v1 v2 → post 1) (K0 : ¬ sd_isA n v1 v2 → post 0) : wpY_isArc post (nI n, yc, s, bn, hd, now) v1 v2 := by
  unfold wpY_isArc
  dsimp only
  exact sd_isB hn K1 K0
theorem sd_arcIn {n : Nat} {v1 v2 : Int32} (hn : n ≤ 5) (A : sd_isA n v1 v2) : vp_in ((6 * v1) + v2) 36 := by
  obtain ⟨h, d, rfl, rfl, a, b, c, _⟩ := A
  rw [sd_arc]
  exact vp_in_nI (by omega) (by decide)
theorem sd_n10 : ¬ (1 : Int32) = 0 := by decide
theorem i_vc_score {k : Nat} {u : SX} {v : SY} (I : i_Rel k u v) (hk : k + 4 ≤ 2050) (v1 : Int32) (v2 : Int32) (v3 : Int32) : wpX_score (fun r u' => wpY_score (fun r' v' => r' = r ∧ i_Rel (k + 4) u' v') v v1 v2 v3) u v1 v2 v3 := by
  obtain ⟨n, t, fo, fl, fh, s, bn, gh, gr, wb, wa, fi, hd, now, rfl, rfl, h1, hn, ht1, ht, hs, H, F⟩ := I
  have same : i_Rel (k + 4) (nI n, fo, fl, fh, s, bn, gh, gr, wb, wa, fi) (nI n, nI (sd_L n t).length, s, bn, hd, now) := ⟨n, t, fo, fl, fh, s, bn, gh, gr, wb, wa, fi, hd, now, rfl, rfl, h1, hn, ht1, ht, hs, H, F⟩
  unfold wpX_score wpY_score
  dsimp only
  refine sd_arcX hn (fun A => br_f sd_n10 ?_) (fun A => br_t rfl (sd_arcY hn (fun B => absurd B A) (fun _ => br_t rfl ⟨rfl, same⟩)))
  by_cases a : v3 < -1000
  · exact br_t a (sd_arcY hn (fun _ => br_f sd_n10 (br_t a ⟨rfl, same⟩)) (fun B => absurd A B))
  · by_cases b : v3 ≤ 1000
    · refine br_f a (br_t b ⟨sd_arcIn hn A, nm_e (sd_arcY hn (fun _ => br_f sd_n10 (br_f a (br_t b ⟨sd_arcIn hn A, nm_e ⟨rfl, ?_⟩⟩))) (fun B => absurd A B))⟩)
      refine ⟨n, t, fo, fl, 0, _, bn, gh, gr, wb, wa, fi, hd, now, rfl, rfl, h1, hn, ht1, ht, ?_, H, Or.inl rfl⟩
      intro j
      by_cases q : j = ((6 * v1) + v2).toNatClampNeg
      · rw [q, pk_us]
        rw [Int32.lt_iff_toInt_lt, show (-1000 : Int32).toInt = -1000 by decide] at a
        rw [Int32.le_iff_toInt_le, show (1000 : Int32).toInt = 1000 by decide] at b
        omega
      · rw [pk_un q]
        exact hs j
    · exact br_f a (br_f b (sd_arcY hn (fun _ => br_f sd_n10 (br_f a (br_f b ⟨rfl, same⟩))) (fun B => absurd A B)))
theorem i_vc_ban {k : Nat} {u : SX} {v : SY} (I : i_Rel k u v) (hk : k + 4 ≤ 2050) (v1 : Int32) (v2 : Int32) (v3 : Int32) : wpX_ban (fun r u' => wpY_ban (fun r' v' => r' = r ∧ i_Rel (k + 4) u' v') v v1 v2 (lw_bz v3)) u v1 v2 (lw_bz v3) := by
  obtain ⟨n, t, fo, fl, fh, s, bn, gh, gr, wb, wa, fi, hd, now, rfl, rfl, h1, hn, ht1, ht, hs, H, F⟩ := I
  have same : i_Rel (k + 4) (nI n, fo, fl, fh, s, bn, gh, gr, wb, wa, fi) (nI n, nI (sd_L n t).length, s, bn, hd, now) := ⟨n, t, fo, fl, fh, s, bn, gh, gr, wb, wa, fi, hd, now, rfl, rfl, h1, hn, ht1, ht, hs, H, F⟩
  unfold wpX_ban wpY_ban
  dsimp only
  refine sd_arcX hn (fun A => br_f sd_n10 ⟨sd_arcIn hn A, nm_e (sd_arcY hn (fun _ => br_f sd_n10 ⟨sd_arcIn hn A, nm_e ⟨rfl, ?_⟩⟩) (fun B => absurd A B))⟩) (fun A => br_t rfl (sd_arcY hn (fun B => absurd B A) (fun _ => br_t rfl ⟨rfl, same⟩)))
  exact ⟨n, t, fo, fl, 0, s, _, gh, gr, wb, wa, fi, hd, now, rfl, rfl, h1, hn, ht1, ht, hs, H, Or.inl rfl⟩
theorem sd_pl {n t : Nat} {s : Nat → Int32} {p : Nat → Bool} (h1 : 1 ≤ n) (hn : n ≤ 5) (ht1 : t ≤ 1) : (sd_fv n s p (sd_L n t)).length < 300 := by
  have := sd_fv_len n s p (sd_L n t)
  have := sd_L_len h1 hn ht1
  omega
theorem i_vc_best {k : Nat} {u : SX} {v : SY} (I : i_Rel k u v) (hk : k + 4 ≤ 2050) : wpX_best (fun r u' => wpY_best (fun r' => r' = r ∧ i_Rel (k + 4) u' v) v) u := by
  obtain ⟨n, t, fo, fl, fh, s, bn, gh, gr, wb, wa, fi, hd, now, rfl, rfl, h1, hn, ht1, ht, hs, H, F⟩ := I
  unfold wpX_best
  dsimp only
  refine sd_lift (fun gh' hg => ?_)
  dsimp only
  refine sd_fill hs h1 hn ht1 ht (fun gr' wb' wa' R => ?_)
  dsimp only
  rw [sd_v_free hn hg] at R
  refine sd_bestScore R (sd_pl h1 hn ht1) (fun r B => sd_best hs hn (sd_L_len h1 hn ht1) H (fun r' B' => ⟨sd_bs_u B' B, ?_⟩))
  exact ⟨n, t, fo, -1, fh, s, bn, gh', gr', wb', wa', fi, hd, now, rfl, rfl, h1, hn, ht1, ht, hs, H, F⟩
theorem i_vc_trees {k : Nat} {u : SX} {v : SY} (I : i_Rel k u v) (hk : k + 4 ≤ 2050) : wpX_trees (fun r u' => wpY_trees (fun r' => r' = r ∧ i_Rel (k + 4) u' v) v) u := by
  obtain ⟨n, t, fo, fl, fh, s, bn, gh, gr, wb, wa, fi, hd, now, rfl, rfl, h1, hn, ht1, ht, hs, H, F⟩ := I
  unfold wpX_trees
  dsimp only
  refine sd_lift (fun gh' hg => ?_)
  dsimp only
  refine sd_fill hs h1 hn ht1 ht (fun gr' wb' wa' R => ?_)
  dsimp only
  rw [sd_v_free hn hg] at R
  refine sd_trees hs hn (sd_L_len h1 hn ht1) H ⟨R.1.symm, ?_⟩
  exact ⟨n, t, fo, -1, fh, s, bn, gh', gr', wb', wa', fi, hd, now, rfl, rfl, h1, hn, ht1, ht, hs, H, F⟩
theorem i_vc_bestTrees {k : Nat} {u : SX} {v : SY} (I : i_Rel k u v) (hk : k + 4 ≤ 2050) : wpX_bestTrees (fun r u' => wpY_bestTrees (fun r' => r' = r ∧ i_Rel (k + 4) u' v) v) u := by
  obtain ⟨n, t, fo, fl, fh, s, bn, gh, gr, wb, wa, fi, hd, now, rfl, rfl, h1, hn, ht1, ht, hs, H, F⟩ := I
  unfold wpX_bestTrees
  dsimp only
  refine sd_lift (fun gh' hg => ?_)
  dsimp only
  refine sd_fill hs h1 hn ht1 ht (fun gr' wb' wa' R => ?_)
  dsimp only
  rw [sd_v_free hn hg] at R
  have J : i_Rel (k + 4) (nI n, fo, -1, fh, s, bn, gh', gr', wb', wa', fi) (nI n, nI (sd_L n t).length, s, bn, hd, now) := ⟨n, t, fo, -1, fh, s, bn, gh', gr', wb', wa', fi, hd, now, rfl, rfl, h1, hn, ht1, ht, hs, H, F⟩
  have hl := sd_pl (s := s) (p := sd_pa n bn) h1 hn ht1
  have z := sd_rep_z R (Nat.lt_trans hl (by decide))
  by_cases e : wa' 144 = 0
  · refine br_t e (sd_bestTrees hs hn (sd_L_len h1 hn ht1) H (fun r B => ⟨?_, J⟩))
    rw [z.mp e]
    rfl
  · have ne : sd_fv n s (sd_pa n bn) (sd_L n t) ≠ [] := fun q => e (z.mpr q)
    refine br_f e (sd_bestTrees hs hn (sd_L_len h1 hn ht1) H (fun r B => ⟨?_, J⟩))
    rw [sd_bs_u B (sd_bs_rep R ne)]
    exact (R.2 ne).2.2.symm
theorem i_vc_bestWith {k : Nat} {u : SX} {v : SY} (I : i_Rel k u v) (hk : k + 4 ≤ 2050) (v1 : Int32) (v2 : Int32) : wpX_bestWith (fun r u' => wpY_bestWith (fun r' => r' = r ∧ i_Rel (k + 4) u' v) v v1 v2) u v1 v2 := by
  obtain ⟨n, t, fo, fl, fh, s, bn, gh, gr, wb, wa, fi, hd, now, rfl, rfl, h1, hn, ht1, ht, hs, H, F⟩ := I
  unfold wpX_bestWith wpY_bestWith
  dsimp only
  refine sd_arcX hn (fun A => br_f sd_n10 (sd_lift (fun gh' hg => ?_))) (fun A => br_t rfl (sd_arcY hn (fun B => absurd B A) (fun _ => br_t rfl ⟨rfl, ⟨n, t, fo, fl, fh, s, bn, gh, gr, wb, wa, fi, hd, now, rfl, rfl, h1, hn, ht1, ht, hs, H, F⟩⟩)))
  have A' := A
  obtain ⟨h, d, rfl, rfl, l1, l2, l3, l4⟩ := A'
  dsimp only
  rw [nI_clamp (show d < 2 ^ 31 by omega), (sd_by h (by omega)).2, (sd_by h (by omega)).1]
  refine ⟨vp_in_nI (by omega) (by decide), nm_e (sd_fill hs h1 hn ht1 ht (fun gr' wb' wa' R => ?_))⟩
  dsimp only
  rw [sd_v_with hn hg l2 l3 (by omega)] at R
  refine sd_bestScore R (sd_pl h1 hn ht1) (fun r B => sd_arcY hn (fun _ => br_f sd_n10 (sd_greatest (w := 1) hs hn (sd_L_len h1 hn ht1) H l3 (by omega) (by omega) (fun r' B' => ?_))) (fun B => absurd A B))
  rw [sd_q_with l2] at B'
  exact ⟨sd_bs_u B' B, ⟨n, t, fo, -1, fh, s, bn, _, gr', wb', wa', fi, hd, now, rfl, rfl, h1, hn, ht1, ht, hs, H, F⟩⟩
theorem i_vc_bestWithout {k : Nat} {u : SX} {v : SY} (I : i_Rel k u v) (hk : k + 4 ≤ 2050) (v1 : Int32) (v2 : Int32) : wpX_bestWithout (fun r u' => wpY_bestWithout (fun r' => r' = r ∧ i_Rel (k + 4) u' v) v v1 v2) u v1 v2 := by
  obtain ⟨n, t, fo, fl, fh, s, bn, gh, gr, wb, wa, fi, hd, now, rfl, rfl, h1, hn, ht1, ht, hs, H, F⟩ := I
  unfold wpX_bestWithout wpY_bestWithout
  dsimp only
  refine sd_arcX hn (fun A => br_f sd_n10 (sd_lift (fun gh' hg => ?_))) (fun A => br_t rfl (sd_arcY hn (fun B => absurd B A) (fun _ => br_t rfl ⟨rfl, ⟨n, t, fo, fl, fh, s, bn, gh, gr, wb, wa, fi, hd, now, rfl, rfl, h1, hn, ht1, ht, hs, H, F⟩⟩)))
  have A' := A
  obtain ⟨h, d, rfl, rfl, l1, l2, l3, l4⟩ := A'
  dsimp only
  refine nm_r (sd_arc h d) (sd_fill hs h1 hn ht1 ht (fun gr' wb' wa' R => ?_))
  dsimp only
  rw [sd_v_out hn hg l2 l3 (by omega)] at R
  refine sd_bestScore R (sd_pl h1 hn ht1) (fun r B => sd_arcY hn (fun _ => br_f sd_n10 (sd_greatest (w := 0) hs hn (sd_L_len h1 hn ht1) H l3 (by omega) (by omega) (fun r' B' => ?_))) (fun B => absurd A B))
  exact ⟨sd_bs_u B' B, ⟨n, t, fo, _, fh, s, bn, gh', gr', wb', wa', fi, hd, now, rfl, rfl, h1, hn, ht1, ht, hs, H, F⟩⟩
theorem i_vc_treesWith {k : Nat} {u : SX} {v : SY} (I : i_Rel k u v) (hk : k + 4 ≤ 2050) (v1 : Int32) (v2 : Int32) : wpX_treesWith (fun r u' => wpY_treesWith (fun r' => r' = r ∧ i_Rel (k + 4) u' v) v v1 v2) u v1 v2 := by
  obtain ⟨n, t, fo, fl, fh, s, bn, gh, gr, wb, wa, fi, hd, now, rfl, rfl, h1, hn, ht1, ht, hs, H, F⟩ := I
  unfold wpX_treesWith wpY_treesWith
  dsimp only
  refine sd_arcX hn (fun A => br_f sd_n10 (sd_lift (fun gh' hg => ?_))) (fun A => br_t rfl (sd_arcY hn (fun B => absurd B A) (fun _ => br_t rfl ⟨rfl, ⟨n, t, fo, fl, fh, s, bn, gh, gr, wb, wa, fi, hd, now, rfl, rfl, h1, hn, ht1, ht, hs, H, F⟩⟩)))
  have A' := A
  obtain ⟨h, d, rfl, rfl, l1, l2, l3, l4⟩ := A'
  dsimp only
  rw [nI_clamp (show d < 2 ^ 31 by omega), (sd_by h (by omega)).2, (sd_by h (by omega)).1]
  refine ⟨vp_in_nI (by omega) (by decide), nm_e (sd_fill hs h1 hn ht1 ht (fun gr' wb' wa' R => ?_))⟩
  dsimp only
  rw [sd_v_with hn hg l2 l3 (by omega)] at R
  refine sd_arcY hn (fun _ => br_f sd_n10 ⟨(sd_L n t).length + 1, sd_lt17 hs hn (sd_L_len h1 hn ht1) H l2 l3 (by omega) ?_ (sd_L n t) [] rfl⟩) (fun B => absurd A B)
  exact ⟨R.1.symm, ⟨n, t, fo, -1, fh, s, bn, _, gr', wb', wa', fi, hd, now, rfl, rfl, h1, hn, ht1, ht, hs, H, F⟩⟩
theorem sd_clear : ∀ (m j : Nat) (c : Int32) (s bn : Nat → Int32), j + m = 36 → sd_bd s → ∃ (c' : Int32) (s' bn' : Nat → Int32), sd_bd s' ∧
    (∀ (post : Int32 → SX → Prop) (fw fo fl fh : Int32) (gh gr wb wa fi : Nat → Int32), post c' (fw, fo, fl, 0, s', bn', gh, gr, wb, wa, fi) → wX_clear_4 post fw fo fl fh (m + 1) c (nI j) s bn gh gr wb wa fi) ∧
    (∀ (post : Int32 → SY → Prop) (yn yc : Int32) (hd now : Nat → Int32), post c' (yn, yc, s', bn', hd, now) → wY_clear_4 post yn yc (m + 1) c (nI j) s bn hd now) := by
  intro m
  induction m with
  | zero =>
    intro j c s bn hj hs
    have e : j = 36 := by omega
    subst e
    exact ⟨c, s, bn, hs, fun _ _ _ _ _ _ _ _ _ _ h => br_t (by decide) h, fun _ _ _ _ _ h => br_t (by decide) h⟩
  | succ m ih =>
    intro j c s bn hj hs
    have hs' : sd_bd (upd s j 0) := by
      intro i
      by_cases q : i = j
      · rw [q, pk_us]; exact sd_bd0 0
      · rw [pk_un q]; exact hs i
    have nl : ¬ (36 : Int32) ≤ nI j := nI_ge (b := 36) (by omega) (by decide)
    have ij : vp_in (nI j) 36 := vp_in_nI (by omega) (by decide)
    have cl : (nI j).toNatClampNeg = j := nI_clamp (by omega)
    by_cases z : bn j = 0
    · obtain ⟨c', s', bn', b, X, Y⟩ := ih (j + 1) c (upd s j 0) (upd bn j (vp_nar .boolean 0)) (by omega) hs'
      refine ⟨c', s', bn', b, fun post fw fo fl fh gh gr wb wa fi h => br_f nl ?_, fun post yn yc hd now h => br_f nl ?_⟩
      · unfold wX_clear_22
        rw [cl]
        exact ⟨ij, br_t z ⟨ij, nm_e ⟨ij, nm_e (nm_r (nI_1 j) (X post fw fo fl fh gh gr wb wa fi h))⟩⟩⟩
      · unfold wY_clear_22
        rw [cl]
        exact ⟨ij, br_t z ⟨ij, nm_e ⟨ij, nm_e (nm_r (nI_1 j) (Y post yn yc hd now h))⟩⟩⟩
    · obtain ⟨c', s', bn', b, X, Y⟩ := ih (j + 1) (c + 1) (upd s j 0) (upd bn j (vp_nar .boolean 0)) (by omega) hs'
      refine ⟨c', s', bn', b, fun post fw fo fl fh gh gr wb wa fi h => br_f nl ?_, fun post yn yc hd now h => br_f nl ?_⟩
      · unfold wX_clear_22
        rw [cl]
        exact ⟨ij, br_f z (nm_e ⟨ij, nm_e ⟨ij, nm_e (nm_r (nI_1 j) (X post fw fo fl fh gh gr wb wa fi h))⟩⟩)⟩
      · unfold wY_clear_22
        rw [cl]
        exact ⟨ij, br_f z (nm_e ⟨ij, nm_e ⟨ij, nm_e (nm_r (nI_1 j) (Y post yn yc hd now h))⟩⟩)⟩
theorem i_vc_clear {k : Nat} {u : SX} {v : SY} (I : i_Rel k u v) (hk : k + 4 ≤ 2050) : wpX_clear (fun r u' => wpY_clear (fun r' v' => r' = r ∧ i_Rel (k + 4) u' v') v) u := by
  obtain ⟨n, t, fo, fl, fh, s, bn, gh, gr, wb, wa, fi, hd, now, rfl, rfl, h1, hn, ht1, ht, hs, H, F⟩ := I
  obtain ⟨c', s', bn', b, X, Y⟩ := sd_clear 36 0 0 s bn (by omega) hs
  unfold wpX_clear wpY_clear
  dsimp only
  exact ⟨36 + 1, X _ _ _ _ _ _ _ _ _ _ ⟨36 + 1, Y _ _ _ _ _ ⟨rfl, ⟨n, t, fo, fl, 0, s', bn', gh, gr, wb, wa, fi, hd, now, rfl, rfl, h1, hn, ht1, ht, b, H, Or.inl rfl⟩⟩⟩⟩
theorem sd_headY {post : Int32 → Prop} {n t d : Nat} {s bn hd now : Nat → Int32} (hs : sd_bd s) (h1 : 1 ≤ n) (hn : n ≤ 5) (ht1 : t ≤ 1) (H : sd_hd n (sd_L n t) hd) (hd1 : 1 ≤ d) (hdn : d ≤ n)
    (K0 : (∀ m, m ∈ sd_L n t → sd_pa n bn m = false) → post (-1000000)) (K1 : ∀ M, sd_first n t bn s M → post (nI (sd_dg M d))) :
    wpY_head post (nI n, nI (sd_L n t).length, s, bn, hd, now) (nI d) := by
  unfold wpY_head
  dsimp only
  have hl := sd_L_len h1 hn ht1
  refine br_f (nI_nlt (b := 1) (by omega) (by omega)) (br_t (nI_le hdn (by omega)) (sd_best hs hn hl H (fun r B => ⟨(sd_L n t).length + 1, sd_lh23 hs hn hl H hd1 hdn (fun no => ?_) (fun done m rest e p q old => ?_) (sd_L n t) [] rfl (fun m' hm' => absurd hm' (by simp))⟩)))
  · refine K0 (sd_fv_none (s := s).mp ?_)
    by_cases z : sd_fv n s (sd_pa n bn) (sd_L n t) = []
    · exact z
    · obtain ⟨m, a, b, c⟩ := sd_fv_mem.mp (B.2 z).1
      exact absurd c (no m a b)
  · have hm : m ∈ sd_L n t := by rw [← e]; exact List.mem_append_right _ List.mem_cons_self
    refine K1 m ⟨hm, p, fun m' a b => ?_, fun m' a b c => ?_⟩
    · have hx : sd_sc s (sd_ar n m') ∈ sd_fv n s (sd_pa n bn) (sd_L n t) := sd_fv_mem.mpr ⟨m', a, b, rfl⟩
      have := (B.2 (List.ne_nil_of_mem hx)).2 _ hx
      omega
    · have so := sd_L_sorted h1 hn ht1
      rw [← e] at so a
      have so2 := (List.pairwise_append.mp so).2.1
      rcases List.mem_append.mp a with g | g
      · exact absurd (c.trans q) (old m' g b)
      · rcases List.mem_cons.mp g with g | g
        · omega
        · have := (List.pairwise_cons.mp so2).1 m' g
          omega
theorem i_vc_head {k : Nat} {u : SX} {v : SY} (I : i_Rel k u v) (hk : k + 4 ≤ 2050) (v1 : Int32) : wpX_head (fun r u' => wpY_head (fun r' => r' = r ∧ i_Rel (k + 4) u' v) v v1) u v1 := by
  obtain ⟨n, t, fo, fl, fh, s, bn, gh, gr, wb, wa, fi, hd, now, rfl, rfl, h1, hn, ht1, ht, hs, H, F⟩ := I
  have same : i_Rel (k + 4) (nI n, fo, fl, fh, s, bn, gh, gr, wb, wa, fi) (nI n, nI (sd_L n t).length, s, bn, hd, now) := ⟨n, t, fo, fl, fh, s, bn, gh, gr, wb, wa, fi, hd, now, rfl, rfl, h1, hn, ht1, ht, hs, H, F⟩
  unfold wpX_head
  dsimp only
  by_cases a : v1 < 1
  · refine br_t a ?_
    unfold wpY_head
    exact br_t a ⟨rfl, same⟩
  · by_cases b : v1 ≤ nI n
    · have c : ¬ v1 < 0 := by
        rw [Int32.lt_iff_toInt_lt, show (1 : Int32).toInt = 1 by decide] at a
        rw [Int32.lt_iff_toInt_lt, sd_t0]
        omega
      obtain ⟨d, hd2, rfl⟩ := nI_of c
      have hdn : d ≤ n := (nI_leI hd2 (by omega)).mp b
      have hd1 : 1 ≤ d := by
        have : ¬ d < 1 := fun z => a (nI_lt (b := 1) z (by decide))
        omega
      have core : ∀ (fl fh : Int32) (gh gr wb wa fi : Nat → Int32), sd_FH n t bn s fi → wX_head_27 (fun r u' => wpY_head (fun r' => r' = r ∧ i_Rel (k + 4) u' (nI n, nI (sd_L n t).length, s, bn, hd, now)) (nI n, nI (sd_L n t).length, s, bn, hd, now) (nI d)) (nI d) (nI n) fo fl fh s bn gh gr wb wa fi := by
        intro fl fh gh gr wb wa fi FH
        have J : i_Rel (k + 4) (nI n, fo, fl, fh, s, bn, gh, gr, wb, wa, fi) (nI n, nI (sd_L n t).length, s, bn, hd, now) := ⟨n, t, fo, fl, fh, s, bn, gh, gr, wb, wa, fi, hd, now, rfl, rfl, h1, hn, ht1, ht, hs, H, Or.inr FH⟩
        have i6 : vp_in (nI d) 6 := vp_in_nI (by omega) (by decide)
        unfold wX_head_27
        rw [nI_clamp hd2]
        refine ⟨i6, ?_⟩
        by_cases no : ∀ m, m ∈ sd_L n t → sd_pa n bn m = false
        · have e := FH.1 no d hd1 hdn
          rw [e]
          refine br_f (by decide) (sd_headY hs h1 hn ht1 H hd1 hdn (fun _ => ⟨rfl, J⟩) (fun M FM => ?_))
          have := no M FM.1
          rw [FM.2.1] at this
          exact absurd this (by decide)
        · have yes : ∀ M, sd_first n t bn s M → fi d = nI (sd_dg M d) := fun M FM => FH.2 M FM d hd1 hdn
          by_cases z : 0 ≤ fi d
          · exact br_t z ⟨i6, sd_headY hs h1 hn ht1 H hd1 hdn (fun q => absurd q no) (fun M FM => ⟨(yes M FM).symm, J⟩)⟩
          · refine br_f z (sd_headY hs h1 hn ht1 H hd1 hdn (fun q => absurd q no) (fun M FM => ?_))
            rw [yes M FM] at z
            have := sd_dg_lt M d
            exact absurd (nI_pos' (by omega)) z
      refine br_f a (br_t b ?_)
      by_cases e : fh = 0
      · refine br_t e (sd_findHeads hs h1 hn ht1 ht (fun gh' gr' wb' wa' fi' FH => ?_))
        dsimp only
        exact core _ _ _ _ _ _ _ FH
      · refine br_f e (core _ _ _ _ _ _ _ ?_)
        rcases F with F | F
        · exact absurd F e
        · exact F
    · refine br_f a (br_f b ?_)
      unfold wpY_head
      exact br_f a (br_f b ⟨rfl, same⟩)
end
