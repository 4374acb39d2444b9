section
theorem pk_us {f : Nat → Int32} {k : Nat} {x : Int32} : upd f k x k = x := if_pos rfl
theorem pk_un {f : Nat → Int32} {k j : Nat} {x : Int32} (h : j ≠ k) : upd f k x j = f j := if_neg h
theorem pk_sub {a b : Nat} (h : b ≤ a) : nI a - nI b = nI (a - b) := by
  obtain ⟨c, rfl⟩ : ∃ c, a = c + b := ⟨a - b, by omega⟩
  rw [← nI_add, Int32.add_sub_cancel, Nat.add_sub_cancel]
theorem pk_m1 (n : Nat) : nI (n + 1) + (-1) = nI n := by
  rw [← nI_1, Int32.add_assoc, show (1 : Int32) + (-1) = 0 from rfl, Int32.add_zero]
theorem pk_mul (a b : Nat) : nI a * nI b = nI (a * b) := (Int32.ofNat_mul a b).symm
theorem pk_sub_toInt {a b : Nat} (ha : a < 2 ^ 30) (hb : b < 2 ^ 30) : (nI a - nI b).toInt = (a : Int) - b := by
  rw [Int32.toInt_sub, nI_toInt (by omega), nI_toInt (by omega)]
  exact Int.bmod_eq_of_le (by omega) (by omega)
theorem pk_ix (x : Int32) {n : Nat} (hn : n < 2 ^ 31) : x < 0 ∨ nI n ≤ x ∨ ∃ j : Nat, j < n ∧ x = nI j := by
  by_cases h : x < 0
  · exact Or.inl h
  · obtain ⟨j, hj, rfl⟩ := nI_of h
    by_cases h2 : j < n
    · exact Or.inr (Or.inr ⟨j, h2, rfl⟩)
    · exact Or.inr (Or.inl (nI_le (by omega) hj))
theorem pk_le {x y : Int32} {A B : Prop} (a b : Nat) (f : a ≤ b → A) (g : b < a → B) (hx : x = nI a := by rfl) (hy : y = nI b := by rfl) (ha : a < 2 ^ 31 := by omega) (hb : b < 2 ^ 31 := by omega) : (x ≤ y → A) ∧ (¬ x ≤ y → B) := by
  subst hx hy
  rw [nI_leI ha hb]
  exact ⟨f, fun z => g (by omega)⟩
theorem pk_lt {x y : Int32} {A B : Prop} (a b : Nat) (f : a < b → A) (g : b ≤ a → B) (hx : x = nI a := by rfl) (hy : y = nI b := by rfl) (ha : a < 2 ^ 31 := by omega) (hb : b < 2 ^ 31 := by omega) : (x < y → A) ∧ (¬ x < y → B) := by
  subst hx hy
  rw [nI_ltI ha hb]
  exact ⟨f, fun z => g (by omega)⟩
theorem pk_eq {x y : Int32} {A B : Prop} (a b : Nat) (f : a = b → A) (g : a ≠ b → B) (hx : x = nI a := by rfl) (hy : y = nI b := by rfl) (ha : a < 2 ^ 31 := by omega) (hb : b < 2 ^ 31 := by omega) : (x = y → A) ∧ (¬ x = y → B) := by
  subst hx hy
  rw [nI_eq ha hb]
  exact ⟨f, g⟩
theorem pk_in {x : Int32} (n N : Nat) (h : n < N) (hx : x = nI n := by rfl) (hN : N < 2 ^ 31 := by omega) : vp_in x N := by
  subst hx
  exact vp_in_nI h hN
theorem pk_cl {x : Int32} (n : Nat) (hx : x = nI n := by rfl) (h : n < 2 ^ 31 := by omega) : x.toNatClampNeg = n := by
  subst hx
  exact nI_clamp h
theorem pk_tn {n : Nat} (h : n < 2 ^ 32) : (nI n).toBitVec.toNat = n := Nat.mod_eq_of_lt h
theorem pk_and (x : Int32) {m : Int32} (k : Nat) (hm : m.toBitVec.toNat = 2 ^ k - 1) : x &&& m = nI (x.toBitVec.toNat % 2 ^ k) := by
  apply Int32.toBitVec_inj.mp
  apply BitVec.eq_of_toNat_eq
  rw [Int32.toBitVec_and, BitVec.toNat_and, hm, Nat.and_two_pow_sub_one_eq_mod]
  show _ = (BitVec.ofNat 32 _).toNat
  rw [BitVec.toNat_ofNat]
  exact (Nat.mod_eq_of_lt (Nat.lt_of_le_of_lt (Nat.mod_le _ _) x.toBitVec.isLt)).symm
theorem pk_andN {n : Nat} (h : n < 2 ^ 32) {m : Int32} (k : Nat) (hm : m.toBitVec.toNat = 2 ^ k - 1) : nI n &&& m = nI (n % 2 ^ k) := by
  rw [pk_and _ k hm, pk_tn h]
/-! own small rows about indexes -/
theorem ix_48 (r i : Nat) : nI r * 48 + nI i = nI (r * 48 + i) := by
  rw [← nI_add, ← pk_mul]; rfl
theorem ix_8 (r i : Nat) : nI r * 8 + nI i = nI (r * 8 + i) := by
  rw [← nI_add, ← pk_mul]; rfl
theorem ix_4 (r i : Nat) : nI r * 4 + nI i = nI (r * 4 + i) := by
  rw [← nI_add, ← pk_mul]; rfl
theorem ix_48z (r : Nat) : nI r * 48 = nI (r * 48) := by
  rw [← pk_mul]; rfl
theorem ix_p {n : Nat} (h : 0 < n) : nI n - 1 = nI (n - 1) := by
  obtain ⟨m, rfl⟩ : ∃ m, n = m + 1 := ⟨n - 1, by omega⟩
  exact nI_pred m
theorem ix_m {n : Nat} (h : 0 < n) : nI n + (-1) = nI (n - 1) := by
  obtain ⟨m, rfl⟩ : ∃ m, n = m + 1 := ⟨n - 1, by omega⟩
  exact pk_m1 m
theorem ix_mm (n : Nat) : nI n + (-1) = nI n - 1 := by
  rw [Int32.sub_eq_add_neg]
theorem ix_lt1 {a b : Nat} (ha : a < 2 ^ 30) (hb : b < 2 ^ 30) : nI a - 1 < nI b ↔ a ≤ b := by
  have h1 : nI a - 1 = nI a - nI 1 := rfl
  rw [Int32.lt_iff_toInt_lt, h1, pk_sub_toInt ha (by omega), nI_toInt (by omega)]
  omega
theorem ix_and7 {n : Nat} (h : n < 2 ^ 31) : nI n &&& 7 = nI (n % 8) := pk_andN (k := 3) (by omega) (by decide)
theorem ix_a7 {a b : Nat} (h : a + b < 2 ^ 31) : (nI a + nI b) &&& 7 = nI ((a + b) % 8) := by
  rw [nI_add]; exact ix_and7 h
theorem ix_a71 {a : Nat} (h : a + 1 < 2 ^ 31) : (nI a + 1) &&& 7 = nI ((a + 1) % 8) := by
  rw [nI_1]; exact ix_and7 h
theorem ix_c0 : (0 : Int32).toNatClampNeg = 0 := by decide
end
section
/-! the pure side: a write's record, what it does to a store, runs, counts -/
abbrev gh_W : Type := Nat × Nat × Nat × Nat × Nat × Int32
def gh_og (p : gh_W) : Nat := p.1
def gh_tn (p : gh_W) : Nat := p.2.1
def gh_st (p : gh_W) : Nat := p.2.2.1
def gh_kd (p : gh_W) : Nat := p.2.2.2.1
def gh_ce (p : gh_W) : Nat := p.2.2.2.2.1
def gh_va (p : gh_W) : Int32 := p.2.2.2.2.2

/-- claim: from the i-th cell on, n cells left -/
def ca_cl (c : Nat) (v : Int32) (s : Nat → Int32) : Nat → Nat → Int32 × (Nat → Int32)
  | 0, _ => (4, s)
  | n + 1, i => if s ((c + i) % 8) = 0 then ((if i = 0 then 2 else 3), upd s ((c + i) % 8) v) else ca_cl c v s n (i + 1)
def ca_nx (p : gh_W) : Nat := (gh_ce p + 1) % 8
/-- one write on a store: its outcome and the store behind it -/
def ca_do (p : gh_W) (s : Nat → Int32) : Int32 × (Nat → Int32) :=
  if gh_kd p = 0 then (2, upd s (gh_ce p) (gh_va p))
  else if gh_kd p = 1 then (2, upd s (gh_ce p) (s (gh_ce p) + gh_va p))
  else if gh_kd p = 2 then
    (if s (gh_ce p) < gh_va p then
      (if s (ca_nx p) < gh_va p then (4, s) else (3, upd s (ca_nx p) (s (ca_nx p) - gh_va p)))
     else (2, upd s (gh_ce p) (s (gh_ce p) - gh_va p)))
  else if gh_kd p = 3 then
    (if s (gh_ce p) < gh_va p then (4, s)
     else (2, upd (upd s (gh_ce p) (s (gh_ce p) - gh_va p)) (ca_nx p) (upd s (gh_ce p) (s (gh_ce p) - gh_va p) (ca_nx p) + gh_va p)))
  else if gh_kd p = 4 then ca_cl (gh_ce p) (gh_va p) s 8 0
  else (2, upd (upd s (gh_ce p) (s (ca_nx p))) (ca_nx p) (s (gh_ce p)))

/-- equal in the eight cells -/
def ca_E (s t : Nat → Int32) : Prop := ∀ c, c < 8 → s c = t c
theorem ca_E_r (s : Nat → Int32) : ca_E s s := fun _ _ => rfl
theorem ca_E_s {s t : Nat → Int32} (h : ca_E s t) : ca_E t s := fun c hc => (h c hc).symm
theorem ca_E_t {s t q : Nat → Int32} (h : ca_E s t) (h2 : ca_E t q) : ca_E s q := fun c hc => (h c hc).trans (h2 c hc)
theorem ca_E_u {s t : Nat → Int32} (h : ca_E s t) (k : Nat) (x : Int32) : ca_E (upd s k x) (upd t k x) := by
  intro c hc
  unfold upd
  by_cases e : c = k
  · rw [if_pos e, if_pos e]
  · rw [if_neg e, if_neg e]; exact h c hc
theorem ca_nx8 (p : gh_W) : ca_nx p < 8 := Nat.mod_lt _ (by decide)
theorem ca_cl_e {c : Nat} {v : Int32} {s t : Nat → Int32} (h : ca_E s t) : ∀ n i, (ca_cl c v s n i).1 = (ca_cl c v t n i).1 ∧ ca_E (ca_cl c v s n i).2 (ca_cl c v t n i).2 := by
  intro n
  induction n with
  | zero => intro i; exact ⟨rfl, h⟩
  | succ n ih =>
    intro i
    have e : s ((c + i) % 8) = t ((c + i) % 8) := h _ (Nat.mod_lt _ (by decide))
    by_cases z : t ((c + i) % 8) = 0
    · simp only [ca_cl, e, if_pos z]
      exact ⟨trivial, ca_E_u h _ _⟩
    · simp only [ca_cl, e, if_neg z]
      exact ih (i + 1)
theorem ca_do_e {p : gh_W} {s t : Nat → Int32} (hp : gh_ce p < 8) (h : ca_E s t) : (ca_do p s).1 = (ca_do p t).1 ∧ ca_E (ca_do p s).2 (ca_do p t).2 := by
  have e1 : s (gh_ce p) = t (gh_ce p) := h _ hp
  have e2 : s (ca_nx p) = t (ca_nx p) := h _ (ca_nx8 p)
  have e3 : ∀ x, upd s (gh_ce p) x (ca_nx p) = upd t (gh_ce p) x (ca_nx p) := fun x => ca_E_u h _ _ _ (ca_nx8 p)
  by_cases k0 : gh_kd p = 0
  · simp only [ca_do, if_pos k0]; exact ⟨trivial, ca_E_u h _ _⟩
  by_cases k1 : gh_kd p = 1
  · simp only [ca_do, if_neg k0, if_pos k1, e1]; exact ⟨trivial, ca_E_u h _ _⟩
  by_cases k2 : gh_kd p = 2
  · by_cases a : t (gh_ce p) < gh_va p
    · by_cases b : t (ca_nx p) < gh_va p
      · simp only [ca_do, if_neg k0, if_neg k1, if_pos k2, e1, e2, if_pos a, if_pos b]; exact ⟨trivial, h⟩
      · simp only [ca_do, if_neg k0, if_neg k1, if_pos k2, e1, e2, if_pos a, if_neg b]; exact ⟨trivial, ca_E_u h _ _⟩
    · simp only [ca_do, if_neg k0, if_neg k1, if_pos k2, e1, if_neg a]; exact ⟨trivial, ca_E_u h _ _⟩
  by_cases k3 : gh_kd p = 3
  · by_cases a : t (gh_ce p) < gh_va p
    · simp only [ca_do, if_neg k0, if_neg k1, if_neg k2, if_pos k3, e1, if_pos a]; exact ⟨trivial, h⟩
    · simp only [ca_do, if_neg k0, if_neg k1, if_neg k2, if_pos k3, e1, if_neg a, e3]; exact ⟨trivial, ca_E_u (ca_E_u h _ _) _ _⟩
  by_cases k4 : gh_kd p = 4
  · simp only [ca_do, if_neg k0, if_neg k1, if_neg k2, if_neg k3, if_pos k4]; exact ca_cl_e h 8 0
  · simp only [ca_do, if_neg k0, if_neg k1, if_neg k2, if_neg k3, if_neg k4, e1, e2]; exact ⟨trivial, ca_E_u (ca_E_u h _ _) _ _⟩
/-- a claim changes one cell at most -/
theorem ca_cl_un {c : Nat} {v : Int32} {s : Nat → Int32} : ∀ n i, ∃ k, ∀ j, j ≠ k → (ca_cl c v s n i).2 j = s j := by
  intro n
  induction n with
  | zero => intro i; exact ⟨0, fun _ _ => rfl⟩
  | succ n ih =>
    intro i
    by_cases z : s ((c + i) % 8) = 0
    · refine ⟨(c + i) % 8, fun j hj => ?_⟩
      simp only [ca_cl, if_pos z]
      exact pk_un hj
    · obtain ⟨k, hk⟩ := ih (i + 1)
      refine ⟨k, fun j hj => ?_⟩
      simp only [ca_cl, if_neg z]
      exact hk j hj
theorem ca_un4 {p : gh_W} (k4 : gh_kd p = 4) (s : Nat → Int32) : ∃ k, ∀ j, j ≠ k → (ca_do p s).2 j = s j := by
  have e : ca_do p s = ca_cl (gh_ce p) (gh_va p) s 8 0 := by
    simp only [ca_do, k4]
    rfl
  rw [e]
  exact ca_cl_un 8 0
theorem ca_un {p : gh_W} (k4 : ¬ gh_kd p = 4) (s : Nat → Int32) {j : Nat} (h1 : j ≠ gh_ce p) (h2 : j ≠ ca_nx p) : (ca_do p s).2 j = s j := by
  have u2 : ∀ (x y : Int32), upd (upd s (gh_ce p) x) (ca_nx p) y j = s j := fun x y => (pk_un h2).trans (pk_un h1)
  by_cases k0 : gh_kd p = 0
  · simp only [ca_do, if_pos k0]; exact pk_un h1
  by_cases k1 : gh_kd p = 1
  · simp only [ca_do, if_neg k0, if_pos k1]; exact pk_un h1
  by_cases k2 : gh_kd p = 2
  · by_cases a : s (gh_ce p) < gh_va p
    · by_cases b : s (ca_nx p) < gh_va p
      · simp only [ca_do, if_neg k0, if_neg k1, if_pos k2, if_pos a, if_pos b]
      · simp only [ca_do, if_neg k0, if_neg k1, if_pos k2, if_pos a, if_neg b]; exact pk_un h2
    · simp only [ca_do, if_neg k0, if_neg k1, if_pos k2, if_neg a]; exact pk_un h1
  by_cases k3 : gh_kd p = 3
  · by_cases a : s (gh_ce p) < gh_va p
    · simp only [ca_do, if_neg k0, if_neg k1, if_neg k2, if_pos k3, if_pos a]
    · simp only [ca_do, if_neg k0, if_neg k1, if_neg k2, if_pos k3, if_neg a]; exact u2 _ _
  · simp only [ca_do, if_neg k0, if_neg k1, if_neg k2, if_neg k3, if_neg k4]; exact u2 _ _
/-- an outcome is 2, 3 or 4 -/
theorem ca_cl_o {c : Nat} {v : Int32} {s : Nat → Int32} : ∀ n i, (ca_cl c v s n i).1 = 2 ∨ (ca_cl c v s n i).1 = 3 ∨ (ca_cl c v s n i).1 = 4 := by
  intro n
  induction n with
  | zero => intro i; exact Or.inr (Or.inr rfl)
  | succ n ih =>
    intro i
    by_cases z : s ((c + i) % 8) = 0
    · by_cases y : i = 0
      · simp only [ca_cl, if_pos z, if_pos y]; exact Or.inl trivial
      · simp only [ca_cl, if_pos z, if_neg y]; exact Or.inr (Or.inl trivial)
    · simp only [ca_cl, if_neg z]
      exact ih (i + 1)
theorem ca_do_o (p : gh_W) (s : Nat → Int32) : (ca_do p s).1 = 2 ∨ (ca_do p s).1 = 3 ∨ (ca_do p s).1 = 4 := by
  unfold ca_do
  repeat' split
  all_goals first | exact Or.inl rfl | exact Or.inr (Or.inl rfl) | exact Or.inr (Or.inr rfl) | exact ca_cl_o 8 0
theorem ca_do_n0 (p : gh_W) (s : Nat → Int32) : ¬ (ca_do p s).1 = 0 := by
  rcases ca_do_o p s with h | h | h <;> rw [h] <;> decide

/-! runs -/
def rn_l (P : Nat → gh_W) : (Nat → Int32) → List Nat → (Nat → Int32)
  | s, [] => s
  | s, w :: l => rn_l P (ca_do (P w) s).2 l
theorem rn_app (P : Nat → gh_W) (l : List Nat) (w : Nat) : ∀ s, rn_l P s (l ++ [w]) = (ca_do (P w) (rn_l P s l)).2 := by
  induction l with
  | nil => intro s; rfl
  | cons x l ih => intro s; exact ih _
theorem rn_cg {P P' : Nat → gh_W} : ∀ (l : List Nat) (s : Nat → Int32), (∀ w, w ∈ l → P w = P' w) → rn_l P s l = rn_l P' s l := by
  intro l
  induction l with
  | nil => intro s _; rfl
  | cons x l ih =>
    intro s h
    show rn_l P (ca_do (P x) s).2 l = rn_l P' (ca_do (P' x) s).2 l
    rw [h x List.mem_cons_self]
    exact ih _ (fun w hw => h w (List.mem_cons_of_mem _ hw))
theorem rn_e {P : Nat → gh_W} : ∀ (l : List Nat) (s t : Nat → Int32), (∀ w, w ∈ l → gh_ce (P w) < 8) → ca_E s t → ca_E (rn_l P s l) (rn_l P t l) := by
  intro l
  induction l with
  | nil => intro s t _ h; exact h
  | cons x l ih =>
    intro s t h e
    exact ih _ _ (fun w hw => h w (List.mem_cons_of_mem _ hw)) (ca_do_e (h x List.mem_cons_self) e).2
def ro_s (P : Nat → gh_W) (ord : Nat → Nat) : Nat → (Nat → Int32)
  | 0 => fun _ => 0
  | d + 1 => (ca_do (P (ord d)) (ro_s P ord d)).2
theorem ro_cg {P P' : Nat → gh_W} {ord ord' : Nat → Nat} : ∀ d, (∀ i, i < d → P (ord i) = P' (ord' i)) → ro_s P ord d = ro_s P' ord' d := by
  intro d
  induction d with
  | zero => intro _; rfl
  | succ d ih =>
    intro h
    show (ca_do (P (ord d)) (ro_s P ord d)).2 = (ca_do (P' (ord' d)) (ro_s P' ord' d)).2
    rw [h d (by omega), ih (fun i hi => h i (by omega))]
theorem rn_snoc {P : Nat → gh_W} {s : Nat → Int32} {T : List Nat} {i w : Nat} (h : T[i]? = some w) : rn_l P s (T.take (i + 1)) = (ca_do (P w) (rn_l P s (T.take i))).2 := by
  have e : T.take (i + 1) = T.take i ++ [w] := by rw [List.take_add_one, h]; rfl
  rw [e]
  exact rn_app P _ w s

/-! counts -/
def ct_n (Q : Nat → gh_W) (o : Nat) : Nat → Nat
  | 0 => 0
  | n + 1 => ct_n Q o n + (if gh_og (Q n) = o then 1 else 0)
theorem ct_s (Q : Nat → gh_W) (o n : Nat) : ct_n Q o (n + 1) = ct_n Q o n + (if gh_og (Q n) = o then 1 else 0) := rfl
theorem ct_s1 {Q : Nat → gh_W} {o n : Nat} (h : gh_og (Q n) = o) : ct_n Q o (n + 1) = ct_n Q o n + 1 := by
  rw [ct_s, if_pos h]
theorem ct_s0 {Q : Nat → gh_W} {o n : Nat} (h : ¬ gh_og (Q n) = o) : ct_n Q o (n + 1) = ct_n Q o n := by
  rw [ct_s, if_neg h]; rfl
theorem ct_le (Q : Nat → gh_W) (o : Nat) : ∀ n, ct_n Q o n ≤ n := by
  intro n
  induction n with
  | zero => exact Nat.le_refl 0
  | succ n ih =>
    by_cases h : gh_og (Q n) = o
    · rw [ct_s1 h]; omega
    · rw [ct_s0 h]; omega
theorem ct_sm (Q : Nat → gh_W) (o n : Nat) : ct_n Q o n ≤ ct_n Q o (n + 1) := Nat.le_add_right _ _
theorem ct_mo (Q : Nat → gh_W) (o : Nat) {m n : Nat} (h : m ≤ n) : ct_n Q o m ≤ ct_n Q o n := by
  obtain ⟨d, rfl⟩ : ∃ d, n = m + d := ⟨n - m, by omega⟩
  clear h
  induction d with
  | zero => exact Nat.le_refl _
  | succ d ih => exact Nat.le_trans ih (ct_sm Q o (m + d))
theorem ct_lt {Q : Nat → gh_W} {o i n : Nat} (hi : i < n) (h : gh_og (Q i) = o) : ct_n Q o i < ct_n Q o n := by
  have h1 : ct_n Q o (i + 1) ≤ ct_n Q o n := ct_mo Q o hi
  rw [ct_s1 h] at h1
  omega
theorem ct_ex {Q : Nat → gh_W} {o t : Nat} : ∀ n, t < ct_n Q o n → ∃ i, i < n ∧ gh_og (Q i) = o ∧ ct_n Q o i = t := by
  intro n
  induction n with
  | zero => intro h; exact absurd h (Nat.not_lt_zero _)
  | succ n ih =>
    intro h
    by_cases h2 : t < ct_n Q o n
    · obtain ⟨i, hi, a, b⟩ := ih h2
      exact ⟨i, by omega, a, b⟩
    · by_cases g : gh_og (Q n) = o
      · rw [ct_s1 g] at h
        exact ⟨n, by omega, g, by omega⟩
      · rw [ct_s0 g] at h
        exact absurd h h2
theorem ct_inj {Q : Nat → gh_W} {o i j : Nat} (hi : gh_og (Q i) = o) (hj : gh_og (Q j) = o) (h : ct_n Q o i = ct_n Q o j) : i = j := by
  rcases Nat.lt_trichotomy i j with a | a | a
  · have := ct_lt a hi; omega
  · exact a
  · have := ct_lt a hj; omega
theorem ct_cg {Q Q' : Nat → gh_W} {o : Nat} : ∀ n, (∀ i, i < n → Q i = Q' i) → ct_n Q o n = ct_n Q' o n := by
  intro n
  induction n with
  | zero => intro _; rfl
  | succ n ih =>
    intro h
    rw [ct_s, ct_s, ih (fun i hi => h i (by omega)), h n (by omega)]
/-- the four origins' counts add up -/
theorem ct_4 {Q : Nat → gh_W} : ∀ n, (∀ i, i < n → gh_og (Q i) < 4) → ct_n Q 0 n + ct_n Q 1 n + ct_n Q 2 n + ct_n Q 3 n = n := by
  intro n
  induction n with
  | zero => intro _; rfl
  | succ n ih =>
    intro h
    have a := ih (fun i hi => h i (by omega))
    have b := h n (by omega)
    rw [ct_s, ct_s, ct_s, ct_s]
    generalize gh_og (Q n) = g at b ⊢
    rcases (show g = 0 ∨ g = 1 ∨ g = 2 ∨ g = 3 by omega) with e | e | e | e <;> subst e <;> simp <;> omega
/-- how many of the first n writes have a turn in [a, b) by origin -/
def kn_n (P : Nat → gh_W) (a b : Nat → Nat) : Nat → Nat
  | 0 => 0
  | n + 1 => kn_n P a b n + (if a (gh_og (P n)) ≤ gh_tn (P n) ∧ gh_tn (P n) < b (gh_og (P n)) then 1 else 0)
theorem kn_1 (a b c : Nat) : min b (c + 1) - min a (c + 1) = min b c - min a c + (if a ≤ c ∧ c < b then 1 else 0) := by
  by_cases h : a ≤ c ∧ c < b
  · rw [if_pos h]; omega
  · rw [if_neg h]; omega
theorem kn_eq {P : Nat → gh_W} {a b : Nat → Nat} : ∀ n, (∀ w, w < n → gh_og (P w) < 4 ∧ gh_tn (P w) = ct_n P (gh_og (P w)) w) →
    kn_n P a b n = (min (b 0) (ct_n P 0 n) - min (a 0) (ct_n P 0 n)) + (min (b 1) (ct_n P 1 n) - min (a 1) (ct_n P 1 n))
      + (min (b 2) (ct_n P 2 n) - min (a 2) (ct_n P 2 n)) + (min (b 3) (ct_n P 3 n) - min (a 3) (ct_n P 3 n)) := by
  intro n
  induction n with
  | zero => intro _; simp [kn_n, ct_n]
  | succ n ih =>
    intro h
    have i1 := ih (fun w hw => h w (by omega))
    obtain ⟨g4, tn⟩ := h n (by omega)
    show kn_n P a b n + _ = _
    rw [tn, i1]
    generalize eg : gh_og (P n) = g at g4
    rcases (show g = 0 ∨ g = 1 ∨ g = 2 ∨ g = 3 by omega) with e | e | e | e
    · subst e
      rw [ct_s1 (o := 0) eg, ct_s0 (o := 1) (by omega), ct_s0 (o := 2) (by omega), ct_s0 (o := 3) (by omega), kn_1]
      omega
    · subst e
      rw [ct_s1 (o := 1) eg, ct_s0 (o := 0) (by omega), ct_s0 (o := 2) (by omega), ct_s0 (o := 3) (by omega), kn_1]
      omega
    · subst e
      rw [ct_s1 (o := 2) eg, ct_s0 (o := 0) (by omega), ct_s0 (o := 1) (by omega), ct_s0 (o := 3) (by omega), kn_1]
      omega
    · subst e
      rw [ct_s1 (o := 3) eg, ct_s0 (o := 0) (by omega), ct_s0 (o := 1) (by omega), ct_s0 (o := 2) (by omega), kn_1]
      omega
theorem kn_le (P : Nat → gh_W) (a b : Nat → Nat) : ∀ n, kn_n P a b n ≤ n := by
  intro n
  induction n with
  | zero => exact Nat.le_refl 0
  | succ n ih =>
    show kn_n P a b n + _ ≤ _
    by_cases h : a (gh_og (P n)) ≤ gh_tn (P n) ∧ gh_tn (P n) < b (gh_og (P n))
    · rw [if_pos h]; omega
    · rw [if_neg h]; omega
end
section
/-! the pure invariant -/
def gh_u {α : Type} (f : Nat → α) (k : Nat) (x : α) : Nat → α := fun j => if j = k then x else f j
theorem gh_us {α : Type} {f : Nat → α} {k : Nat} {x : α} : gh_u f k x k = x := if_pos rfl
theorem gh_un {α : Type} {f : Nat → α} {k j : Nat} {x : α} (h : j ≠ k) : gh_u f k x j = f j := if_neg h
def gh_q (P : Nat → gh_W) (ord : Nat → Nat) : Nat → gh_W := fun i => P (ord i)
def gh_lt (P : Nat → gh_W) (a b : Nat) : Prop := gh_st (P a) < gh_st (P b) ∨ (gh_st (P a) = gh_st (P b) ∧ gh_og (P a) < gh_og (P b))
theorem gh_lt_ir {P : Nat → gh_W} {a : Nat} : ¬ gh_lt P a a := by
  intro h; unfold gh_lt at h; omega
theorem gh_lt_tr {P : Nat → gh_W} {a b c : Nat} (h : gh_lt P a b) (h2 : gh_lt P b c) : gh_lt P a c := by
  unfold gh_lt at *; omega
theorem gh_lt_as {P : Nat → gh_W} {a b : Nat} (h : gh_lt P a b) : ¬ gh_lt P b a := by
  intro h2; unfold gh_lt at *; omega
def gh_ok (nr nw : Nat) (P : Nat → gh_W) (ck : Nat → Nat) : Prop :=
  2 ≤ nr ∧ nr ≤ 4 ∧ nw ≤ 48 ∧
  (∀ w, w < nw → gh_og (P w) < nr ∧ gh_tn (P w) = ct_n P (gh_og (P w)) w ∧ gh_st (P w) ≤ ck (gh_og (P w)) ∧ gh_kd (P w) ≤ 5 ∧ gh_ce (P w) < 8) ∧
  (∀ w w', w < w' → w' < nw → gh_og (P w) = gh_og (P w') → gh_st (P w) < gh_st (P w')) ∧
  (∀ r, r < nr → ck r ≤ nw)
theorem gh_tot {nr nw : Nat} {P : Nat → gh_W} {ck : Nat → Nat} (H : gh_ok nr nw P ck) {a b : Nat} (ha : a < nw) (hb : b < nw) (hne : a ≠ b) (h : ¬ gh_lt P a b) : gh_lt P b a := by
  obtain ⟨_, _, _, _, hs, _⟩ := H
  unfold gh_lt at *
  by_cases e : gh_og (P a) = gh_og (P b)
  · rcases Nat.lt_or_gt_of_ne hne with c | c
    · have := hs a b c hb e; omega
    · have := hs b a c ha e.symm; omega
  · omega
theorem gh_tn_inj {nr nw : Nat} {P : Nat → gh_W} {ck : Nat → Nat} (H : gh_ok nr nw P ck) {a b : Nat} (ha : a < nw) (hb : b < nw) (ho : gh_og (P a) = gh_og (P b)) (ht : gh_tn (P a) = gh_tn (P b)) : a = b := by
  obtain ⟨_, _, _, hw, _, _⟩ := H
  have h1 := (hw a ha).2.1
  have h2 := (hw b hb).2.1
  exact ct_inj ho rfl (by rw [← ho, ← h1, ht, h2, ho])
theorem gh_tn_lt {nr nw : Nat} {P : Nat → gh_W} {ck : Nat → Nat} (H : gh_ok nr nw P ck) {a : Nat} (ha : a < nw) : gh_tn (P a) < ct_n P (gh_og (P a)) nw := by
  obtain ⟨_, _, _, hw, _, _⟩ := H
  rw [(hw a ha).2.1]
  exact ct_lt ha rfl

/-! sorted lists -/
theorem so_nd {P : Nat → gh_W} {T : List Nat} (h : T.Pairwise (gh_lt P)) : T.Nodup :=
  List.Pairwise.imp (fun {a b} (hab : gh_lt P a b) (e : a = b) => gh_lt_ir (by rw [← e] at hab; exact hab)) h
theorem so_len {T : List Nat} {n : Nat} (hd : T.Nodup) (h : ∀ x, x ∈ T → x < n) : T.length ≤ n := by
  have h1 : T.length ≤ (List.range n).length := List.Nodup.length_le_of_subset hd (fun x hx => List.mem_range.mpr (h x hx))
  rwa [List.length_range] at h1
theorem so_len1 {T : List Nat} {n w : Nat} (hd : T.Nodup) (h : ∀ x, x ∈ T → x < n) (hw : w < n) (hn : ¬ w ∈ T) : T.length < n := by
  have h1 := so_len (T := w :: T) (n := n) (List.nodup_cons.mpr ⟨hn, hd⟩) (by
    intro x hx
    rcases List.mem_cons.mp hx with e | e
    · rw [e]; exact hw
    · exact h x e)
  rw [List.length_cons] at h1
  omega
theorem so_ins_mem {T : List Nat} {p w x : Nat} : x ∈ T.take p ++ w :: T.drop p ↔ x = w ∨ x ∈ T := by
  have e : x ∈ T ↔ x ∈ T.take p ∨ x ∈ T.drop p := by
    rw [← List.mem_append, List.take_append_drop]
  rw [List.mem_append, List.mem_cons, e]
  constructor
  · rintro (h | h | h)
    · exact Or.inr (Or.inl h)
    · exact Or.inl h
    · exact Or.inr (Or.inr h)
  · rintro (h | h | h)
    · exact Or.inr (Or.inl h)
    · exact Or.inl h
    · exact Or.inr (Or.inr h)
theorem so_ins {nr nw : Nat} {P : Nat → gh_W} {ck : Nat → Nat} (H : gh_ok nr nw P ck) {T : List Nat} {p w : Nat} (hs : T.Pairwise (gh_lt P)) (hT : ∀ x, x ∈ T → x < nw) (hw : w < nw) (hn : ¬ w ∈ T) (hp : p ≤ T.length)
    (h1 : ∀ j x, p ≤ j → T[j]? = some x → gh_lt P w x) (h2 : ∀ x, 0 < p → T[p - 1]? = some x → ¬ gh_lt P w x) : (T.take p ++ w :: T.drop p).Pairwise (gh_lt P) := by
  have hs2 := hs
  rw [← List.take_append_drop p T, List.pairwise_append] at hs2
  obtain ⟨ht, hd, hx⟩ := hs2
  have hwd : ∀ x, x ∈ T.drop p → gh_lt P w x := by
    intro x hx
    obtain ⟨i, hi⟩ := List.mem_iff_getElem?.mp hx
    rw [List.getElem?_drop] at hi
    exact h1 (p + i) x (by omega) hi
  rw [List.pairwise_append]
  refine ⟨ht, List.pairwise_cons.mpr ⟨hwd, hd⟩, ?_⟩
  intro a ha b hb
  rcases List.mem_cons.mp hb with e | e
  · rw [e]
    have hp0 : 0 < p := by
      rcases Nat.eq_zero_or_pos p with z | z
      · rw [z] at ha; exact absurd ha (by simp)
      · exact z
    have hy : T[p - 1]? = some (T[p - 1]'(by omega)) := List.getElem?_eq_getElem (by omega)
    generalize T[p - 1]'(by omega) = y at hy
    have hyT : y ∈ T := List.mem_of_getElem? hy
    have hyw : gh_lt P y w := gh_tot H hw (hT y hyT) (fun e => hn (by rw [e]; exact hyT)) (h2 y hp0 hy)
    have et : T.take p = T.take (p - 1) ++ [y] := by
      have e1 : p = (p - 1) + 1 := by omega
      conv => lhs; rw [e1]
      rw [List.take_add_one, hy]; rfl
    rw [et] at ha ht
    rw [List.pairwise_append] at ht
    rcases List.mem_append.mp ha with c | c
    · exact gh_lt_tr (ht.2.2 a c y (List.mem_singleton.mpr rfl)) hyw
    · rw [List.mem_singleton.mp c]; exact hyw
  · exact hx a ha b e
/-- what stands at a place of a list with one number taken out -/
theorem so_er_mem {T : List Nat} {p w x : Nat} (hd : T.Nodup) (hp : T[p]? = some w) : x ∈ T.eraseIdx p ↔ x ∈ T ∧ x ≠ w := by
  rw [List.mem_eraseIdx_iff_getElem?, List.mem_iff_getElem?]
  constructor
  · rintro ⟨i, hi, hx⟩
    refine ⟨⟨i, hx⟩, fun e => hi ?_⟩
    rw [e] at hx
    have hl : i < T.length := (List.getElem?_eq_some_iff.mp hx).1
    exact (List.getElem?_inj hl hd).mp (hx.trans hp.symm)
  · rintro ⟨⟨i, hx⟩, hne⟩
    refine ⟨i, fun e => hne ?_, hx⟩
    rw [e, hp] at hx
    exact (Option.some.inj hx).symm

/-! one replica, and all -/
def gh_rp (nw : Nat) (P : Nat → gh_W) (ord : Nat → Nat) (T : List Nat) (sn : Nat → Nat) (D : Nat) : Prop :=
  (∀ o, sn o ≤ ct_n P o nw) ∧ (∀ o, ct_n (gh_q P ord) o D ≤ sn o) ∧ T.Pairwise (gh_lt P) ∧
  (∀ w, w ∈ T ↔ w < nw ∧ ct_n (gh_q P ord) (gh_og (P w)) D ≤ gh_tn (P w) ∧ gh_tn (P w) < sn (gh_og (P w)))
def gh_or (nw : Nat) (P : Nat → gh_W) (ord : Nat → Nat) (d : Nat) : Prop :=
  ∀ i, i < d → ord i < nw ∧ gh_tn (P (ord i)) = ct_n (gh_q P ord) (gh_og (P (ord i))) i
def gh_inv (nr nw : Nat) (P : Nat → gh_W) (ord : Nat → Nat) (T : Nat → List Nat) (sn : Nat → Nat → Nat) (dn ck tr : Nat → Nat) : Prop :=
  gh_ok nr nw P ck ∧ gh_or nw P ord (dn 0) ∧
  ∀ r, r < nr → dn r ≤ dn 0 ∧ gh_rp nw P ord (T r) (sn r) (dn r) ∧ sn r r = ct_n P r nw ∧ tr r ≤ 48
theorem gh_com {nr nw : Nat} {P : Nat → gh_W} {ck : Nat → Nat} {ord : Nat → Nat} {d D w : Nat} (H : gh_ok nr nw P ck) (O : gh_or nw P ord d) (hD : D ≤ d) (hw : w < nw) :
    (∃ i, i < D ∧ ord i = w) ↔ gh_tn (P w) < ct_n (gh_q P ord) (gh_og (P w)) D := by
  constructor
  · rintro ⟨i, hi, e⟩
    have h1 := (O i (by omega)).2
    rw [e] at h1
    rw [h1]
    exact ct_lt hi (by show gh_og (P (ord i)) = _; rw [e])
  · intro h
    obtain ⟨i, hi, ho, hc⟩ := ct_ex D h
    have h0 : gh_og (P (ord i)) = gh_og (P w) := ho
    obtain ⟨a, b⟩ := O i (by omega)
    exact ⟨i, hi, gh_tn_inj H a hw h0 (by rw [b, h0, hc])⟩
theorem gh_Dsum {nr nw : Nat} {P : Nat → gh_W} {ck : Nat → Nat} {ord : Nat → Nat} {d D : Nat} (H : gh_ok nr nw P ck) (O : gh_or nw P ord d) (hD : D ≤ d) :
    ct_n (gh_q P ord) 0 D + ct_n (gh_q P ord) 1 D + ct_n (gh_q P ord) 2 D + ct_n (gh_q P ord) 3 D = D := by
  refine ct_4 D (fun i hi => ?_)
  have h := (H.2.2.2.1 _ (O i (by omega)).1).1
  have h4 := H.2.1
  exact Nat.lt_of_lt_of_le h h4
theorem gh_wsum {nr nw : Nat} {P : Nat → gh_W} {ck : Nat → Nat} (H : gh_ok nr nw P ck) : ct_n P 0 nw + ct_n P 1 nw + ct_n P 2 nw + ct_n P 3 nw = nw := by
  refine ct_4 nw (fun i hi => ?_)
  have h := (H.2.2.2.1 i hi).1
  have h4 := H.2.1
  omega
theorem gh_Dle {nr nw : Nat} {P : Nat → gh_W} {ck : Nat → Nat} {ord : Nat → Nat} {d D : Nat} {T : List Nat} {sn : Nat → Nat} (H : gh_ok nr nw P ck) (O : gh_or nw P ord d) (hD : D ≤ d) (R : gh_rp nw P ord T sn D) : D ≤ nw := by
  have h1 := gh_Dsum H O hD
  have h2 := gh_wsum H
  obtain ⟨a, b, _, _⟩ := R
  have a0 := a 0; have a1 := a 1; have a2 := a 2; have a3 := a 3
  have b0 := b 0; have b1 := b 1; have b2 := b 2; have b3 := b 3
  omega
theorem gh_Dlt {nr nw : Nat} {P : Nat → gh_W} {ck : Nat → Nat} {ord : Nat → Nat} {d D w : Nat} {T : List Nat} {sn : Nat → Nat} (H : gh_ok nr nw P ck) (O : gh_or nw P ord d) (hD : D ≤ d) (R : gh_rp nw P ord T sn D) (hw : w ∈ T) : D < nw := by
  have h1 := gh_Dsum H O hD
  have h2 := gh_wsum H
  obtain ⟨a, b, _, m⟩ := R
  obtain ⟨m1, m2, m3⟩ := (m w).mp hw
  have g4 : gh_og (P w) < 4 := Nat.lt_of_lt_of_le (H.2.2.2.1 w m1).1 H.2.1
  have a0 := a 0; have a1 := a 1; have a2 := a 2; have a3 := a 3
  have b0 := b 0; have b1 := b 1; have b2 := b 2; have b3 := b 3
  generalize gh_og (P w) = g at g4 m2 m3
  rcases (show g = 0 ∨ g = 1 ∨ g = 2 ∨ g = 3 by omega) with e | e | e | e <;> subst e <;> omega
theorem gh_Tlt {nw : Nat} {P : Nat → gh_W} {ord : Nat → Nat} {D : Nat} {T : List Nat} {sn : Nat → Nat} (R : gh_rp nw P ord T sn D) {x : Nat} (hx : x ∈ T) : x < nw := ((R.2.2.2 x).mp hx).1
theorem gh_Tlen {nw : Nat} {P : Nat → gh_W} {ord : Nat → Nat} {D : Nat} {T : List Nat} {sn : Nat → Nat} (R : gh_rp nw P ord T sn D) : T.length ≤ nw :=
  so_len (so_nd R.2.2.1) (fun _ hx => gh_Tlt R hx)

/-! a write -/
theorem gh_wP {P : Nat → gh_W} {nw i : Nat} {p : gh_W} (h : i < nw) : gh_u P nw p i = P i := gh_un (by omega)
theorem gh_wct {P : Nat → gh_W} {nw n o : Nat} {p : gh_W} (h : n ≤ nw) : ct_n (gh_u P nw p) o n = ct_n P o n :=
  ct_cg n (fun i hi => gh_wP (by omega))
theorem gh_wcq {P : Nat → gh_W} {ord : Nat → Nat} {nw d D o : Nat} {p : gh_W} (O : gh_or nw P ord d) (h : D ≤ d) : ct_n (gh_q (gh_u P nw p) ord) o D = ct_n (gh_q P ord) o D :=
  ct_cg D (fun i hi => gh_wP (O i (by omega)).1)
theorem gh_wlt {P : Nat → gh_W} {nw a b : Nat} {p : gh_W} (ha : a < nw) (hb : b < nw) : gh_lt (gh_u P nw p) a b ↔ gh_lt P a b := by
  unfold gh_lt
  rw [gh_wP ha, gh_wP hb]
theorem gh_w_ok {nr nw r : Nat} {P : Nat → gh_W} {ck : Nat → Nat} {p : gh_W} (H : gh_ok nr nw P ck) (hnw : nw < 48) (hr : r < nr)
    (po : gh_og p = r) (pt : gh_tn p = ct_n P r nw) (ps : gh_st p = ck r + 1) (pk : gh_kd p ≤ 5) (pc : gh_ce p < 8) :
    gh_ok nr (nw + 1) (gh_u P nw p) (gh_u ck r (ck r + 1)) := by
  obtain ⟨h2, h4, h48, hw, hs, hc⟩ := H
  refine ⟨h2, h4, by omega, ?_, ?_, ?_⟩
  · intro w hw1
    rcases Nat.lt_or_ge w nw with c | c
    · rw [gh_wP c, gh_wct (by omega)]
      obtain ⟨a1, a2, a3, a4, a5⟩ := hw w c
      refine ⟨a1, a2, ?_, a4, a5⟩
      by_cases e : gh_og (P w) = r
      · rw [e, gh_us]; rw [e] at a3; omega
      · rw [gh_un e]; exact a3
    · have e : w = nw := by omega
      subst e
      rw [gh_us, gh_wct (Nat.le_refl _), po]
      exact ⟨hr, pt, by rw [gh_us, ps]; exact Nat.le_refl _, pk, pc⟩
  · intro w w' hl hw1 ho
    rcases Nat.lt_or_ge w' nw with c | c
    · rw [gh_wP c, gh_wP (by omega)] at *
      exact hs w w' hl c ho
    · have e : w' = nw := by omega
      subst e
      rw [gh_us, gh_wP hl] at *
      have a3 := (hw w hl).2.2.1
      rw [ho, po] at a3
      omega
  · intro r' hr'
    by_cases e : r' = r
    · subst e; rw [gh_us]; have := hc r' hr'; omega
    · rw [gh_un e]; have := hc r' hr'; omega
theorem gh_w_or {nw d : Nat} {P : Nat → gh_W} {ord : Nat → Nat} {p : gh_W} (O : gh_or nw P ord d) : gh_or (nw + 1) (gh_u P nw p) ord d := by
  intro i hi
  obtain ⟨a, b⟩ := O i hi
  refine ⟨by omega, ?_⟩
  rw [gh_wP a, gh_wcq O (by omega)]
  exact b
/-- a replica that doesn't take the write -/
theorem gh_w_rp0 {nw d D r : Nat} {P : Nat → gh_W} {ord : Nat → Nat} {T : List Nat} {sn : Nat → Nat} {p : gh_W} (O : gh_or nw P ord d) (hD : D ≤ d) (R : gh_rp nw P ord T sn D)
    (po : gh_og p = r) (pt : gh_tn p = ct_n P r nw) : gh_rp (nw + 1) (gh_u P nw p) ord T sn D := by
  obtain ⟨a, b, s, m⟩ := R
  refine ⟨?_, ?_, ?_, ?_⟩
  · intro o
    refine Nat.le_trans (a o) ?_
    rw [← gh_wct (p := p) (Nat.le_refl nw)]
    exact ct_sm _ _ _
  · intro o; rw [gh_wcq O hD]; exact b o
  · exact List.Pairwise.imp_of_mem (fun {x y} hx hy hxy => (gh_wlt ((m x).mp hx).1 ((m y).mp hy).1).mpr hxy) s
  · intro w
    rcases Nat.lt_or_ge w nw with c | c
    · rw [gh_wP c, gh_wcq O hD, m w]
      constructor
      · rintro ⟨x, y⟩; exact ⟨by omega, y⟩
      · rintro ⟨x, y⟩; exact ⟨c, y⟩
    · constructor
      · intro h; exact absurd ((m w).mp h).1 (by omega)
      · rintro ⟨x, y, z⟩
        have e : w = nw := by omega
        subst e
        rw [gh_us, po, pt] at z
        have := a r
        omega
/-- the replica that takes it -/
theorem gh_w_rp1 {nr nw d D r : Nat} {P : Nat → gh_W} {ck : Nat → Nat} {ord : Nat → Nat} {T T' : List Nat} {sn : Nat → Nat} {p : gh_W} (H : gh_ok nr nw P ck) (O : gh_or nw P ord d) (hD : D ≤ d) (R : gh_rp nw P ord T sn D)
    (po : gh_og p = r) (pt : gh_tn p = ct_n P r nw) (hr : sn r = ct_n P r nw) (hs : T'.Pairwise (gh_lt (gh_u P nw p))) (hm : ∀ x, x ∈ T' ↔ x = nw ∨ x ∈ T) :
    gh_rp (nw + 1) (gh_u P nw p) ord T' (gh_u sn r (sn r + 1)) D := by
  obtain ⟨a, b, s, m⟩ := R
  refine ⟨?_, ?_, hs, ?_⟩
  · intro o
    by_cases e : o = r
    · subst e
      rw [gh_us, ct_s1 (by rw [gh_us]; exact po), gh_wct (Nat.le_refl _), hr]
      exact Nat.le_refl _
    · rw [gh_un e]
      refine Nat.le_trans (a o) ?_
      rw [← gh_wct (p := p) (Nat.le_refl nw)]
      exact ct_sm _ _ _
  · intro o
    rw [gh_wcq O hD]
    have := b o
    by_cases e : o = r
    · subst e; rw [gh_us]; omega
    · rw [gh_un e]; exact this
  · intro w
    rw [hm w]
    rcases Nat.lt_or_ge w nw with c | c
    · rw [gh_wP c, gh_wcq O hD, m w]
      have t1 := gh_tn_lt H c
      by_cases e : gh_og (P w) = r
      · rw [e, gh_us]
        rw [e] at t1
        constructor
        · rintro (x | ⟨x, y, z⟩)
          · omega
          · exact ⟨by omega, y, by omega⟩
        · rintro ⟨x, y, z⟩
          exact Or.inr ⟨c, y, by omega⟩
      · rw [gh_un e]
        constructor
        · rintro (x | ⟨x, y, z⟩)
          · omega
          · exact ⟨by omega, y, by omega⟩
        · rintro ⟨x, y, z⟩
          exact Or.inr ⟨c, y, by omega⟩
    · constructor
      · rintro (x | x)
        · subst x
          rw [gh_us, po, pt, gh_wcq O hD, gh_us]
          have := b r
          exact ⟨by omega, by omega, by omega⟩
        · exact absurd ((m w).mp x).1 (by omega)
      · rintro ⟨x, y, z⟩
        exact Or.inl (by omega)
theorem gh_w_sn {nw r r' : Nat} {P : Nat → gh_W} {p : gh_W} (po : gh_og p = r) : ct_n (gh_u P nw p) r' (nw + 1) = if r' = r then ct_n P r' nw + 1 else ct_n P r' nw := by
  rw [ct_s, gh_us, po, gh_wct (Nat.le_refl _)]
  by_cases e : r' = r
  · rw [if_pos e.symm, if_pos e]
  · rw [if_neg (fun h => e h.symm), if_neg e]; rfl
end
section
/-! a commit of the first tentative write of replica 0 -/
theorem gh_c_tn {nr nw d w : Nat} {P : Nat → gh_W} {ck : Nat → Nat} {ord : Nat → Nat} {T' : List Nat} {sn : Nat → Nat} (H : gh_ok nr nw P ck) (R : gh_rp nw P ord (w :: T') sn d) :
    gh_tn (P w) = ct_n (gh_q P ord) (gh_og (P w)) d := by
  obtain ⟨a, b, s, m⟩ := R
  obtain ⟨m1, m2, m3⟩ := (m w).mp List.mem_cons_self
  rcases Nat.eq_or_lt_of_le m2 with e | e
  · exact e.symm
  · exfalso
    have tw := (H.2.2.2.1 w m1).2.1
    rw [tw] at e
    obtain ⟨i, hi, ho, hc⟩ := ct_ex w e
    have ti := (H.2.2.2.1 i (by omega)).2.1
    rw [ho, hc] at ti
    have hin : i ∈ w :: T' := (m i).mpr ⟨by omega, by rw [ho, ti]; exact Nat.le_refl _, by rw [ho, ti]; omega⟩
    have hst := H.2.2.2.2.1 i w hi m1 ho
    rcases List.mem_cons.mp hin with c | c
    · omega
    · have := (List.pairwise_cons.mp s).1 i c
      unfold gh_lt at this
      omega
theorem gh_c_q {P : Nat → gh_W} {ord : Nat → Nat} {d D o w : Nat} (h : D ≤ d) : ct_n (gh_q P (gh_u ord d w)) o D = ct_n (gh_q P ord) o D :=
  ct_cg D (fun i hi => by unfold gh_q; rw [gh_un (by omega)])
theorem gh_c_q1 {P : Nat → gh_W} {ord : Nat → Nat} {d o w : Nat} : ct_n (gh_q P (gh_u ord d w)) o (d + 1) = ct_n (gh_q P ord) o d + (if gh_og (P w) = o then 1 else 0) := by
  rw [ct_s, gh_c_q (Nat.le_refl _)]
  show _ + (if gh_og (P (gh_u ord d w d)) = o then 1 else 0) = _
  rw [gh_us]
theorem gh_c_ro {P : Nat → gh_W} {ord : Nat → Nat} {d D w : Nat} (h : D ≤ d) : ro_s P (gh_u ord d w) D = ro_s P ord D :=
  ro_cg D (fun i hi => by rw [gh_un (by omega)])
theorem gh_c_or {nw d w : Nat} {P : Nat → gh_W} {ord : Nat → Nat} (O : gh_or nw P ord d) (hw : w < nw) (ht : gh_tn (P w) = ct_n (gh_q P ord) (gh_og (P w)) d) : gh_or nw P (gh_u ord d w) (d + 1) := by
  intro i hi
  by_cases e : i = d
  · subst e
    rw [gh_us, gh_c_q (Nat.le_refl _)]
    exact ⟨hw, ht⟩
  · rw [gh_un e, gh_c_q (by omega)]
    exact O i (by omega)
theorem gh_c_rp0 {nw d D w : Nat} {P : Nat → gh_W} {ord : Nat → Nat} {T : List Nat} {sn : Nat → Nat} (h : D ≤ d) (R : gh_rp nw P ord T sn D) : gh_rp nw P (gh_u ord d w) T sn D := by
  obtain ⟨a, b, s, m⟩ := R
  refine ⟨a, fun o => ?_, s, fun x => ?_⟩
  · rw [gh_c_q h]; exact b o
  · rw [gh_c_q h]; exact m x
theorem gh_c_rp1 {nr nw d w : Nat} {P : Nat → gh_W} {ck : Nat → Nat} {ord : Nat → Nat} {T' : List Nat} {sn : Nat → Nat} (H : gh_ok nr nw P ck) (R : gh_rp nw P ord (w :: T') sn d) : gh_rp nw P (gh_u ord d w) T' sn (d + 1) := by
  have ht := gh_c_tn H R
  obtain ⟨a, b, s, m⟩ := R
  obtain ⟨m1, m2, m3⟩ := (m w).mp List.mem_cons_self
  have hnd := List.nodup_cons.mp (so_nd s)
  refine ⟨a, fun o => ?_, (List.pairwise_cons.mp s).2, fun x => ?_⟩
  · rw [gh_c_q1]
    have := b o
    by_cases e : gh_og (P w) = o
    · rw [if_pos e]; rw [e] at ht m3; omega
    · rw [if_neg e]; omega
  · rw [gh_c_q1]
    have hx : x ∈ T' ↔ x ∈ w :: T' ∧ x ≠ w := by
      constructor
      · intro h; exact ⟨List.mem_cons_of_mem _ h, fun e => hnd.1 (by rw [← e]; exact h)⟩
      · rintro ⟨h, n⟩
        rcases List.mem_cons.mp h with c | c
        · exact absurd c n
        · exact c
    rw [hx, m x]
    by_cases e : gh_og (P w) = gh_og (P x)
    · rw [if_pos e]
      constructor
      · rintro ⟨⟨x1, x2, x3⟩, n⟩
        refine ⟨x1, ?_, x3⟩
        rcases Nat.eq_or_lt_of_le x2 with c | c
        · exact absurd (gh_tn_inj H x1 m1 e.symm (by rw [ht, ← c, e])) n
        · omega
      · rintro ⟨x1, x2, x3⟩
        refine ⟨⟨x1, by omega, x3⟩, fun n => ?_⟩
        subst n
        omega
    · rw [if_neg e]
      constructor
      · rintro ⟨⟨x1, x2, x3⟩, n⟩; exact ⟨x1, by omega, x3⟩
      · rintro ⟨x1, x2, x3⟩
        exact ⟨⟨x1, by omega, x3⟩, fun n => e (by rw [n])⟩
theorem gh_c_inv {nr nw w : Nat} {P : Nat → gh_W} {ord : Nat → Nat} {T : Nat → List Nat} {sn : Nat → Nat → Nat} {dn ck tr : Nat → Nat} {T' : List Nat} (I : gh_inv nr nw P ord T sn dn ck tr) (hT : T 0 = w :: T') :
    gh_inv nr nw P (gh_u ord (dn 0) w) (gh_u T 0 T') sn (gh_u dn 0 (dn 0 + 1)) ck tr := by
  obtain ⟨H, O, R⟩ := I
  have h0 : 0 < nr := by have := H.1; omega
  have R0 := (R 0 h0).2.1
  rw [hT] at R0
  have hw : w < nw := gh_Tlt R0 List.mem_cons_self
  refine ⟨H, ?_, fun r hr => ?_⟩
  · rw [gh_us]; exact gh_c_or O hw (gh_c_tn H R0)
  · obtain ⟨a, b, c, e⟩ := R r hr
    by_cases z : r = 0
    · subst z
      rw [gh_us, gh_us]
      exact ⟨Nat.le_refl _, gh_c_rp1 H R0, c, e⟩
    · rw [gh_us, gh_un z, gh_un z]
      exact ⟨by omega, gh_c_rp0 a b, c, e⟩

/-! a meeting: the committed part taken over, then the tentative writes -/
/-- how many committed writes 'to' has after a meeting -/
def gb_x (a b : Nat) : Nat := if a < b then b else a
theorem gb_x1 (a b : Nat) : a ≤ gb_x a b := by unfold gb_x; split <;> omega
theorem gb_x2 (a b : Nat) : b ≤ gb_x a b := by unfold gb_x; split <;> omega
theorem gb_x3 {a b c : Nat} (h : a ≤ c) (h2 : b ≤ c) : gb_x a b ≤ c := by unfold gb_x; split <;> omega
theorem gb_x4 {a b c : Nat} : c < gb_x a b ↔ c < a ∨ c < b := by unfold gb_x; split <;> omega
theorem gb_rp1 {nw Dt Df d : Nat} {P : Nat → gh_W} {ord : Nat → Nat} {T T1 Tf : List Nat} {sn sf : Nat → Nat} (Rt : gh_rp nw P ord T sn Dt) (Rf : gh_rp nw P ord Tf sf Df)
    (hd : d = gb_x Dt Df) (hs : T1.Pairwise (gh_lt P)) (hm : ∀ x, x ∈ T1 ↔ x ∈ T ∧ ct_n (gh_q P ord) (gh_og (P x)) d ≤ gh_tn (P x)) :
    gh_rp nw P ord T1 (fun o => gb_x (sn o) (ct_n (gh_q P ord) o d)) d := by
  obtain ⟨a, b, s, m⟩ := Rt
  obtain ⟨af, bf, sf', mf⟩ := Rf
  refine ⟨fun o => ?_, fun o => gb_x2 _ _, hs, fun x => ?_⟩
  · refine gb_x3 (a o) ?_
    unfold gb_x at hd
    by_cases c : Dt < Df
    · rw [if_pos c] at hd; subst hd; exact Nat.le_trans (bf o) (af o)
    · rw [if_neg c] at hd; subst hd; exact Nat.le_trans (b o) (a o)
  · rw [hm x, m x]
    have h1 : ct_n (gh_q P ord) (gh_og (P x)) Dt ≤ ct_n (gh_q P ord) (gh_og (P x)) d := ct_mo _ _ (by rw [hd]; exact gb_x1 _ _)
    rw [gb_x4]
    constructor
    · rintro ⟨⟨x1, x2, x3⟩, x4⟩; exact ⟨x1, x4, Or.inl x3⟩
    · rintro ⟨x1, x2, x3⟩; exact ⟨⟨x1, by omega, by omega⟩, x2⟩
theorem gb_rp2 {nw Df d : Nat} {P : Nat → gh_W} {ord : Nat → Nat} {T1 T2 Tf : List Nat} {s1 sf s2 : Nat → Nat} (R1 : gh_rp nw P ord T1 s1 d) (Rf : gh_rp nw P ord Tf sf Df) (hd : Df ≤ d)
    (hs : T2.Pairwise (gh_lt P)) (hm : ∀ x, x ∈ T2 ↔ x ∈ T1 ∨ (x ∈ Tf ∧ s1 (gh_og (P x)) ≤ gh_tn (P x))) (h2 : ∀ o, s2 o = gb_x (s1 o) (sf o)) :
    gh_rp nw P ord T2 s2 d := by
  obtain ⟨a, b, s, m⟩ := R1
  obtain ⟨af, bf, sf', mf⟩ := Rf
  refine ⟨fun o => ?_, fun o => ?_, hs, fun x => ?_⟩
  · rw [h2]; exact gb_x3 (a o) (af o)
  · rw [h2]; exact Nat.le_trans (b o) (gb_x1 _ _)
  · rw [hm x, m x, mf x, h2, gb_x4]
    have h1 : ct_n (gh_q P ord) (gh_og (P x)) Df ≤ ct_n (gh_q P ord) (gh_og (P x)) d := ct_mo _ _ hd
    have h3 := b (gh_og (P x))
    constructor
    · rintro (⟨x1, x2, x3⟩ | ⟨⟨x1, x2, x3⟩, x4⟩)
      · exact ⟨x1, x2, Or.inl x3⟩
      · exact ⟨x1, by omega, Or.inr x3⟩
    · rintro ⟨x1, x2, x3⟩
      by_cases c : gh_tn (P x) < s1 (gh_og (P x))
      · exact Or.inl ⟨x1, x2, c⟩
      · exact Or.inr ⟨⟨x1, by omega, by omega⟩, by omega⟩
/-- what 'to' has seen behind a meeting is the greater of both -/
theorem gb_sn {nw Dt Df d : Nat} {P : Nat → gh_W} {ord : Nat → Nat} {T Tf : List Nat} {sn sf : Nat → Nat} (Rt : gh_rp nw P ord T sn Dt) (Rf : gh_rp nw P ord Tf sf Df) (hd : d = gb_x Dt Df) (o : Nat) :
    gb_x (sn o) (sf o) = gb_x (gb_x (sn o) (ct_n (gh_q P ord) o d)) (sf o) := by
  have h1 := Rt.2.1 o
  have h2 := Rf.2.1 o
  have h3 : ct_n (gh_q P ord) o d ≤ gb_x (sn o) (sf o) := by
    unfold gb_x at hd
    by_cases c : Dt < Df
    · rw [if_pos c] at hd; rw [hd]; exact Nat.le_trans h2 (gb_x2 _ _)
    · rw [if_neg c] at hd; rw [hd]; exact Nat.le_trans h1 (gb_x1 _ _)
  generalize ct_n (gh_q P ord) o d = c at h3
  generalize sn o = a at *
  generalize sf o = b at *
  unfold gb_x at *
  split at h3 <;> split <;> split <;> (try split) <;> omega
theorem gb_inv {nr nw f t d : Nat} {P : Nat → gh_W} {ord : Nat → Nat} {T : Nat → List Nat} {sn : Nat → Nat → Nat} {dn ck tr : Nat → Nat} {T1 T2 : List Nat} (I : gh_inv nr nw P ord T sn dn ck tr) (hf : f < nr) (ht : t < nr)
    (hd : d = gb_x (dn t) (dn f)) (hs1 : T1.Pairwise (gh_lt P)) (hm1 : ∀ x, x ∈ T1 ↔ x ∈ T t ∧ ct_n (gh_q P ord) (gh_og (P x)) d ≤ gh_tn (P x))
    (hs2 : T2.Pairwise (gh_lt P)) (hm2 : ∀ x, x ∈ T2 ↔ x ∈ T1 ∨ (x ∈ T f ∧ gb_x (sn t (gh_og (P x))) (ct_n (gh_q P ord) (gh_og (P x)) d) ≤ gh_tn (P x))) :
    gh_inv nr nw P ord (gh_u T t T2) (gh_u sn t (fun o => gb_x (sn t o) (sn f o))) (gh_u dn t d) (gh_u ck t (gb_x (ck t) (ck f))) tr := by
  obtain ⟨H, O, R⟩ := I
  obtain ⟨at1, at2, at3, at4⟩ := R t ht
  obtain ⟨af1, af2, af3, af4⟩ := R f hf
  have hd0 : gh_u dn t d 0 = dn 0 := by
    by_cases z : 0 = t
    · subst z
      rw [gh_us, hd]
      unfold gb_x
      rw [if_neg (by omega)]
    · rw [gh_un z]
  have hdle : d ≤ dn 0 := by rw [hd]; exact gb_x3 at1 af1
  refine ⟨?_, by rw [hd0]; exact O, fun r hr => ?_⟩
  · obtain ⟨h2, h4, h48, hw, hs, hc⟩ := H
    refine ⟨h2, h4, h48, fun w hw1 => ?_, hs, fun r hr => ?_⟩
    · obtain ⟨a1, a2, a3, a4, a5⟩ := hw w hw1
      refine ⟨a1, a2, ?_, a4, a5⟩
      by_cases e : gh_og (P w) = t
      · rw [e, gh_us]; rw [e] at a3; exact Nat.le_trans a3 (gb_x1 _ _)
      · rw [gh_un e]; exact a3
    · by_cases e : r = t
      · subst e; rw [gh_us]; exact gb_x3 (hc r hr) (hc f hf)
      · rw [gh_un e]; exact hc r hr
  · rw [hd0]
    by_cases e : r = t
    · subst e
      rw [gh_us, gh_us, gh_us]
      refine ⟨hdle, ?_, ?_, at4⟩
      · exact gb_rp2 (gb_rp1 at2 af2 hd hs1 hm1) af2 (by rw [hd]; exact gb_x2 _ _) hs2 hm2 (fun o => gb_sn at2 af2 hd o)
      · show gb_x (sn r r) (sn f r) = _
        rw [at3]
        unfold gb_x
        rw [if_neg (by have := af2.1 r; omega)]
    · rw [gh_un e, gh_un e, gh_un e]
      exact R r hr
end
section
/-! printed by wip/C-0406/gen.py: accessors, and the printed loops over the whole tuple -/
def sx_replicas (u : SX) : Int32 := u.1
def sx_writes (u : SX) : Int32 := u.2.1
def sx_origin (u : SX) : Nat → Int32 := u.2.2.1
def sx_turn (u : SX) : Nat → Int32 := u.2.2.2.1
def sx_stamp (u : SX) : Nat → Int32 := u.2.2.2.2.1
def sx_kindOf (u : SX) : Nat → Int32 := u.2.2.2.2.2.1
def sx_cellOf (u : SX) : Nat → Int32 := u.2.2.2.2.2.2.1
def sx_valueOf (u : SX) : Nat → Int32 := u.2.2.2.2.2.2.2.1
def sx_clock (u : SX) : Nat → Int32 := u.2.2.2.2.2.2.2.2.1
def sx_seen (u : SX) : Nat → Int32 := u.2.2.2.2.2.2.2.2.2.1
def sx_fixed (u : SX) : Nat → Int32 := u.2.2.2.2.2.2.2.2.2.2.1
def sx_done (u : SX) : Nat → Int32 := u.2.2.2.2.2.2.2.2.2.2.2.1
def sx_heldFrom (u : SX) : Nat → Int32 := u.2.2.2.2.2.2.2.2.2.2.2.2.1
def sx_trimmed (u : SX) : Nat → Int32 := u.2.2.2.2.2.2.2.2.2.2.2.2.2.1
def sx_log (u : SX) : Nat → Int32 := u.2.2.2.2.2.2.2.2.2.2.2.2.2.2.1
def sx_stableCell (u : SX) : Nat → Int32 := u.2.2.2.2.2.2.2.2.2.2.2.2.2.2.2.1
def sx_nowCell (u : SX) : Nat → Int32 := u.2.2.2.2.2.2.2.2.2.2.2.2.2.2.2.2.1
def sx_waiting (u : SX) : Nat → Int32 := u.2.2.2.2.2.2.2.2.2.2.2.2.2.2.2.2.2.1
def sx_applied (u : SX) : Nat → Int32 := u.2.2.2.2.2.2.2.2.2.2.2.2.2.2.2.2.2.2.1
def sx_tent (u : SX) : Nat → Int32 := u.2.2.2.2.2.2.2.2.2.2.2.2.2.2.2.2.2.2.2.1
def sx_outcome (u : SX) : Nat → Int32 := u.2.2.2.2.2.2.2.2.2.2.2.2.2.2.2.2.2.2.2.2.1
def sx_oldCellA (u : SX) : Nat → Int32 := u.2.2.2.2.2.2.2.2.2.2.2.2.2.2.2.2.2.2.2.2.2.1
def sx_oldValA (u : SX) : Nat → Int32 := u.2.2.2.2.2.2.2.2.2.2.2.2.2.2.2.2.2.2.2.2.2.2.1
def sx_oldCellB (u : SX) : Nat → Int32 := u.2.2.2.2.2.2.2.2.2.2.2.2.2.2.2.2.2.2.2.2.2.2.2.1
def sx_oldValB (u : SX) : Nat → Int32 := u.2.2.2.2.2.2.2.2.2.2.2.2.2.2.2.2.2.2.2.2.2.2.2.2.1
def sx_work (u : SX) : Nat → Int32 := u.2.2.2.2.2.2.2.2.2.2.2.2.2.2.2.2.2.2.2.2.2.2.2.2.2
def sy_replicas (u : SY) : Int32 := u.1
def sy_writes (u : SY) : Int32 := u.2.1
def sy_committed (u : SY) : Int32 := u.2.2.1
def sy_origin (u : SY) : Nat → Int32 := u.2.2.2.1
def sy_stamp (u : SY) : Nat → Int32 := u.2.2.2.2.1
def sy_kind (u : SY) : Nat → Int32 := u.2.2.2.2.2.1
def sy_cellOf (u : SY) : Nat → Int32 := u.2.2.2.2.2.2.1
def sy_valueOf (u : SY) : Nat → Int32 := u.2.2.2.2.2.2.2.1
def sy_knows (u : SY) : Nat → Int32 := u.2.2.2.2.2.2.2.2.1
def sy_order (u : SY) : Nat → Int32 := u.2.2.2.2.2.2.2.2.2.1
def sy_m (u : SY) : Nat → Int32 := u.2.2.2.2.2.2.2.2.2.2.1
def sy_clock (u : SY) : Nat → Int32 := u.2.2.2.2.2.2.2.2.2.2.2.1
def sy_trimmed (u : SY) : Nat → Int32 := u.2.2.2.2.2.2.2.2.2.2.2.2.1
def sy_store (u : SY) : Nat → Int32 := u.2.2.2.2.2.2.2.2.2.2.2.2.2.1
def sy_stands (u : SY) : Nat → Int32 := u.2.2.2.2.2.2.2.2.2.2.2.2.2.2
def sx_setw (u : SX) (w : Nat → Int32) : SX := match u with
  | (f_replicas, f_writes, a_origin, a_turn, a_stamp, a_kindOf, a_cellOf, a_valueOf, a_clock, a_seen, a_fixed, a_done, a_heldFrom, a_trimmed, a_log, a_stableCell, a_nowCell, a_waiting, a_applied, a_tent, a_outcome, a_oldCellA, a_oldValA, a_oldCellB, a_oldValB, a_work) => (f_replicas, f_writes, a_origin, a_turn, a_stamp, a_kindOf, a_cellOf, a_valueOf, a_clock, a_seen, a_fixed, a_done, a_heldFrom, a_trimmed, a_log, a_stableCell, a_nowCell, a_waiting, a_applied, a_tent, a_outcome, a_oldCellA, a_oldValA, a_oldCellB, a_oldValB, w)
def sy_sets (u : SY) (s : Nat → Int32) : SY := match u with
  | (f_replicas, f_writes, f_committed, a_origin, a_stamp, a_kind, a_cellOf, a_valueOf, a_knows, a_order, a_m, a_clock, a_trimmed, a_store, a_stands) => (f_replicas, f_writes, f_committed, a_origin, a_stamp, a_kind, a_cellOf, a_valueOf, a_knows, a_order, a_m, a_clock, a_trimmed, s, a_stands)
def sy_setd (u : SY) (s : Nat → Int32) : SY := match u with
  | (f_replicas, f_writes, f_committed, a_origin, a_stamp, a_kind, a_cellOf, a_valueOf, a_knows, a_order, a_m, a_clock, a_trimmed, a_store, a_stands) => (f_replicas, f_writes, f_committed, a_origin, a_stamp, a_kind, a_cellOf, a_valueOf, a_knows, a_order, a_m, a_clock, a_trimmed, a_store, s)
def ux_init_206 (post : SX → Prop) (x2 : Int32) (u : SX) : Prop := match u with
  | (f_replicas, f_writes, a_origin, a_turn, a_stamp, a_kindOf, a_cellOf, a_valueOf, a_clock, a_seen, a_fixed, a_done, a_heldFrom, a_trimmed, a_log, a_stableCell, a_nowCell, a_waiting, a_applied, a_tent, a_outcome, a_oldCellA, a_oldValA, a_oldCellB, a_oldValB, a_work) => wX_init_206 post x2 f_replicas f_writes a_origin a_turn a_stamp a_kindOf a_cellOf a_valueOf a_clock a_seen a_fixed a_done a_heldFrom a_trimmed a_log a_stableCell a_nowCell a_waiting a_applied a_tent a_outcome a_oldCellA a_oldValA a_oldCellB a_oldValB a_work
def ux_undoTo_9 (post : SX → Prop) (x1 : Int32) (x2 : Int32) (n : Nat) (x3 : Int32) (u : SX) : Prop := match u with
  | (f_replicas, f_writes, a_origin, a_turn, a_stamp, a_kindOf, a_cellOf, a_valueOf, a_clock, a_seen, a_fixed, a_done, a_heldFrom, a_trimmed, a_log, a_stableCell, a_nowCell, a_waiting, a_applied, a_tent, a_outcome, a_oldCellA, a_oldValA, a_oldCellB, a_oldValB, a_work) => wX_undoTo_9 post x1 x2 f_replicas f_writes n x3 a_origin a_turn a_stamp a_kindOf a_cellOf a_valueOf a_clock a_seen a_fixed a_done a_heldFrom a_trimmed a_log a_stableCell a_nowCell a_waiting a_applied a_tent a_outcome a_oldCellA a_oldValA a_oldCellB a_oldValB a_work
def ux_insert_60 (post : SX → Prop) (x1 : Int32) (x2 : Int32) (x3 : Int32) (x4 : Int32) (n : Nat) (x5 : Int32) (u : SX) : Prop := match u with
  | (f_replicas, f_writes, a_origin, a_turn, a_stamp, a_kindOf, a_cellOf, a_valueOf, a_clock, a_seen, a_fixed, a_done, a_heldFrom, a_trimmed, a_log, a_stableCell, a_nowCell, a_waiting, a_applied, a_tent, a_outcome, a_oldCellA, a_oldValA, a_oldCellB, a_oldValB, a_work) => wX_insert_60 post x1 x2 x3 x4 f_replicas f_writes n x5 a_origin a_turn a_stamp a_kindOf a_cellOf a_valueOf a_clock a_seen a_fixed a_done a_heldFrom a_trimmed a_log a_stableCell a_nowCell a_waiting a_applied a_tent a_outcome a_oldCellA a_oldValA a_oldCellB a_oldValB a_work
def ux_insert_50 (post : SX → Prop) (x1 : Int32) (x2 : Int32) (x3 : Int32) (x4 : Int32) (u : SX) : Prop := match u with
  | (f_replicas, f_writes, a_origin, a_turn, a_stamp, a_kindOf, a_cellOf, a_valueOf, a_clock, a_seen, a_fixed, a_done, a_heldFrom, a_trimmed, a_log, a_stableCell, a_nowCell, a_waiting, a_applied, a_tent, a_outcome, a_oldCellA, a_oldValA, a_oldCellB, a_oldValB, a_work) => wX_insert_50 post x1 x2 x3 x4 f_replicas f_writes a_origin a_turn a_stamp a_kindOf a_cellOf a_valueOf a_clock a_seen a_fixed a_done a_heldFrom a_trimmed a_log a_stableCell a_nowCell a_waiting a_applied a_tent a_outcome a_oldCellA a_oldValA a_oldCellB a_oldValB a_work
def ux_insert_17 (post : SX → Prop) (x1 : Int32) (x2 : Int32) (x3 : Int32) (n : Nat) (x4 : Int32) (u : SX) : Prop := match u with
  | (f_replicas, f_writes, a_origin, a_turn, a_stamp, a_kindOf, a_cellOf, a_valueOf, a_clock, a_seen, a_fixed, a_done, a_heldFrom, a_trimmed, a_log, a_stableCell, a_nowCell, a_waiting, a_applied, a_tent, a_outcome, a_oldCellA, a_oldValA, a_oldCellB, a_oldValB, a_work) => wX_insert_17 post x1 x2 x3 f_replicas f_writes a_origin a_turn a_stamp a_kindOf a_cellOf a_valueOf a_clock a_seen a_fixed a_done a_heldFrom a_trimmed a_log a_stableCell a_nowCell a_waiting a_applied a_tent a_outcome a_oldCellA a_oldValA a_oldCellB a_oldValB a_work n x4
def ux_claim_2 (post : Int32 → SX → Prop) (x1 : Int32) (x2 : Int32) (n : Nat) (x3 : Int32) (u : SX) : Prop := match u with
  | (f_replicas, f_writes, a_origin, a_turn, a_stamp, a_kindOf, a_cellOf, a_valueOf, a_clock, a_seen, a_fixed, a_done, a_heldFrom, a_trimmed, a_log, a_stableCell, a_nowCell, a_waiting, a_applied, a_tent, a_outcome, a_oldCellA, a_oldValA, a_oldCellB, a_oldValB, a_work) => wX_claim_2 post x1 x2 f_replicas f_writes a_origin a_turn a_stamp a_kindOf a_cellOf a_valueOf a_clock a_seen a_fixed a_done a_heldFrom a_trimmed a_log a_stableCell a_nowCell a_waiting a_applied a_tent a_outcome a_oldCellA a_oldValA a_oldCellB a_oldValB a_work n x3
def ux_firstChanged_2 (post : Int32 → Prop) (x1 : Int32) (x2 : Int32) (n : Nat) (x3 : Int32) (u : SX) : Prop := match u with
  | (f_replicas, f_writes, a_origin, a_turn, a_stamp, a_kindOf, a_cellOf, a_valueOf, a_clock, a_seen, a_fixed, a_done, a_heldFrom, a_trimmed, a_log, a_stableCell, a_nowCell, a_waiting, a_applied, a_tent, a_outcome, a_oldCellA, a_oldValA, a_oldCellB, a_oldValB, a_work) => wX_firstChanged_2 post x1 x2 f_replicas f_writes a_origin a_turn a_stamp a_kindOf a_cellOf a_valueOf a_clock a_seen a_fixed a_done a_heldFrom a_trimmed a_log a_stableCell a_nowCell a_waiting a_applied a_tent a_outcome a_oldCellA a_oldValA a_oldCellB a_oldValB a_work n x3
def ux_applyOne_155 (post : SX → Prop) (x1 : Int32) (n : Nat) (x7 : Int32) (u : SX) : Prop := match u with
  | (f_replicas, f_writes, a_origin, a_turn, a_stamp, a_kindOf, a_cellOf, a_valueOf, a_clock, a_seen, a_fixed, a_done, a_heldFrom, a_trimmed, a_log, a_stableCell, a_nowCell, a_waiting, a_applied, a_tent, a_outcome, a_oldCellA, a_oldValA, a_oldCellB, a_oldValB, a_work) => wX_applyOne_155 post x1 f_replicas f_writes n x7 a_origin a_turn a_stamp a_kindOf a_cellOf a_valueOf a_clock a_seen a_fixed a_done a_heldFrom a_trimmed a_log a_stableCell a_nowCell a_waiting a_applied a_tent a_outcome a_oldCellA a_oldValA a_oldCellB a_oldValB a_work
def ux_applyOne_100 (post : SX → Prop) (x1 : Int32) (x3 : Int32) (x5 : Int32) (x6 : Int32) (u : SX) : Prop := match u with
  | (f_replicas, f_writes, a_origin, a_turn, a_stamp, a_kindOf, a_cellOf, a_valueOf, a_clock, a_seen, a_fixed, a_done, a_heldFrom, a_trimmed, a_log, a_stableCell, a_nowCell, a_waiting, a_applied, a_tent, a_outcome, a_oldCellA, a_oldValA, a_oldCellB, a_oldValB, a_work) => wX_applyOne_100 post x1 x3 x5 x6 f_replicas f_writes a_origin a_turn a_stamp a_kindOf a_cellOf a_valueOf a_clock a_seen a_fixed a_done a_heldFrom a_trimmed a_log a_stableCell a_nowCell a_waiting a_applied a_tent a_outcome a_oldCellA a_oldValA a_oldCellB a_oldValB a_work
def ux_applyOne_18 (post : SX → Prop) (x1 : Int32) (x3 : Int32) (x4 : Int32) (n : Nat) (x5 : Int32) (u : SX) : Prop := match u with
  | (f_replicas, f_writes, a_origin, a_turn, a_stamp, a_kindOf, a_cellOf, a_valueOf, a_clock, a_seen, a_fixed, a_done, a_heldFrom, a_trimmed, a_log, a_stableCell, a_nowCell, a_waiting, a_applied, a_tent, a_outcome, a_oldCellA, a_oldValA, a_oldCellB, a_oldValB, a_work) => wX_applyOne_18 post x1 x3 x4 f_replicas f_writes n x5 a_origin a_turn a_stamp a_kindOf a_cellOf a_valueOf a_clock a_seen a_fixed a_done a_heldFrom a_trimmed a_log a_stableCell a_nowCell a_waiting a_applied a_tent a_outcome a_oldCellA a_oldValA a_oldCellB a_oldValB a_work
def ux_applyAll_7 (post : SX → Prop) (x1 : Int32) (n : Nat) (x2 : Int32) (u : SX) : Prop := match u with
  | (f_replicas, f_writes, a_origin, a_turn, a_stamp, a_kindOf, a_cellOf, a_valueOf, a_clock, a_seen, a_fixed, a_done, a_heldFrom, a_trimmed, a_log, a_stableCell, a_nowCell, a_waiting, a_applied, a_tent, a_outcome, a_oldCellA, a_oldValA, a_oldCellB, a_oldValB, a_work) => wX_applyAll_7 post x1 n x2 f_replicas f_writes a_origin a_turn a_stamp a_kindOf a_cellOf a_valueOf a_clock a_seen a_fixed a_done a_heldFrom a_trimmed a_log a_stableCell a_nowCell a_waiting a_applied a_tent a_outcome a_oldCellA a_oldValA a_oldCellB a_oldValB a_work
def ux_transferState_157 (post : SX → Prop) (x2 : Int32) (n : Nat) (x3 : Int32) (x4 : Int32) (u : SX) : Prop := match u with
  | (f_replicas, f_writes, a_origin, a_turn, a_stamp, a_kindOf, a_cellOf, a_valueOf, a_clock, a_seen, a_fixed, a_done, a_heldFrom, a_trimmed, a_log, a_stableCell, a_nowCell, a_waiting, a_applied, a_tent, a_outcome, a_oldCellA, a_oldValA, a_oldCellB, a_oldValB, a_work) => wX_transferState_157 post x2 f_replicas f_writes n x3 x4 a_origin a_turn a_stamp a_kindOf a_cellOf a_valueOf a_clock a_seen a_fixed a_done a_heldFrom a_trimmed a_log a_stableCell a_nowCell a_waiting a_applied a_tent a_outcome a_oldCellA a_oldValA a_oldCellB a_oldValB a_work
def ux_transferState_66 (post : SX → Prop) (x1 : Int32) (x2 : Int32) (n : Nat) (x3 : Int32) (u : SX) : Prop := match u with
  | (f_replicas, f_writes, a_origin, a_turn, a_stamp, a_kindOf, a_cellOf, a_valueOf, a_clock, a_seen, a_fixed, a_done, a_heldFrom, a_trimmed, a_log, a_stableCell, a_nowCell, a_waiting, a_applied, a_tent, a_outcome, a_oldCellA, a_oldValA, a_oldCellB, a_oldValB, a_work) => wX_transferState_66 post x1 x2 f_replicas f_writes n x3 a_origin a_turn a_stamp a_kindOf a_cellOf a_valueOf a_clock a_seen a_fixed a_done a_heldFrom a_trimmed a_log a_stableCell a_nowCell a_waiting a_applied a_tent a_outcome a_oldCellA a_oldValA a_oldCellB a_oldValB a_work
def ux_transferState_8 (post : SX → Prop) (x1 : Int32) (x2 : Int32) (n : Nat) (x3 : Int32) (u : SX) : Prop := match u with
  | (f_replicas, f_writes, a_origin, a_turn, a_stamp, a_kindOf, a_cellOf, a_valueOf, a_clock, a_seen, a_fixed, a_done, a_heldFrom, a_trimmed, a_log, a_stableCell, a_nowCell, a_waiting, a_applied, a_tent, a_outcome, a_oldCellA, a_oldValA, a_oldCellB, a_oldValB, a_work) => wX_transferState_8 post x1 x2 f_replicas f_writes n x3 a_origin a_turn a_stamp a_kindOf a_cellOf a_valueOf a_clock a_seen a_fixed a_done a_heldFrom a_trimmed a_log a_stableCell a_nowCell a_waiting a_applied a_tent a_outcome a_oldCellA a_oldValA a_oldCellB a_oldValB a_work
def ux_removeTentative_54 (post : SX → Prop) (x1 : Int32) (x3 : Int32) (x4 : Int32) (n : Nat) (x5 : Int32) (u : SX) : Prop := match u with
  | (f_replicas, f_writes, a_origin, a_turn, a_stamp, a_kindOf, a_cellOf, a_valueOf, a_clock, a_seen, a_fixed, a_done, a_heldFrom, a_trimmed, a_log, a_stableCell, a_nowCell, a_waiting, a_applied, a_tent, a_outcome, a_oldCellA, a_oldValA, a_oldCellB, a_oldValB, a_work) => wX_removeTentative_54 post x1 x3 x4 f_replicas f_writes n x5 a_origin a_turn a_stamp a_kindOf a_cellOf a_valueOf a_clock a_seen a_fixed a_done a_heldFrom a_trimmed a_log a_stableCell a_nowCell a_waiting a_applied a_tent a_outcome a_oldCellA a_oldValA a_oldCellB a_oldValB a_work
def ux_removeTentative_38 (post : SX → Prop) (x1 : Int32) (x3 : Int32) (x4 : Int32) (u : SX) : Prop := match u with
  | (f_replicas, f_writes, a_origin, a_turn, a_stamp, a_kindOf, a_cellOf, a_valueOf, a_clock, a_seen, a_fixed, a_done, a_heldFrom, a_trimmed, a_log, a_stableCell, a_nowCell, a_waiting, a_applied, a_tent, a_outcome, a_oldCellA, a_oldValA, a_oldCellB, a_oldValB, a_work) => wX_removeTentative_38 post x1 x3 x4 f_replicas f_writes a_origin a_turn a_stamp a_kindOf a_cellOf a_valueOf a_clock a_seen a_fixed a_done a_heldFrom a_trimmed a_log a_stableCell a_nowCell a_waiting a_applied a_tent a_outcome a_oldCellA a_oldValA a_oldCellB a_oldValB a_work
def ux_removeTentative_10 (post : SX → Prop) (x1 : Int32) (x2 : Int32) (x3 : Int32) (n : Nat) (x4 : Int32) (u : SX) : Prop := match u with
  | (f_replicas, f_writes, a_origin, a_turn, a_stamp, a_kindOf, a_cellOf, a_valueOf, a_clock, a_seen, a_fixed, a_done, a_heldFrom, a_trimmed, a_log, a_stableCell, a_nowCell, a_waiting, a_applied, a_tent, a_outcome, a_oldCellA, a_oldValA, a_oldCellB, a_oldValB, a_work) => wX_removeTentative_10 post x1 x2 x3 f_replicas f_writes a_origin a_turn a_stamp a_kindOf a_cellOf a_valueOf a_clock a_seen a_fixed a_done a_heldFrom a_trimmed a_log a_stableCell a_nowCell a_waiting a_applied a_tent a_outcome a_oldCellA a_oldValA a_oldCellB a_oldValB a_work n x4
def ux_fix_97 (post : SX → Prop) (x1 : Int32) (x2 : Int32) (x3 : Int32) (n : Nat) (x4 : Int32) (u : SX) : Prop := match u with
  | (f_replicas, f_writes, a_origin, a_turn, a_stamp, a_kindOf, a_cellOf, a_valueOf, a_clock, a_seen, a_fixed, a_done, a_heldFrom, a_trimmed, a_log, a_stableCell, a_nowCell, a_waiting, a_applied, a_tent, a_outcome, a_oldCellA, a_oldValA, a_oldCellB, a_oldValB, a_work) => wX_fix_97 post x1 x2 x3 f_replicas f_writes n x4 a_origin a_turn a_stamp a_kindOf a_cellOf a_valueOf a_clock a_seen a_fixed a_done a_heldFrom a_trimmed a_log a_stableCell a_nowCell a_waiting a_applied a_tent a_outcome a_oldCellA a_oldValA a_oldCellB a_oldValB a_work
def ux_fix_56 (post : SX → Prop) (x1 : Int32) (x2 : Int32) (x3 : Int32) (n : Nat) (x4 : Int32) (u : SX) : Prop := match u with
  | (f_replicas, f_writes, a_origin, a_turn, a_stamp, a_kindOf, a_cellOf, a_valueOf, a_clock, a_seen, a_fixed, a_done, a_heldFrom, a_trimmed, a_log, a_stableCell, a_nowCell, a_waiting, a_applied, a_tent, a_outcome, a_oldCellA, a_oldValA, a_oldCellB, a_oldValB, a_work) => wX_fix_56 post x1 x2 x3 f_replicas f_writes n x4 a_origin a_turn a_stamp a_kindOf a_cellOf a_valueOf a_clock a_seen a_fixed a_done a_heldFrom a_trimmed a_log a_stableCell a_nowCell a_waiting a_applied a_tent a_outcome a_oldCellA a_oldValA a_oldCellB a_oldValB a_work
def ux_fix_47 (post : SX → Prop) (x1 : Int32) (x2 : Int32) (x3 : Int32) (u : SX) : Prop := match u with
  | (f_replicas, f_writes, a_origin, a_turn, a_stamp, a_kindOf, a_cellOf, a_valueOf, a_clock, a_seen, a_fixed, a_done, a_heldFrom, a_trimmed, a_log, a_stableCell, a_nowCell, a_waiting, a_applied, a_tent, a_outcome, a_oldCellA, a_oldValA, a_oldCellB, a_oldValB, a_work) => wX_fix_47 post x1 x2 x3 f_replicas f_writes a_origin a_turn a_stamp a_kindOf a_cellOf a_valueOf a_clock a_seen a_fixed a_done a_heldFrom a_trimmed a_log a_stableCell a_nowCell a_waiting a_applied a_tent a_outcome a_oldCellA a_oldValA a_oldCellB a_oldValB a_work
def ux_fix_36 (post : SX → Prop) (x1 : Int32) (x2 : Int32) (z0 : Int32) (u : SX) : Prop := match u with
  | (f_replicas, f_writes, a_origin, a_turn, a_stamp, a_kindOf, a_cellOf, a_valueOf, a_clock, a_seen, a_fixed, a_done, a_heldFrom, a_trimmed, a_log, a_stableCell, a_nowCell, a_waiting, a_applied, a_tent, a_outcome, a_oldCellA, a_oldValA, a_oldCellB, a_oldValB, a_work) => wX_fix_36 post x1 x2 z0 f_replicas f_writes a_origin a_turn a_stamp a_kindOf a_cellOf a_valueOf a_clock a_seen a_fixed a_done a_heldFrom a_trimmed a_log a_stableCell a_nowCell a_waiting a_applied a_tent a_outcome a_oldCellA a_oldValA a_oldCellB a_oldValB a_work
def ux_fix_35 (post : SX → Prop) (x1 : Int32) (x2 : Int32) (u : SX) : Prop := match u with
  | (f_replicas, f_writes, a_origin, a_turn, a_stamp, a_kindOf, a_cellOf, a_valueOf, a_clock, a_seen, a_fixed, a_done, a_heldFrom, a_trimmed, a_log, a_stableCell, a_nowCell, a_waiting, a_applied, a_tent, a_outcome, a_oldCellA, a_oldValA, a_oldCellB, a_oldValB, a_work) => wX_fix_35 post x1 x2 f_replicas f_writes a_origin a_turn a_stamp a_kindOf a_cellOf a_valueOf a_clock a_seen a_fixed a_done a_heldFrom a_trimmed a_log a_stableCell a_nowCell a_waiting a_applied a_tent a_outcome a_oldCellA a_oldValA a_oldCellB a_oldValB a_work
def ux_transferLog_47 (post : SX → Prop) (x2 : Int32) (n : Nat) (x4 : Int32) (u : SX) : Prop := match u with
  | (f_replicas, f_writes, a_origin, a_turn, a_stamp, a_kindOf, a_cellOf, a_valueOf, a_clock, a_seen, a_fixed, a_done, a_heldFrom, a_trimmed, a_log, a_stableCell, a_nowCell, a_waiting, a_applied, a_tent, a_outcome, a_oldCellA, a_oldValA, a_oldCellB, a_oldValB, a_work) => wX_transferLog_47 post x2 f_replicas f_writes n x4 a_origin a_turn a_stamp a_kindOf a_cellOf a_valueOf a_clock a_seen a_fixed a_done a_heldFrom a_trimmed a_log a_stableCell a_nowCell a_waiting a_applied a_tent a_outcome a_oldCellA a_oldValA a_oldCellB a_oldValB a_work
def ux_transferLog_15 (post : SX → Prop) (x1 : Int32) (x2 : Int32) (x3 : Int32) (n : Nat) (x4 : Int32) (u : SX) : Prop := match u with
  | (f_replicas, f_writes, a_origin, a_turn, a_stamp, a_kindOf, a_cellOf, a_valueOf, a_clock, a_seen, a_fixed, a_done, a_heldFrom, a_trimmed, a_log, a_stableCell, a_nowCell, a_waiting, a_applied, a_tent, a_outcome, a_oldCellA, a_oldValA, a_oldCellB, a_oldValB, a_work) => wX_transferLog_15 post x1 x2 x3 n x4 f_replicas f_writes a_origin a_turn a_stamp a_kindOf a_cellOf a_valueOf a_clock a_seen a_fixed a_done a_heldFrom a_trimmed a_log a_stableCell a_nowCell a_waiting a_applied a_tent a_outcome a_oldCellA a_oldValA a_oldCellB a_oldValB a_work
def ux_bring_274 (post : Int32 → SX → Prop) (x2 : Int32) (x3 : Int32) (u : SX) : Prop := match u with
  | (f_replicas, f_writes, a_origin, a_turn, a_stamp, a_kindOf, a_cellOf, a_valueOf, a_clock, a_seen, a_fixed, a_done, a_heldFrom, a_trimmed, a_log, a_stableCell, a_nowCell, a_waiting, a_applied, a_tent, a_outcome, a_oldCellA, a_oldValA, a_oldCellB, a_oldValB, a_work) => wX_bring_274 post x2 x3 f_replicas f_writes a_origin a_turn a_stamp a_kindOf a_cellOf a_valueOf a_clock a_seen a_fixed a_done a_heldFrom a_trimmed a_log a_stableCell a_nowCell a_waiting a_applied a_tent a_outcome a_oldCellA a_oldValA a_oldCellB a_oldValB a_work
def ux_bring_193 (post : Int32 → SX → Prop) (x1 : Int32) (x2 : Int32) (x3 : Int32) (n : Nat) (x4 : Int32) (u : SX) : Prop := match u with
  | (f_replicas, f_writes, a_origin, a_turn, a_stamp, a_kindOf, a_cellOf, a_valueOf, a_clock, a_seen, a_fixed, a_done, a_heldFrom, a_trimmed, a_log, a_stableCell, a_nowCell, a_waiting, a_applied, a_tent, a_outcome, a_oldCellA, a_oldValA, a_oldCellB, a_oldValB, a_work) => wX_bring_193 post x1 x2 x3 f_replicas f_writes n x4 a_origin a_turn a_stamp a_kindOf a_cellOf a_valueOf a_clock a_seen a_fixed a_done a_heldFrom a_trimmed a_log a_stableCell a_nowCell a_waiting a_applied a_tent a_outcome a_oldCellA a_oldValA a_oldCellB a_oldValB a_work
def ux_bring_126 (post : Int32 → SX → Prop) (x1 : Int32) (x2 : Int32) (x3 : Int32) (n : Nat) (x4 : Int32) (u : SX) : Prop := match u with
  | (f_replicas, f_writes, a_origin, a_turn, a_stamp, a_kindOf, a_cellOf, a_valueOf, a_clock, a_seen, a_fixed, a_done, a_heldFrom, a_trimmed, a_log, a_stableCell, a_nowCell, a_waiting, a_applied, a_tent, a_outcome, a_oldCellA, a_oldValA, a_oldCellB, a_oldValB, a_work) => wX_bring_126 post x1 x2 x3 n x4 f_replicas f_writes a_origin a_turn a_stamp a_kindOf a_cellOf a_valueOf a_clock a_seen a_fixed a_done a_heldFrom a_trimmed a_log a_stableCell a_nowCell a_waiting a_applied a_tent a_outcome a_oldCellA a_oldValA a_oldCellB a_oldValB a_work
def ux_bring_31 (post : Int32 → SX → Prop) (x1 : Int32) (x2 : Int32) (n : Nat) (x3 : Int32) (x4 : Int32) (u : SX) : Prop := match u with
  | (f_replicas, f_writes, a_origin, a_turn, a_stamp, a_kindOf, a_cellOf, a_valueOf, a_clock, a_seen, a_fixed, a_done, a_heldFrom, a_trimmed, a_log, a_stableCell, a_nowCell, a_waiting, a_applied, a_tent, a_outcome, a_oldCellA, a_oldValA, a_oldCellB, a_oldValB, a_work) => wX_bring_31 post x1 x2 f_replicas f_writes a_origin a_turn a_stamp a_kindOf a_cellOf a_valueOf a_clock a_seen a_fixed a_done a_heldFrom a_trimmed a_log a_stableCell a_nowCell a_waiting a_applied a_tent a_outcome a_oldCellA a_oldValA a_oldCellB a_oldValB a_work n x3 x4
def ux_commit_2 (post : Int32 → SX → Prop) (x1 : Int32) (n : Nat) (x2 : Int32) (u : SX) : Prop := match u with
  | (f_replicas, f_writes, a_origin, a_turn, a_stamp, a_kindOf, a_cellOf, a_valueOf, a_clock, a_seen, a_fixed, a_done, a_heldFrom, a_trimmed, a_log, a_stableCell, a_nowCell, a_waiting, a_applied, a_tent, a_outcome, a_oldCellA, a_oldValA, a_oldCellB, a_oldValB, a_work) => wX_commit_2 post x1 n x2 f_replicas f_writes a_origin a_turn a_stamp a_kindOf a_cellOf a_valueOf a_clock a_seen a_fixed a_done a_heldFrom a_trimmed a_log a_stableCell a_nowCell a_waiting a_applied a_tent a_outcome a_oldCellA a_oldValA a_oldCellB a_oldValB a_work
def ux_trim_54 (post : Int32 → SX → Prop) (x1 : Int32) (x3 : Int32) (u : SX) : Prop := match u with
  | (f_replicas, f_writes, a_origin, a_turn, a_stamp, a_kindOf, a_cellOf, a_valueOf, a_clock, a_seen, a_fixed, a_done, a_heldFrom, a_trimmed, a_log, a_stableCell, a_nowCell, a_waiting, a_applied, a_tent, a_outcome, a_oldCellA, a_oldValA, a_oldCellB, a_oldValB, a_work) => wX_trim_54 post x1 x3 f_replicas f_writes a_origin a_turn a_stamp a_kindOf a_cellOf a_valueOf a_clock a_seen a_fixed a_done a_heldFrom a_trimmed a_log a_stableCell a_nowCell a_waiting a_applied a_tent a_outcome a_oldCellA a_oldValA a_oldCellB a_oldValB a_work
def ux_trim_37 (post : Int32 → SX → Prop) (x1 : Int32) (x3 : Int32) (u : SX) : Prop := match u with
  | (f_replicas, f_writes, a_origin, a_turn, a_stamp, a_kindOf, a_cellOf, a_valueOf, a_clock, a_seen, a_fixed, a_done, a_heldFrom, a_trimmed, a_log, a_stableCell, a_nowCell, a_waiting, a_applied, a_tent, a_outcome, a_oldCellA, a_oldValA, a_oldCellB, a_oldValB, a_work) => wX_trim_37 post x1 x3 f_replicas f_writes a_origin a_turn a_stamp a_kindOf a_cellOf a_valueOf a_clock a_seen a_fixed a_done a_heldFrom a_trimmed a_log a_stableCell a_nowCell a_waiting a_applied a_tent a_outcome a_oldCellA a_oldValA a_oldCellB a_oldValB a_work
def ux_trim_19 (post : Int32 → SX → Prop) (x1 : Int32) (z0 : Int32) (u : SX) : Prop := match u with
  | (f_replicas, f_writes, a_origin, a_turn, a_stamp, a_kindOf, a_cellOf, a_valueOf, a_clock, a_seen, a_fixed, a_done, a_heldFrom, a_trimmed, a_log, a_stableCell, a_nowCell, a_waiting, a_applied, a_tent, a_outcome, a_oldCellA, a_oldValA, a_oldCellB, a_oldValB, a_work) => wX_trim_19 post x1 z0 f_replicas f_writes a_origin a_turn a_stamp a_kindOf a_cellOf a_valueOf a_clock a_seen a_fixed a_done a_heldFrom a_trimmed a_log a_stableCell a_nowCell a_waiting a_applied a_tent a_outcome a_oldCellA a_oldValA a_oldCellB a_oldValB a_work
def ux_known_14 (post : Int32 → Prop) (x1 : Int32) (n : Nat) (x2 : Int32) (x3 : Int32) (u : SX) : Prop := match u with
  | (f_replicas, f_writes, a_origin, a_turn, a_stamp, a_kindOf, a_cellOf, a_valueOf, a_clock, a_seen, a_fixed, a_done, a_heldFrom, a_trimmed, a_log, a_stableCell, a_nowCell, a_waiting, a_applied, a_tent, a_outcome, a_oldCellA, a_oldValA, a_oldCellB, a_oldValB, a_work) => wX_known_14 post x1 f_replicas f_writes a_origin a_turn a_stamp a_kindOf a_cellOf a_valueOf a_clock a_seen a_fixed a_done a_heldFrom a_trimmed a_log a_stableCell a_nowCell a_waiting a_applied a_tent a_outcome a_oldCellA a_oldValA a_oldCellB a_oldValB a_work n x2 x3
def ux_standing_72 (post : Int32 → Prop) (x1 : Int32) (x2 : Int32) (n : Nat) (x4 : Int32) (u : SX) : Prop := match u with
  | (f_replicas, f_writes, a_origin, a_turn, a_stamp, a_kindOf, a_cellOf, a_valueOf, a_clock, a_seen, a_fixed, a_done, a_heldFrom, a_trimmed, a_log, a_stableCell, a_nowCell, a_waiting, a_applied, a_tent, a_outcome, a_oldCellA, a_oldValA, a_oldCellB, a_oldValB, a_work) => wX_standing_72 post x1 x2 f_replicas f_writes a_origin a_turn a_stamp a_kindOf a_cellOf a_valueOf a_clock a_seen a_fixed a_done a_heldFrom a_trimmed a_log a_stableCell a_nowCell a_waiting a_applied a_tent a_outcome a_oldCellA a_oldValA a_oldCellB a_oldValB a_work n x4
def uy_init_107 (post : SY → Prop) (x2 : Int32) (u : SY) : Prop := match u with
  | (f_replicas, f_writes, f_committed, a_origin, a_stamp, a_kind, a_cellOf, a_valueOf, a_knows, a_order, a_m, a_clock, a_trimmed, a_store, a_stands) => wY_init_107 post x2 f_replicas f_writes f_committed a_origin a_stamp a_kind a_cellOf a_valueOf a_knows a_order a_m a_clock a_trimmed a_store a_stands
def uy_bring_119 (post : Int32 → SY → Prop) (x1 : Int32) (x2 : Int32) (x3 : Int32) (u : SY) : Prop := match u with
  | (f_replicas, f_writes, f_committed, a_origin, a_stamp, a_kind, a_cellOf, a_valueOf, a_knows, a_order, a_m, a_clock, a_trimmed, a_store, a_stands) => wY_bring_119 post x1 x2 x3 f_replicas f_writes f_committed a_origin a_stamp a_kind a_cellOf a_valueOf a_knows a_order a_m a_clock a_trimmed a_store a_stands
def uy_bring_31 (post : Int32 → SY → Prop) (x1 : Int32) (x2 : Int32) (n : Nat) (x3 : Int32) (x4 : Int32) (u : SY) : Prop := match u with
  | (f_replicas, f_writes, f_committed, a_origin, a_stamp, a_kind, a_cellOf, a_valueOf, a_knows, a_order, a_m, a_clock, a_trimmed, a_store, a_stands) => wY_bring_31 post x1 x2 f_replicas f_writes f_committed n x3 x4 a_origin a_stamp a_kind a_cellOf a_valueOf a_knows a_order a_m a_clock a_trimmed a_store a_stands
def uy_claim_2 (post : Int32 → SY → Prop) (x1 : Int32) (x2 : Int32) (n : Nat) (x3 : Int32) (u : SY) : Prop := match u with
  | (f_replicas, f_writes, f_committed, a_origin, a_stamp, a_kind, a_cellOf, a_valueOf, a_knows, a_order, a_m, a_clock, a_trimmed, a_store, a_stands) => wY_claim_2 post x1 x2 f_replicas f_writes f_committed a_origin a_stamp a_kind a_cellOf a_valueOf a_knows a_order a_m a_clock a_trimmed a_store a_stands n x3
def uy_firstLeft_4 (post : Int32 → Prop) (x1 : Int32) (n : Nat) (x2 : Int32) (x3 : Int32) (u : SY) : Prop := match u with
  | (f_replicas, f_writes, f_committed, a_origin, a_stamp, a_kind, a_cellOf, a_valueOf, a_knows, a_order, a_m, a_clock, a_trimmed, a_store, a_stands) => wY_firstLeft_4 post x1 f_replicas f_writes f_committed a_origin a_stamp a_kind a_cellOf a_valueOf a_knows a_order a_m a_clock a_trimmed a_store a_stands n x2 x3
def uy_replay_85 (post : SY → Prop) (x1 : Int32) (x2 : Int32) (n : Nat) (x3 : Int32) (u : SY) : Prop := match u with
  | (f_replicas, f_writes, f_committed, a_origin, a_stamp, a_kind, a_cellOf, a_valueOf, a_knows, a_order, a_m, a_clock, a_trimmed, a_store, a_stands) => wY_replay_85 post x1 x2 n x3 f_replicas f_writes f_committed a_origin a_stamp a_kind a_cellOf a_valueOf a_knows a_order a_m a_clock a_trimmed a_store a_stands
def uy_replay_44 (post : SY → Prop) (x1 : Int32) (x2 : Int32) (n : Nat) (x3 : Int32) (u : SY) : Prop := match u with
  | (f_replicas, f_writes, f_committed, a_origin, a_stamp, a_kind, a_cellOf, a_valueOf, a_knows, a_order, a_m, a_clock, a_trimmed, a_store, a_stands) => wY_replay_44 post x1 x2 n x3 f_replicas f_writes f_committed a_origin a_stamp a_kind a_cellOf a_valueOf a_knows a_order a_m a_clock a_trimmed a_store a_stands
def uy_replay_23 (post : SY → Prop) (x1 : Int32) (x2 : Int32) (n : Nat) (x3 : Int32) (u : SY) : Prop := match u with
  | (f_replicas, f_writes, f_committed, a_origin, a_stamp, a_kind, a_cellOf, a_valueOf, a_knows, a_order, a_m, a_clock, a_trimmed, a_store, a_stands) => wY_replay_23 post x1 x2 f_replicas f_writes f_committed n x3 a_origin a_stamp a_kind a_cellOf a_valueOf a_knows a_order a_m a_clock a_trimmed a_store a_stands
def uy_replay_2 (post : SY → Prop) (x1 : Int32) (x2 : Int32) (n : Nat) (x3 : Int32) (u : SY) : Prop := match u with
  | (f_replicas, f_writes, f_committed, a_origin, a_stamp, a_kind, a_cellOf, a_valueOf, a_knows, a_order, a_m, a_clock, a_trimmed, a_store, a_stands) => wY_replay_2 post x1 x2 f_replicas f_writes f_committed n x3 a_origin a_stamp a_kind a_cellOf a_valueOf a_knows a_order a_m a_clock a_trimmed a_store a_stands
def uy_commit_10 (post : Int32 → SY → Prop) (x1 : Int32) (n : Nat) (x2 : Int32) (x3 : Int32) (u : SY) : Prop := match u with
  | (f_replicas, f_writes, f_committed, a_origin, a_stamp, a_kind, a_cellOf, a_valueOf, a_knows, a_order, a_m, a_clock, a_trimmed, a_store, a_stands) => wY_commit_10 post x1 f_replicas f_writes n x2 x3 f_committed a_origin a_stamp a_kind a_cellOf a_valueOf a_knows a_order a_m a_clock a_trimmed a_store a_stands
def uy_trim_29 (post : Int32 → SY → Prop) (x1 : Int32) (x3 : Int32) (u : SY) : Prop := match u with
  | (f_replicas, f_writes, f_committed, a_origin, a_stamp, a_kind, a_cellOf, a_valueOf, a_knows, a_order, a_m, a_clock, a_trimmed, a_store, a_stands) => wY_trim_29 post x1 x3 f_replicas f_writes f_committed a_origin a_stamp a_kind a_cellOf a_valueOf a_knows a_order a_m a_clock a_trimmed a_store a_stands
def uy_known_14 (post : Int32 → Prop) (x1 : Int32) (n : Nat) (x2 : Int32) (x3 : Int32) (u : SY) : Prop := match u with
  | (f_replicas, f_writes, f_committed, a_origin, a_stamp, a_kind, a_cellOf, a_valueOf, a_knows, a_order, a_m, a_clock, a_trimmed, a_store, a_stands) => wY_known_14 post x1 f_replicas f_writes f_committed a_origin a_stamp a_kind a_cellOf a_valueOf a_knows a_order a_m a_clock a_trimmed a_store a_stands n x2 x3
end
section
/-! X: what a replica's slices hold, and frames -/
def fr_ag (k r : Nat) (a a' : Nat → Int32) : Prop := ∀ j, (j < r * k ∨ r * k + k ≤ j) → a' j = a j
theorem fr_ag_r {k r : Nat} {a : Nat → Int32} : fr_ag k r a a := fun _ _ => rfl
theorem fr_ag_t {k r : Nat} {a b c : Nat → Int32} (h : fr_ag k r a b) (h2 : fr_ag k r b c) : fr_ag k r a c := fun j hj => (h2 j hj).trans (h j hj)
theorem fr_ag_u {k r i : Nat} {a : Nat → Int32} {x : Int32} (hi : i < k) : fr_ag k r a (upd a (r * k + i) x) := fun j hj => pk_un (by omega)
theorem fr_ag_uu {k r i i' : Nat} {a : Nat → Int32} {x x' : Int32} (hi : i < k) (hi' : i' < k) : fr_ag k r a (upd (upd a (r * k + i) x) (r * k + i') x') := fr_ag_t (fr_ag_u hi) (fr_ag_u hi')
theorem fr_ag_1 {r : Nat} {a : Nat → Int32} {x : Int32} : fr_ag 1 r a (upd a r x) := fun j hj => pk_un (by omega)
theorem fr_at1 {r r' : Nat} {a a' : Nat → Int32} (h : fr_ag 1 r a a') (hn : r' ≠ r) : a' r' = a r' := h r' (by omega)
theorem fr_at4 {r r' i : Nat} {a a' : Nat → Int32} (h : fr_ag 4 r a a') (hn : r' ≠ r) (hi : i < 4) : a' (r' * 4 + i) = a (r' * 4 + i) := h _ (by omega)
theorem fr_at8 {r r' i : Nat} {a a' : Nat → Int32} (h : fr_ag 8 r a a') (hn : r' ≠ r) (hi : i < 8) : a' (r' * 8 + i) = a (r' * 8 + i) := h _ (by omega)
theorem fr_at48 {r r' i : Nat} {a a' : Nat → Int32} (h : fr_ag 48 r a a') (hn : r' ≠ r) (hi : i < 48) : a' (r' * 48 + i) = a (r' * 48 + i) := h _ (by omega)
abbrev fr_X (r : Nat) (u u' : SX) : Prop :=
  sx_replicas u' = sx_replicas u ∧ sx_writes u' = sx_writes u ∧ sx_origin u' = sx_origin u ∧ sx_turn u' = sx_turn u ∧ sx_stamp u' = sx_stamp u ∧ sx_kindOf u' = sx_kindOf u ∧ sx_cellOf u' = sx_cellOf u ∧ sx_valueOf u' = sx_valueOf u ∧
  fr_ag 1 r (sx_clock u) (sx_clock u') ∧ fr_ag 4 r (sx_seen u) (sx_seen u') ∧ fr_ag 4 r (sx_fixed u) (sx_fixed u') ∧ fr_ag 1 r (sx_done u) (sx_done u') ∧ fr_ag 1 r (sx_heldFrom u) (sx_heldFrom u') ∧ fr_ag 1 r (sx_trimmed u) (sx_trimmed u') ∧
  fr_ag 48 r (sx_log u) (sx_log u') ∧ fr_ag 8 r (sx_stableCell u) (sx_stableCell u') ∧ fr_ag 8 r (sx_nowCell u) (sx_nowCell u') ∧ fr_ag 1 r (sx_waiting u) (sx_waiting u') ∧ fr_ag 1 r (sx_applied u) (sx_applied u') ∧
  fr_ag 48 r (sx_tent u) (sx_tent u') ∧ fr_ag 48 r (sx_outcome u) (sx_outcome u') ∧ fr_ag 48 r (sx_oldCellA u) (sx_oldCellA u') ∧ fr_ag 48 r (sx_oldValA u) (sx_oldValA u') ∧ fr_ag 48 r (sx_oldCellB u) (sx_oldCellB u') ∧ fr_ag 48 r (sx_oldValB u) (sx_oldValB u')
theorem fr_X_r (r : Nat) (u : SX) : fr_X r u u := ⟨rfl, rfl, rfl, rfl, rfl, rfl, rfl, rfl, fr_ag_r, fr_ag_r, fr_ag_r, fr_ag_r, fr_ag_r, fr_ag_r, fr_ag_r, fr_ag_r, fr_ag_r, fr_ag_r, fr_ag_r, fr_ag_r, fr_ag_r, fr_ag_r, fr_ag_r, fr_ag_r, fr_ag_r⟩
theorem fr_X_t {r : Nat} {u v w : SX} (h : fr_X r u v) (h2 : fr_X r v w) : fr_X r u w := by
  obtain ⟨a1, a2, a3, a4, a5, a6, a7, a8, b1, b2, b3, b4, b5, b6, b7, b8, b9, b10, b11, b12, b13, b14, b15, b16, b17⟩ := h
  obtain ⟨c1, c2, c3, c4, c5, c6, c7, c8, d1, d2, d3, d4, d5, d6, d7, d8, d9, d10, d11, d12, d13, d14, d15, d16, d17⟩ := h2
  exact ⟨c1.trans a1, c2.trans a2, c3.trans a3, c4.trans a4, c5.trans a5, c6.trans a6, c7.trans a7, c8.trans a8, fr_ag_t b1 d1, fr_ag_t b2 d2, fr_ag_t b3 d3, fr_ag_t b4 d4, fr_ag_t b5 d5, fr_ag_t b6 d6, fr_ag_t b7 d7, fr_ag_t b8 d8, fr_ag_t b9 d9, fr_ag_t b10 d10, fr_ag_t b11 d11, fr_ag_t b12 d12, fr_ag_t b13 d13, fr_ag_t b14 d14, fr_ag_t b15 d15, fr_ag_t b16 d16, fr_ag_t b17 d17⟩
theorem fr_X_t2 {r : Nat} {u v w : SX} (h2 : fr_X r v w) (h : fr_X r u v) : fr_X r u w := fr_X_t h h2
abbrev rp_T (r : Nat) (T : List Nat) (wt te : Nat → Int32) : Prop :=
  wt r = nI T.length ∧ T.length ≤ 48 ∧ (∀ x, x ∈ T → x < 48) ∧ ∀ i x, T[i]? = some x → te (r * 48 + i) = nI x
abbrev rp_A (r aa : Nat) (ap : Nat → Int32) : Prop := ap r = nI aa ∧ aa ≤ 48
abbrev rp_C (P : Nat → gh_W) (B : Nat → Int32) (r : Nat) (T : List Nat) (q : Nat) (nc oc oA vA oB vB : Nat → Int32) : Prop :=
  q ≤ T.length ∧ (∀ c, c < 8 → nc (r * 8 + c) = rn_l P B (T.take q) c) ∧
  ∀ i x, i < q → T[i]? = some x → oc (r * 48 + i) = (ca_do (P x) (rn_l P B (T.take i))).1 ∧
    ∃ a b, a < 8 ∧ b < 8 ∧ oA (r * 48 + i) = nI a ∧ oB (r * 48 + i) = nI b ∧
      ∀ c, c < 8 → rn_l P B (T.take i) c = if c = a then vA (r * 48 + i) else if c = b then vB (r * 48 + i) else rn_l P B (T.take (i + 1)) c
abbrev rp_S (P : Nat → gh_W) (ord : Nat → Nat) (D r : Nat) (sc : Nat → Int32) : Prop := ∀ c, c < 8 → sc (r * 8 + c) = ro_s P ord D c
abbrev rp_n (r : Nat) (sn : Nat → Nat) (se : Nat → Int32) : Prop := ∀ o, o < 4 → se (r * 4 + o) = nI (sn o) ∧ sn o ≤ 48
abbrev rp_f (P : Nat → gh_W) (ord : Nat → Nat) (D r : Nat) (fx : Nat → Int32) : Prop := ∀ o, o < 4 → fx (r * 4 + o) = nI (ct_n (gh_q P ord) o D)
abbrev rp_L (ord : Nat → Nat) (D r : Nat) (dn hf lg : Nat → Int32) : Prop :=
  dn r = nI D ∧ D ≤ 48 ∧ ∃ h, h ≤ D ∧ hf r = nI h ∧ ∀ i, h ≤ i → i < D → lg (r * 48 + i) = nI (ord i)
abbrev rp_K (r ck tr : Nat) (ca ta : Nat → Int32) : Prop := ca r = nI ck ∧ ck ≤ 48 ∧ ta r = nI tr ∧ tr ≤ 48
abbrev rp_X (P : Nat → gh_W) (ord : Nat → Nat) (r : Nat) (B : Nat → Int32) (T : List Nat) (aa q : Nat) (sn : Nat → Nat) (D ck tr : Nat) (u : SX) : Prop :=
  rp_T r T (sx_waiting u) (sx_tent u) ∧ rp_A r aa (sx_applied u) ∧
  rp_C P B r T q (sx_nowCell u) (sx_outcome u) (sx_oldCellA u) (sx_oldValA u) (sx_oldCellB u) (sx_oldValB u) ∧
  rp_S P ord D r (sx_stableCell u) ∧ rp_n r sn (sx_seen u) ∧ rp_f P ord D r (sx_fixed u) ∧
  rp_L ord D r (sx_done u) (sx_heldFrom u) (sx_log u) ∧ rp_K r ck tr (sx_clock u) (sx_trimmed u)
theorem li_lt {T : List Nat} {i x : Nat} (h : T[i]? = some x) : i < T.length := (List.getElem?_eq_some_iff.mp h).1
theorem rp_fr {P : Nat → gh_W} {ord : Nat → Nat} {r r' : Nat} {B : Nat → Int32} {T : List Nat} {aa q : Nat} {sn : Nat → Nat} {D ck tr : Nat} {u u' : SX} (h : fr_X r u u') (hn : r' ≠ r) (hR : rp_X P ord r' B T aa q sn D ck tr u) : rp_X P ord r' B T aa q sn D ck tr u' := by
  obtain ⟨_, _, _, _, _, _, _, _, b1, b2, b3, b4, b5, b6, b7, b8, b9, b10, b11, b12, b13, b14, b15, b16, b17⟩ := h
  obtain ⟨⟨t1, t2, t3, t4⟩, ⟨a1, a2⟩, ⟨c1, c2, c3⟩, hS, hN, hF, ⟨l1, l2, hh, l3, l4, l5⟩, ⟨k1, k2, k3, k4⟩⟩ := hR
  refine ⟨⟨(fr_at1 b10 hn).trans t1, t2, t3, fun i x hx => ?_⟩, ⟨(fr_at1 b11 hn).trans a1, a2⟩, ⟨c1, fun c hc => (fr_at8 b9 hn hc).trans (c2 c hc), fun i x hi hx => ?_⟩, fun c hc => (fr_at8 b8 hn hc).trans (hS c hc), fun o ho => ?_, fun o ho => (fr_at4 b3 hn ho).trans (hF o ho), ⟨(fr_at1 b4 hn).trans l1, l2, hh, l3, (fr_at1 b5 hn).trans l4, fun i h1 h2 => ?_⟩, ⟨(fr_at1 b1 hn).trans k1, k2, (fr_at1 b6 hn).trans k3, k4⟩⟩
  · have := li_lt hx
    exact (fr_at48 b12 hn (by omega)).trans (t4 i x hx)
  · have hl := li_lt hx
    obtain ⟨e1, a, b, ha, hb, e2, e3, e4⟩ := c3 i x hi hx
    refine ⟨(fr_at48 b13 hn (by omega)).trans e1, a, b, ha, hb, (fr_at48 b14 hn (by omega)).trans e2, (fr_at48 b16 hn (by omega)).trans e3, fun c hc => ?_⟩
    rw [fr_at48 b15 hn (show i < 48 by omega), fr_at48 b17 hn (show i < 48 by omega)]
    exact e4 c hc
  · exact ⟨(fr_at4 b2 hn ho).trans (hN o ho).1, (hN o ho).2⟩
  · exact (fr_at48 b7 hn (by omega)).trans (l5 i h1 h2)
/-- the chain looks at the first q tentative writes alone -/
theorem rp_C_cg {P : Nat → gh_W} {B : Nat → Int32} {r : Nat} {T T' : List Nat} {q : Nat} {nc oc oA vA oB vB : Nat → Int32} (h : T'.take q = T.take q) (hl : q ≤ T'.length) (hC : rp_C P B r T q nc oc oA vA oB vB) : rp_C P B r T' q nc oc oA vA oB vB := by
  obtain ⟨c1, c2, c3⟩ := hC
  have tk : ∀ i, i ≤ q → T'.take i = T.take i := by
    intro i hi
    have e1 : T'.take i = (T'.take q).take i := by rw [List.take_take, Nat.min_eq_left hi]
    have e2 : T.take i = (T.take q).take i := by rw [List.take_take, Nat.min_eq_left hi]
    rw [e1, e2, h]
  refine ⟨hl, fun c hc => ?_, fun i x hi hx => ?_⟩
  · rw [h]; exact c2 c hc
  · have e : T[i]? = some x := by
      rw [← List.getElem?_take_of_lt hi, ← h, List.getElem?_take_of_lt hi]; exact hx
    rw [tk i (by omega), tk (i + 1) (by omega)]
    exact c3 i x hi e
/-- the writes' own data -/
abbrev cx_a (nw : Nat) (P : Nat → gh_W) (oo ot os ok oc ov : Nat → Int32) : Prop :=
  nw ≤ 48 ∧ ∀ w, w < nw → (gh_og (P w) < 4 ∧ gh_tn (P w) < 48 ∧ gh_st (P w) ≤ 48 ∧ gh_kd (P w) ≤ 5 ∧ gh_ce (P w) < 8) ∧
    oo w = nI (gh_og (P w)) ∧ ot w = nI (gh_tn (P w)) ∧ os w = nI (gh_st (P w)) ∧ ok w = nI (gh_kd (P w)) ∧ oc w = nI (gh_ce (P w)) ∧ ov w = gh_va (P w)
abbrev cx_s (nw : Nat) (P : Nat → gh_W) (u : SX) : Prop :=
  cx_a nw P (sx_origin u) (sx_turn u) (sx_stamp u) (sx_kindOf u) (sx_cellOf u) (sx_valueOf u)
theorem cx_fr {nw : Nat} {P : Nat → gh_W} {r : Nat} {u u' : SX} (h : fr_X r u u') (hs : cx_s nw P u) : cx_s nw P u' := by
  obtain ⟨_, _, e1, e2, e3, e4, e5, e6, _⟩ := h
  obtain ⟨h48, hw⟩ := hs
  refine ⟨h48, fun w h => ?_⟩
  rw [e1, e2, e3, e4, e5, e6]
  exact hw w h
end
section
/-! X: before, undoTo, insert -/
theorem x_before {nw : Nat} {P : Nat → gh_W} {u : SX} {a b : Nat} {post : Int32 → Prop} (hs : cx_s nw P u) (ha : a < nw) (hb : b < nw) (h1 : gh_lt P a b → post 1) (h0 : ¬ gh_lt P a b → post 0) : wpX_before post u (nI a) (nI b) := by
  obtain ⟨f_replicas, f_writes, a_origin, a_turn, a_stamp, a_kindOf, a_cellOf, a_valueOf, a_clock, a_seen, a_fixed, a_done, a_heldFrom, a_trimmed, a_log, a_stableCell, a_nowCell, a_waiting, a_applied, a_tent, a_outcome, a_oldCellA, a_oldValA, a_oldCellB, a_oldValB, a_work⟩ := u
  obtain ⟨h48, hw⟩ := hs
  obtain ⟨⟨a1, a2, a3, a4, a5⟩, a6, a7, a8, _⟩ := hw a ha
  obtain ⟨⟨b1, b2, b3, b4, b5⟩, b6, b7, b8, _⟩ := hw b hb
  change a_origin a = _ at a6
  change a_stamp a = _ at a8
  change a_origin b = _ at b6
  change a_stamp b = _ at b8
  have i1 : vp_in (nI a) 48 := vp_in_nI (by omega) (by omega)
  have i2 : vp_in (nI b) 48 := vp_in_nI (by omega) (by omega)
  unfold wpX_before
  dsimp only
  rw [nI_clamp (n := a) (by omega), nI_clamp (n := b) (by omega), a6, a8, b6, b8]
  refine ⟨i1, i2, pk_eq _ _ (fun e => ⟨i1, i2, pk_le _ _ (fun e2 => h0 ?_) (fun e2 => h1 ?_)⟩) (fun e => ⟨i1, i2, pk_le _ _ (fun e2 => h0 ?_) (fun e2 => h1 ?_)⟩)⟩
  · unfold gh_lt; omega
  · unfold gh_lt; omega
  · unfold gh_lt; omega
  · unfold gh_lt; omega

theorem x_undo_lp {P : Nat → gh_W} {ord : Nat → Nat} {r : Nat} {B : Nat → Int32} {T : List Nat} {sn : Nat → Nat} {D ck tr : Nat} (hr : r < 4) {keep : Nat} (hk : keep ≤ 48) (post : SX → Prop) :
    ∀ (n q : Nat) (u : SX), q < n → rp_X P ord r B T q q sn D ck tr u →
      (∀ u', fr_X r u u' → rp_X P ord r B T (min q keep) (min q keep) sn D ck tr u' → post u') → ux_undoTo_9 post (nI r) (nI keep) n (nI q - 1) u := by
  intro n
  induction n with
  | zero => intro q u h; omega
  | succ n ih =>
    intro q u hq hR K
    obtain ⟨f_replicas, f_writes, a_origin, a_turn, a_stamp, a_kindOf, a_cellOf, a_valueOf, a_clock, a_seen, a_fixed, a_done, a_heldFrom, a_trimmed, a_log, a_stableCell, a_nowCell, a_waiting, a_applied, a_tent, a_outcome, a_oldCellA, a_oldValA, a_oldCellB, a_oldValB, a_work⟩ := u
    have hq48 : q ≤ 48 := hR.2.1.2
    unfold ux_undoTo_9
    dsimp only
    rw [wX_undoTo_9]
    by_cases hc : q ≤ keep
    · have e : min q keep = q := Nat.min_eq_left hc
      rw [e] at K
      exact br_t ((ix_lt1 (by omega) (by omega)).mpr hc) (K _ (fr_X_r _ _) hR)
    · obtain ⟨m, rfl⟩ : ∃ m, q = m + 1 := ⟨q - 1, by omega⟩
      have hc2 : ¬ nI (m + 1) - 1 < nI keep := fun z => hc ((ix_lt1 (by omega) (by omega)).mp z)
      refine br_f hc2 ?_
      obtain ⟨hT, hA, hC, hS, hN, hF, hL, hK⟩ := hR
      change rp_T _ _ a_waiting a_tent at hT
      change rp_A _ _ a_applied at hA
      change rp_C _ _ _ _ _ a_nowCell a_outcome a_oldCellA a_oldValA a_oldCellB a_oldValB at hC
      change rp_S _ _ _ _ a_stableCell at hS
      change rp_n _ _ a_seen at hN
      change rp_f _ _ _ _ a_fixed at hF
      change rp_L _ _ _ a_done a_heldFrom a_log at hL
      change rp_K _ _ _ a_clock a_trimmed at hK
      obtain ⟨hql, hnow, hch⟩ := hC
      have hml : m < T.length := by omega
      have hx : T[m]? = some (T[m]'hml) := List.getElem?_eq_getElem hml
      generalize T[m]'hml = x at hx
      obtain ⟨ho, a, b, ha, hb, eA, eB, hund⟩ := hch m x (by omega) hx
      have i1 : vp_in (nI (r * 48 + m)) 192 := vp_in_nI (by omega) (by omega)
      have i2 : vp_in (nI (r * 8 + a)) 32 := vp_in_nI (by omega) (by omega)
      have i3 : vp_in (nI (r * 8 + b)) 32 := vp_in_nI (by omega) (by omega)
      have i4 : vp_in (nI r) 4 := vp_in_nI hr (by omega)
      rw [nI_pred]
      simp only [ix_48, nI_clamp (n := r * 48 + m) (by omega), eA, eB, ix_8, nI_clamp (n := r * 8 + a) (by omega), nI_clamp (n := r * 8 + b) (by omega), nI_clamp (n := r) (by omega), i1, i2, i3, i4, true_and, forall_eq, ix_mm]
      have hmin : min m keep = min (m + 1) keep := by omega
      refine ih m (f_replicas, f_writes, a_origin, a_turn, a_stamp, a_kindOf, a_cellOf, a_valueOf, a_clock, a_seen, a_fixed, a_done, a_heldFrom, a_trimmed, a_log, a_stableCell, upd (upd a_nowCell (r * 8 + b) (a_oldValB (r * 48 + m))) (r * 8 + a) (a_oldValA (r * 48 + m)), a_waiting, upd a_applied r (nI m), a_tent, a_outcome, a_oldCellA, a_oldValA, a_oldCellB, a_oldValB, a_work) (by omega) ⟨hT, ⟨pk_us, by omega⟩, ⟨by omega, fun c hc => ?_, fun i y hi hy => hch i y (by omega) hy⟩, hS, hN, hF, hL, hK⟩ (fun u' hf hR' => K u' (fr_X_t2 hf ⟨@rfl _ f_replicas, @rfl _ f_writes, @rfl _ a_origin, @rfl _ a_turn, @rfl _ a_stamp, @rfl _ a_kindOf, @rfl _ a_cellOf, @rfl _ a_valueOf, @fr_ag_r _ _ a_clock, @fr_ag_r _ _ a_seen, @fr_ag_r _ _ a_fixed, @fr_ag_r _ _ a_done, @fr_ag_r _ _ a_heldFrom, @fr_ag_r _ _ a_trimmed, @fr_ag_r _ _ a_log, @fr_ag_r _ _ a_stableCell, fr_ag_uu (a := a_nowCell) hb ha, @fr_ag_r _ _ a_waiting, fr_ag_1 (a := a_applied), @fr_ag_r _ _ a_tent, @fr_ag_r _ _ a_outcome, @fr_ag_r _ _ a_oldCellA, @fr_ag_r _ _ a_oldValA, @fr_ag_r _ _ a_oldCellB, @fr_ag_r _ _ a_oldValB⟩) (by rw [← hmin]; exact hR'))
      show upd (upd a_nowCell (r * 8 + b) (a_oldValB (r * 48 + m))) (r * 8 + a) (a_oldValA (r * 48 + m)) (r * 8 + c) = _
      rw [hund c hc]
      by_cases ca : c = a
      · rw [if_pos ca, ca]; exact pk_us
      · rw [if_neg ca, pk_un (by omega)]
        by_cases cb : c = b
        · rw [if_pos cb, cb]; exact pk_us
        · rw [if_neg cb, pk_un (by omega)]; exact hnow c hc
theorem x_undo {P : Nat → gh_W} {ord : Nat → Nat} {r : Nat} {B : Nat → Int32} {T : List Nat} {q : Nat} {sn : Nat → Nat} {D ck tr : Nat} {u : SX} (hr : r < 4) {keep : Nat} (hk : keep ≤ 48) {post : SX → Prop}
    (hR : rp_X P ord r B T q q sn D ck tr u) (K : ∀ u', fr_X r u u' → rp_X P ord r B T (min q keep) (min q keep) sn D ck tr u' → post u') : wpX_undoTo post u (nI r) (nI keep) := by
  have L := x_undo_lp hr hk post (q + 1) q u (by omega) hR K
  have hap := hR.2.1.1
  obtain ⟨f_replicas, f_writes, a_origin, a_turn, a_stamp, a_kindOf, a_cellOf, a_valueOf, a_clock, a_seen, a_fixed, a_done, a_heldFrom, a_trimmed, a_log, a_stableCell, a_nowCell, a_waiting, a_applied, a_tent, a_outcome, a_oldCellA, a_oldValA, a_oldCellB, a_oldValB, a_work⟩ := u
  change a_applied r = nI q at hap
  unfold wpX_undoTo
  dsimp only
  refine ⟨vp_in_nI hr (by omega), nm_r (e' := nI q - 1) ?_ ⟨q + 1, L⟩⟩
  rw [nI_clamp (by omega), hap]
end
section
theorem so_get {T : List Nat} {p w j : Nat} (hp : p ≤ T.length) : (T.take p ++ w :: T.drop p)[j]? = if j < p then T[j]? else if j = p then some w else T[j - 1]? := by
  have hl : (T.take p).length = p := by rw [List.length_take]; omega
  rw [List.getElem?_append, hl]
  by_cases h : j < p
  · rw [if_pos h, if_pos h, List.getElem?_take_of_lt h]
  · rw [if_neg h, if_neg h]
    by_cases e : j = p
    · rw [if_pos e, e, Nat.sub_self]; rfl
    · rw [if_neg e]
      obtain ⟨d, rfl⟩ : ∃ d, j = p + d + 1 := ⟨j - p - 1, by omega⟩
      rw [show p + d + 1 - p = d + 1 by omega, List.getElem?_cons_succ, List.getElem?_drop]
      rfl
theorem so_lenI {T : List Nat} {p w : Nat} : (T.take p ++ w :: T.drop p).length = T.length + 1 := by
  rw [List.length_append, List.length_cons, List.length_take, List.length_drop]; omega
theorem so_tk {T : List Nat} {p w q : Nat} (hp : p ≤ T.length) (hq : q ≤ p) : (T.take p ++ w :: T.drop p).take q = T.take q := by
  rw [List.take_append_of_le_length (by rw [List.length_take]; omega), List.take_take, Nat.min_eq_left hq]

section ins
variable {f_replicas f_writes : Int32} {a_origin a_turn a_stamp a_kindOf a_cellOf a_valueOf a_clock a_seen a_fixed a_done a_heldFrom a_trimmed a_log a_stableCell a_nowCell a_waiting a_applied a_tent a_outcome a_oldCellA a_oldValA a_oldCellB a_oldValB a_work : Nat → Int32}
theorem x_ins_60 {P : Nat → gh_W} {ord : Nat → Nat} {r : Nat} {B : Nat → Int32} {T : List Nat} {q : Nat} {sn : Nat → Nat} {D ck tr w p : Nat} (hr : r < 4) (hw : w < 48) (hp : p ≤ T.length) (hl : T.length < 48) (hq : q ≤ p) {post : SX → Prop}
    (hR : rp_X P ord r B T q q sn D ck tr (f_replicas, f_writes, a_origin, a_turn, a_stamp, a_kindOf, a_cellOf, a_valueOf, a_clock, a_seen, a_fixed, a_done, a_heldFrom, a_trimmed, a_log, a_stableCell, a_nowCell, a_waiting, a_applied, a_tent, a_outcome, a_oldCellA, a_oldValA, a_oldCellB, a_oldValB, a_work)) (K : ∀ u', fr_X r (f_replicas, f_writes, a_origin, a_turn, a_stamp, a_kindOf, a_cellOf, a_valueOf, a_clock, a_seen, a_fixed, a_done, a_heldFrom, a_trimmed, a_log, a_stableCell, a_nowCell, a_waiting, a_applied, a_tent, a_outcome, a_oldCellA, a_oldValA, a_oldCellB, a_oldValB, a_work) u' → rp_X P ord r B (T.take p ++ w :: T.drop p) q q sn D ck tr u' → post u') :
    ∀ (n i : Nat) (te : Nat → Int32), i - p < n → p ≤ i → i ≤ T.length → fr_ag 48 r a_tent te → (∀ j x, j < i → T[j]? = some x → te (r * 48 + j) = nI x) → (∀ j x, i ≤ j → T[j]? = some x → te (r * 48 + j + 1) = nI x) →
      wX_insert_60 post (nI r) (nI w) (nI T.length) (nI p) f_replicas f_writes n (nI i) a_origin a_turn a_stamp a_kindOf a_cellOf a_valueOf a_clock a_seen a_fixed a_done a_heldFrom a_trimmed a_log a_stableCell a_nowCell a_waiting a_applied te a_outcome a_oldCellA a_oldValA a_oldCellB a_oldValB a_work := by
  obtain ⟨hT, hA, hC, hS, hN, hF, hL, hK⟩ := hR
  change rp_T _ _ a_waiting a_tent at hT
  change rp_A _ _ a_applied at hA
  change rp_C _ _ _ _ _ a_nowCell a_outcome a_oldCellA a_oldValA a_oldCellB a_oldValB at hC
  change rp_S _ _ _ _ a_stableCell at hS
  change rp_n _ _ a_seen at hN
  change rp_f _ _ _ _ a_fixed at hF
  change rp_L _ _ _ a_done a_heldFrom a_log at hL
  change rp_K _ _ _ a_clock a_trimmed at hK
  intro n
  induction n with
  | zero => intro i te h; omega
  | succ n ih =>
    intro i te hn hpi hil hfr h1 h2
    rw [wX_insert_60]
    have c1 : nI (r * 48 + p) = nI r * 48 + nI p := (ix_48 r p).symm
    refine pk_le i p (fun hip => ?_) (fun hip => ?_)
    · have e : i = p := by omega
      subst e
      rw [ix_48, nI_clamp (by omega), nI_clamp (by omega)]
      refine ⟨vp_in_nI (by omega) (by omega), nm_e ⟨vp_in_nI hr (by omega), nm_e ?_⟩⟩
      refine K _ ⟨@rfl _ f_replicas, @rfl _ f_writes, @rfl _ a_origin, @rfl _ a_turn, @rfl _ a_stamp, @rfl _ a_kindOf, @rfl _ a_cellOf, @rfl _ a_valueOf, @fr_ag_r _ _ a_clock, @fr_ag_r _ _ a_seen, @fr_ag_r _ _ a_fixed, @fr_ag_r _ _ a_done, @fr_ag_r _ _ a_heldFrom, @fr_ag_r _ _ a_trimmed, @fr_ag_r _ _ a_log, @fr_ag_r _ _ a_stableCell, @fr_ag_r _ _ a_nowCell, fr_ag_1 (a := a_waiting), @fr_ag_r _ _ a_applied, fr_ag_t hfr (fr_ag_u (by omega)), @fr_ag_r _ _ a_outcome, @fr_ag_r _ _ a_oldCellA, @fr_ag_r _ _ a_oldValA, @fr_ag_r _ _ a_oldCellB, @fr_ag_r _ _ a_oldValB⟩ ⟨⟨?_, ?_, ?_, ?_⟩, hA, rp_C_cg (so_tk hp hq) (by rw [so_lenI]; omega) hC, hS, hN, hF, hL, hK⟩
      · show upd a_waiting r (nI T.length + 1) r = _
        rw [pk_us, so_lenI, nI_1]
      · rw [so_lenI]; omega
      · intro x hx
        rcases so_ins_mem.mp hx with e | e
        · rw [e]; exact hw
        · exact hT.2.2.1 x e
      · intro j x hx
        show upd te (r * 48 + i) (nI w) (r * 48 + j) = nI x
        rw [so_get hp] at hx
        by_cases c : j < i
        · rw [if_pos c] at hx
          rw [pk_un (by omega)]
          exact h1 j x c hx
        · rw [if_neg c] at hx
          by_cases e : j = i
          · rw [if_pos e] at hx
            rw [e, pk_us, Option.some.inj hx]
          · rw [if_neg e] at hx
            rw [pk_un (by omega)]
            have := h2 (j - 1) x (by omega) hx
            rw [show r * 48 + (j - 1) + 1 = r * 48 + j by omega] at this
            exact this
    · have e1 : nI (r * 48 + i) - 1 = nI (r * 48 + i - 1) := ix_p (by omega)
      rw [ix_48, e1, nI_clamp (by omega), nI_clamp (by omega), ix_m (by omega)]
      refine ⟨vp_in_nI (by omega) (by omega), vp_in_nI (by omega) (by omega), nm_e (nm_e ?_)⟩
      refine ih (i - 1) _ (by omega) (by omega) (by omega) (fr_ag_t hfr (fr_ag_u (by omega))) (fun j x hj hx => ?_) (fun j x hj hx => ?_)
      · rw [pk_un (by omega)]; exact h1 j x (by omega) hx
      · by_cases e : j = i - 1
        · rw [show r * 48 + j + 1 = r * 48 + i by omega, pk_us, show r * 48 + i - 1 = r * 48 + j by omega]
          exact h1 j x (by omega) hx
        · rw [pk_un (by omega)]; exact h2 j x (by omega) hx
end ins
end
section
theorem x_ins_50 {P : Nat → gh_W} {ord : Nat → Nat} {r : Nat} {B : Nat → Int32} {T : List Nat} {q : Nat} {sn : Nat → Nat} {D ck tr w p : Nat} {u : SX} (hr : r < 4) (hw : w < 48) (hp : p ≤ T.length) (hl : T.length < 48) {post : SX → Prop}
    (hR : rp_X P ord r B T q q sn D ck tr u) (K : ∀ u', fr_X r u u' → rp_X P ord r B (T.take p ++ w :: T.drop p) (min q p) (min q p) sn D ck tr u' → post u') : ux_insert_50 post (nI r) (nI w) (nI T.length) (nI p) u := by
  have U := x_undo (u := u) (keep := p) hr (by omega) (post := fun u' => ∃ n60 : Nat, ux_insert_60 post (nI r) (nI w) (nI T.length) (nI p) n60 (nI T.length) u') hR (fun u' hf hR' => by
    have hT := hR'.1
    obtain ⟨f_replicas, f_writes, a_origin, a_turn, a_stamp, a_kindOf, a_cellOf, a_valueOf, a_clock, a_seen, a_fixed, a_done, a_heldFrom, a_trimmed, a_log, a_stableCell, a_nowCell, a_waiting, a_applied, a_tent, a_outcome, a_oldCellA, a_oldValA, a_oldCellB, a_oldValB, a_work⟩ := u'
    refine ⟨T.length - p + 1, ?_⟩
    exact x_ins_60 hr hw hp hl (Nat.min_le_right q p) hR' (fun u'' hf2 hR2 => K u'' (fr_X_t hf hf2) hR2) _ _ a_tent (by omega) hp (Nat.le_refl _) fr_ag_r (fun j x _ hx => hT.2.2.2 j x hx) (fun j x hj hx => absurd (li_lt hx) (by omega)))
  obtain ⟨f_replicas, f_writes, a_origin, a_turn, a_stamp, a_kindOf, a_cellOf, a_valueOf, a_clock, a_seen, a_fixed, a_done, a_heldFrom, a_trimmed, a_log, a_stableCell, a_nowCell, a_waiting, a_applied, a_tent, a_outcome, a_oldCellA, a_oldValA, a_oldCellB, a_oldValB, a_work⟩ := u
  exact U
theorem x_ins_17 {nw : Nat} {P : Nat → gh_W} {ord : Nat → Nat} {r : Nat} {B : Nat → Int32} {T : List Nat} {q : Nat} {sn : Nat → Nat} {D ck tr w : Nat} {u : SX} (hr : r < 4) (hs : cx_s nw P u) (hw : w < nw) (hl : T.length < 48) (hTw : ∀ x, x ∈ T → x < nw) {post : SX → Prop}
    (hR : rp_X P ord r B T q q sn D ck tr u)
    (K : ∀ p u', p ≤ T.length → (∀ j x, p ≤ j → T[j]? = some x → gh_lt P w x) → (∀ x, 0 < p → T[p - 1]? = some x → ¬ gh_lt P w x) → fr_X r u u' → rp_X P ord r B (T.take p ++ w :: T.drop p) (min q p) (min q p) sn D ck tr u' → post u') :
    ∀ n p, p < n → p ≤ T.length → (∀ j x, p ≤ j → T[j]? = some x → gh_lt P w x) → ux_insert_17 post (nI r) (nI w) (nI T.length) n (nI p) u := by
  have h48 := hs.1
  intro n
  induction n with
  | zero => intro p h; omega
  | succ n ih =>
    intro p hn hp hge
    have hgo : (∀ x, 0 < p → T[p - 1]? = some x → ¬ gh_lt P w x) → ux_insert_50 post (nI r) (nI w) (nI T.length) (nI p) u :=
      fun hlo => x_ins_50 hr (by omega) hp hl hR (fun u' hf hR' => K p u' hp hge hlo hf hR')
    have hT := hR.1
    by_cases h0 : p = 0
    · have G := hgo (fun x h => by omega)
      obtain ⟨f_replicas, f_writes, a_origin, a_turn, a_stamp, a_kindOf, a_cellOf, a_valueOf, a_clock, a_seen, a_fixed, a_done, a_heldFrom, a_trimmed, a_log, a_stableCell, a_nowCell, a_waiting, a_applied, a_tent, a_outcome, a_oldCellA, a_oldValA, a_oldCellB, a_oldValB, a_work⟩ := u
      subst h0
      exact br_t (nI_le (a := 0) (b := 0) (by omega) (by omega)) G
    · have hpl : p - 1 < T.length := by omega
      have hy : T[p - 1]? = some (T[p - 1]'hpl) := List.getElem?_eq_getElem hpl
      generalize T[p - 1]'hpl = y at hy
      have hyw := hTw y (List.mem_of_getElem? hy)
      have G := hgo
      have I := ih (p - 1) (by omega) (by omega)
      have Bf := x_before (u := u) (post := fun r_42 => (r_42 = 0 → ux_insert_50 post (nI r) (nI w) (nI T.length) (nI p) u) ∧ (¬ r_42 = 0 → ∀ x4_70 : Int32, x4_70 = nI p + (-1) → ux_insert_17 post (nI r) (nI w) (nI T.length) n x4_70 u)) hs hw hyw
        (fun hlt => br_f (by decide) (nm_r (ix_m (by omega)) (I (fun j x hj hx => by
          by_cases e : j = p - 1
          · rw [e, hy] at hx; rw [← Option.some.inj hx]; exact hlt
          · exact hge j x (by omega) hx))))
        (fun hnl => br_t rfl (G (fun x _ hx => by rw [hy] at hx; rw [← Option.some.inj hx]; exact hnl)))
      have ht := hT.2.2.2 (p - 1) y hy
      obtain ⟨f_replicas, f_writes, a_origin, a_turn, a_stamp, a_kindOf, a_cellOf, a_valueOf, a_clock, a_seen, a_fixed, a_done, a_heldFrom, a_trimmed, a_log, a_stableCell, a_nowCell, a_waiting, a_applied, a_tent, a_outcome, a_oldCellA, a_oldValA, a_oldCellB, a_oldValB, a_work⟩ := u
      change a_tent (r * 48 + (p - 1)) = nI y at ht
      have e1 : nI r * 48 + nI p - 1 = nI (r * 48 + (p - 1)) := by rw [ix_48, ix_p (by omega)]; exact congrArg nI (by omega)
      refine br_f (nI_nle (by omega) (by omega)) ?_
      rw [e1, nI_clamp (by omega), ht]
      exact ⟨vp_in_nI (by omega) (by omega), Bf⟩
theorem x_ins {nw : Nat} {P : Nat → gh_W} {ord : Nat → Nat} {r : Nat} {B : Nat → Int32} {T : List Nat} {q : Nat} {sn : Nat → Nat} {D ck tr w : Nat} {u : SX} (hr : r < 4) (hs : cx_s nw P u) (hw : w < nw) (hl : T.length < 48) (hTw : ∀ x, x ∈ T → x < nw) {post : SX → Prop}
    (hR : rp_X P ord r B T q q sn D ck tr u)
    (K : ∀ p u', p ≤ T.length → (∀ j x, p ≤ j → T[j]? = some x → gh_lt P w x) → (∀ x, 0 < p → T[p - 1]? = some x → ¬ gh_lt P w x) → fr_X r u u' → rp_X P ord r B (T.take p ++ w :: T.drop p) (min q p) (min q p) sn D ck tr u' → post u') :
    wpX_insert post u (nI r) (nI w) := by
  have L := x_ins_17 hr hs hw hl hTw hR K (T.length + 1) T.length (by omega) (Nat.le_refl _) (fun j x hj hx => absurd (li_lt hx) (by omega))
  have hwt := hR.1.1
  obtain ⟨f_replicas, f_writes, a_origin, a_turn, a_stamp, a_kindOf, a_cellOf, a_valueOf, a_clock, a_seen, a_fixed, a_done, a_heldFrom, a_trimmed, a_log, a_stableCell, a_nowCell, a_waiting, a_applied, a_tent, a_outcome, a_oldCellA, a_oldValA, a_oldCellB, a_oldValB, a_work⟩ := u
  change a_waiting r = nI T.length at hwt
  unfold wpX_insert
  dsimp only
  rw [nI_clamp (by omega), hwt]
  exact ⟨vp_in_nI hr (by omega), nm_e (br_t (nI_lt (b := 48) hl (by omega)) ⟨_, L⟩)⟩
end
section
/-! X: perform, firstChanged, applyOne, applyAll -/
theorem ca_cl1 {c : Nat} {v : Int32} {s : Nat → Int32} {m i : Nat} (z : s ((c + i) % 8) = 0) : ca_cl c v s (m + 1) i = ((if i = 0 then 2 else 3), upd s ((c + i) % 8) v) := by
  rw [ca_cl, if_pos z]
theorem ca_cl2 {c : Nat} {v : Int32} {s : Nat → Int32} {m i : Nat} (z : ¬ s ((c + i) % 8) = 0) : ca_cl c v s (m + 1) i = ca_cl c v s m (i + 1) := by
  rw [ca_cl, if_neg z]
section app
variable {f_replicas f_writes : Int32} {a_origin a_turn a_stamp a_kindOf a_cellOf a_valueOf a_clock a_seen a_fixed a_done a_heldFrom a_trimmed a_log a_stableCell a_nowCell a_waiting a_applied a_tent a_outcome a_oldCellA a_oldValA a_oldCellB a_oldValB a_work : Nat → Int32}
theorem x_claim {post : Int32 → SX → Prop} {c : Nat} {v : Int32} (hc : c < 8) :
    ∀ m i n, i + m = 8 → m < n → post (ca_cl c v a_work m i).1 (f_replicas, f_writes, a_origin, a_turn, a_stamp, a_kindOf, a_cellOf, a_valueOf, a_clock, a_seen, a_fixed, a_done, a_heldFrom, a_trimmed, a_log, a_stableCell, a_nowCell, a_waiting, a_applied, a_tent, a_outcome, a_oldCellA, a_oldValA, a_oldCellB, a_oldValB, (ca_cl c v a_work m i).2) → wX_claim_2 post (nI c) v f_replicas f_writes a_origin a_turn a_stamp a_kindOf a_cellOf a_valueOf a_clock a_seen a_fixed a_done a_heldFrom a_trimmed a_log a_stableCell a_nowCell a_waiting a_applied a_tent a_outcome a_oldCellA a_oldValA a_oldCellB a_oldValB a_work n (nI i) := by
  intro m
  induction m with
  | zero =>
    intro i n hi hn hp
    obtain ⟨n, rfl⟩ : ∃ k, n = k + 1 := ⟨n - 1, by omega⟩
    rw [wX_claim_2]
    exact pk_le 8 i (fun _ => hp) (fun h => by omega)
  | succ m ih =>
    intro i n hi hn hp
    obtain ⟨n, rfl⟩ : ∃ k, n = k + 1 := ⟨n - 1, by omega⟩
    rw [wX_claim_2]
    refine pk_le 8 i (fun h => by omega) (fun h => nm_r (ix_a7 (by omega)) ?_)
    have h8 : (c + i) % 8 < 8 := Nat.mod_lt _ (by decide)
    have hin : vp_in (nI ((c + i) % 8)) 8 := vp_in_nI h8 (by omega)
    rw [nI_clamp (by omega)]
    by_cases z : a_work ((c + i) % 8) = 0
    · rw [ca_cl1 z] at hp
      refine ⟨hin, br_t z ⟨hin, nm_e (pk_eq i 0 (fun e => ?_) (fun e => ?_))⟩⟩
      · rw [if_pos e] at hp; exact hp
      · rw [if_neg e] at hp; exact hp
    · rw [ca_cl2 z] at hp
      exact ⟨hin, br_f z (nm_r (nI_1 i) (ih (i + 1) n (by omega) (by omega) hp))⟩
theorem x_perf {nw : Nat} {P : Nat → gh_W} {w : Nat} {post : Int32 → SX → Prop} (hs : cx_a nw P a_origin a_turn a_stamp a_kindOf a_cellOf a_valueOf) (hw : w < nw)
    (hp : post (ca_do (P w) a_work).1 (f_replicas, f_writes, a_origin, a_turn, a_stamp, a_kindOf, a_cellOf, a_valueOf, a_clock, a_seen, a_fixed, a_done, a_heldFrom, a_trimmed, a_log, a_stableCell, a_nowCell, a_waiting, a_applied, a_tent, a_outcome, a_oldCellA, a_oldValA, a_oldCellB, a_oldValB, (ca_do (P w) a_work).2)) : wpX_perform post (f_replicas, f_writes, a_origin, a_turn, a_stamp, a_kindOf, a_cellOf, a_valueOf, a_clock, a_seen, a_fixed, a_done, a_heldFrom, a_trimmed, a_log, a_stableCell, a_nowCell, a_waiting, a_applied, a_tent, a_outcome, a_oldCellA, a_oldValA, a_oldCellB, a_oldValB, a_work) (nI w) := by
  obtain ⟨h48, hws⟩ := hs
  obtain ⟨⟨_, _, _, k5, c8⟩, _, _, _, ekd, ece, eva⟩ := hws w hw
  have n8 := ca_nx8 (P w)
  have i1 : vp_in (nI w) 48 := vp_in_nI (by omega) (by omega)
  have i2 : vp_in (nI (gh_ce (P w))) 8 := vp_in_nI c8 (by omega)
  have i3 : vp_in (nI (ca_nx (P w))) 8 := vp_in_nI n8 (by omega)
  unfold wpX_perform
  dsimp only
  rw [nI_clamp (n := w) (by omega), ece, eva, ekd]
  refine ⟨i1, nm_e ⟨i1, nm_e (nm_r (e' := nI (ca_nx (P w))) (ix_a71 (by omega)) ⟨i1, nm_e ?_⟩)⟩⟩
  rw [nI_clamp (n := gh_ce (P w)) (by omega), nI_clamp (n := ca_nx (P w)) (by omega)]
  by_cases k0 : gh_kd (P w) = 0
  · have ed : ca_do (P w) a_work = (2, upd a_work (gh_ce (P w)) (gh_va (P w))) := by simp only [ca_do, if_pos k0]
    rw [ed] at hp
    rw [k0]
    exact br_f (by decide) (br_f (by decide) (br_t (by decide) ⟨i2, nm_e hp⟩))
  by_cases k1 : gh_kd (P w) = 1
  · have ed : ca_do (P w) a_work = (2, upd a_work (gh_ce (P w)) (a_work (gh_ce (P w)) + gh_va (P w))) := by simp only [ca_do, if_neg k0, if_pos k1]
    rw [ed] at hp
    rw [k1]
    exact br_f (by decide) (br_f (by decide) (br_f (by decide) (br_t (by decide) ⟨i2, i2, nm_e hp⟩)))
  by_cases k2 : gh_kd (P w) = 2
  · rw [k2]
    refine br_f (by decide) (br_f (by decide) (br_f (by decide) (br_f (by decide) (br_t (by decide) ?_))))
    unfold wpX_take
    dsimp only
    rw [nI_clamp (n := gh_ce (P w)) (by omega), nI_clamp (n := ca_nx (P w)) (by omega)]
    refine ⟨i2, br_c (fun a => ⟨i3, br_c (fun b => ?_) (fun b => ⟨i3, i3, nm_e ?_⟩)⟩) (fun a => ⟨i2, i2, nm_e ?_⟩)⟩
    · have ed : ca_do (P w) a_work = (4, a_work) := by simp only [ca_do, if_neg k0, if_neg k1, if_pos k2, if_pos a, if_pos b]
      rw [ed] at hp; exact hp
    · have ed : ca_do (P w) a_work = (3, upd a_work (ca_nx (P w)) (a_work (ca_nx (P w)) - gh_va (P w))) := by simp only [ca_do, if_neg k0, if_neg k1, if_pos k2, if_pos a, if_neg b]
      rw [ed] at hp; exact hp
    · have ed : ca_do (P w) a_work = (2, upd a_work (gh_ce (P w)) (a_work (gh_ce (P w)) - gh_va (P w))) := by simp only [ca_do, if_neg k0, if_neg k1, if_pos k2, if_neg a]
      rw [ed] at hp; exact hp
  by_cases k3 : gh_kd (P w) = 3
  · rw [k3]
    refine br_f (by decide) (br_f (by decide) (br_f (by decide) (br_f (by decide) (br_f (by decide) (br_t (by decide) ?_)))))
    refine ⟨i2, br_c (fun a => ⟨i2, i2, nm_e ⟨i3, i3, nm_e ?_⟩⟩) (fun a => ?_)⟩
    · have a' : ¬ a_work (gh_ce (P w)) < gh_va (P w) := Int32.not_lt.mpr a
      have ed : ca_do (P w) a_work = (2, upd (upd a_work (gh_ce (P w)) (a_work (gh_ce (P w)) - gh_va (P w))) (ca_nx (P w)) (upd a_work (gh_ce (P w)) (a_work (gh_ce (P w)) - gh_va (P w)) (ca_nx (P w)) + gh_va (P w))) := by simp only [ca_do, if_neg k0, if_neg k1, if_neg k2, if_pos k3, if_neg a']
      rw [ed] at hp; exact hp
    · have a' : a_work (gh_ce (P w)) < gh_va (P w) := Int32.not_le.mp a
      have ed : ca_do (P w) a_work = (4, a_work) := by simp only [ca_do, if_neg k0, if_neg k1, if_neg k2, if_pos k3, if_pos a']
      rw [ed] at hp; exact hp
  by_cases k4 : gh_kd (P w) = 4
  · rw [k4]
    refine br_f (by decide) (br_f (by decide) (br_f (by decide) (br_f (by decide) (br_f (by decide) (br_f (by decide) (br_t (by decide) ?_))))))
    have ed : ca_do (P w) a_work = ca_cl (gh_ce (P w)) (gh_va (P w)) a_work 8 0 := by simp only [ca_do, if_neg k0, if_neg k1, if_neg k2, if_neg k3, if_pos k4]
    rw [ed] at hp
    unfold wpX_claim
    dsimp only
    exact ⟨9, x_claim c8 8 0 9 rfl (by omega) hp⟩
  · have k5' : gh_kd (P w) = 5 := by omega
    rw [k5']
    have ed : ca_do (P w) a_work = (2, upd (upd a_work (gh_ce (P w)) (a_work (ca_nx (P w)))) (ca_nx (P w)) (a_work (gh_ce (P w)))) := by simp only [ca_do, if_neg k0, if_neg k1, if_neg k2, if_neg k3, if_neg k4]
    rw [ed] at hp
    exact br_f (by decide) (br_t (by decide) ⟨i2, nm_e ⟨i3, i2, nm_e ⟨i3, nm_e hp⟩⟩⟩)
theorem x_fc_lp {post : Int32 → Prop} {r z : Nat} (hr : r < 4) (hz : z < 8)
    (K : ∀ a, a < 8 → (¬ a_work a = a_nowCell (r * 8 + a)) ∨ (∀ c, c < 8 → a_work c = a_nowCell (r * 8 + c)) → post (nI a)) :
    ∀ m i n, i + m = 8 → m < n → (∀ c, c < i → a_work c = a_nowCell (r * 8 + c)) → wX_firstChanged_2 post (nI r) (nI z) f_replicas f_writes a_origin a_turn a_stamp a_kindOf a_cellOf a_valueOf a_clock a_seen a_fixed a_done a_heldFrom a_trimmed a_log a_stableCell a_nowCell a_waiting a_applied a_tent a_outcome a_oldCellA a_oldValA a_oldCellB a_oldValB a_work n (nI i) := by
  intro m
  induction m with
  | zero =>
    intro i n hi hn h
    obtain ⟨n, rfl⟩ : ∃ k, n = k + 1 := ⟨n - 1, by omega⟩
    rw [wX_firstChanged_2]
    exact pk_le 8 i (fun _ => K z hz (Or.inr (fun c hc => h c (by omega)))) (fun h => by omega)
  | succ m ih =>
    intro i n hi hn h
    obtain ⟨n, rfl⟩ : ∃ k, n = k + 1 := ⟨n - 1, by omega⟩
    rw [wX_firstChanged_2]
    dsimp only
    rw [ix_8, nI_clamp (n := i) (by omega), nI_clamp (n := r * 8 + i) (by omega)]
    refine pk_le 8 i (fun h => by omega) (fun _ => ⟨vp_in_nI (by omega) (by omega), vp_in_nI (by omega) (by omega), br_c (fun e => ?_) (fun e => ?_)⟩)
    · refine nm_r (nI_1 i) (ih (i + 1) n (by omega) (by omega) (fun c hc => ?_))
      by_cases ce : c = i
      · rw [ce]; exact e
      · exact h c (by omega)
    · exact K i (by omega) (Or.inl e)
theorem x_fc {post : Int32 → Prop} {r z : Nat} (hr : r < 4) (hz : z < 8)
    (K : ∀ a, a < 8 → (¬ a_work a = a_nowCell (r * 8 + a)) ∨ (∀ c, c < 8 → a_work c = a_nowCell (r * 8 + c)) → post (nI a)) :
    wpX_firstChanged post (f_replicas, f_writes, a_origin, a_turn, a_stamp, a_kindOf, a_cellOf, a_valueOf, a_clock, a_seen, a_fixed, a_done, a_heldFrom, a_trimmed, a_log, a_stableCell, a_nowCell, a_waiting, a_applied, a_tent, a_outcome, a_oldCellA, a_oldValA, a_oldCellB, a_oldValB, a_work) (nI r) (nI z) := by
  unfold wpX_firstChanged
  dsimp only
  exact ⟨9, x_fc_lp hr hz K 8 0 9 rfl (by omega) (fun c hc => by omega)⟩
theorem x_ap155 {post : SX → Prop} {r : Nat} (hr : r < 4)
    (K : ∀ nc, fr_ag 8 r a_nowCell nc → (∀ c, c < 8 → nc (r * 8 + c) = a_work c) → post (f_replicas, f_writes, a_origin, a_turn, a_stamp, a_kindOf, a_cellOf, a_valueOf, a_clock, a_seen, a_fixed, a_done, a_heldFrom, a_trimmed, a_log, a_stableCell, nc, a_waiting, a_applied, a_tent, a_outcome, a_oldCellA, a_oldValA, a_oldCellB, a_oldValB, a_work)) :
    ∀ m i n nc, i + m = 8 → m < n → fr_ag 8 r a_nowCell nc → (∀ c, c < i → nc (r * 8 + c) = a_work c) → wX_applyOne_155 post (nI r) f_replicas f_writes n (nI i) a_origin a_turn a_stamp a_kindOf a_cellOf a_valueOf a_clock a_seen a_fixed a_done a_heldFrom a_trimmed a_log a_stableCell nc a_waiting a_applied a_tent a_outcome a_oldCellA a_oldValA a_oldCellB a_oldValB a_work := by
  intro m
  induction m with
  | zero =>
    intro i n nc hi hn hf h
    obtain ⟨n, rfl⟩ : ∃ k, n = k + 1 := ⟨n - 1, by omega⟩
    rw [wX_applyOne_155]
    exact pk_le 8 i (fun _ => K nc hf (fun c hc => h c (by omega))) (fun h => by omega)
  | succ m ih =>
    intro i n nc hi hn hf h
    obtain ⟨n, rfl⟩ : ∃ k, n = k + 1 := ⟨n - 1, by omega⟩
    rw [wX_applyOne_155]
    dsimp only
    rw [ix_8, nI_clamp (n := i) (by omega), nI_clamp (n := r * 8 + i) (by omega)]
    refine pk_le 8 i (fun h => by omega) (fun _ => ⟨vp_in_nI (by omega) (by omega), vp_in_nI (by omega) (by omega), nm_e (nm_r (nI_1 i) ?_)⟩)
    refine ih (i + 1) n _ (by omega) (by omega) (fr_ag_t hf (fr_ag_u (by omega))) (fun c hc => ?_)
    by_cases ce : c = i
    · rw [ce]; exact pk_us
    · rw [pk_un (by omega)]; exact h c (by omega)
theorem x_ap100 {post : SX → Prop} {r k a b : Nat} (hr : r < 4) (hk : k < 192) (ha : a < 8) (hb : b < 8)
    (K : ∀ nc, fr_ag 8 r a_nowCell nc → (∀ c, c < 8 → nc (r * 8 + c) = a_work c) → post (f_replicas, f_writes, a_origin, a_turn, a_stamp, a_kindOf, a_cellOf, a_valueOf, a_clock, a_seen, a_fixed, a_done, a_heldFrom, a_trimmed, a_log, a_stableCell, nc, a_waiting, a_applied, a_tent, a_outcome, upd a_oldCellA k (nI a), upd a_oldValA k (a_nowCell (r * 8 + a)), upd a_oldCellB k (nI b), upd a_oldValB k (a_nowCell (r * 8 + b)), a_work)) :
    wX_applyOne_100 post (nI r) (nI k) (nI a) (nI b) f_replicas f_writes a_origin a_turn a_stamp a_kindOf a_cellOf a_valueOf a_clock a_seen a_fixed a_done a_heldFrom a_trimmed a_log a_stableCell a_nowCell a_waiting a_applied a_tent a_outcome a_oldCellA a_oldValA a_oldCellB a_oldValB a_work := by
  unfold wX_applyOne_100
  rw [ix_8, ix_8, nI_clamp (n := k) (by omega), nI_clamp (n := r * 8 + a) (by omega), nI_clamp (n := r * 8 + b) (by omega)]
  have i1 : vp_in (nI k) 192 := vp_in_nI hk (by omega)
  refine ⟨i1, nm_e ⟨vp_in_nI (by omega) (by omega), i1, nm_e ⟨i1, nm_e ⟨vp_in_nI (by omega) (by omega), i1, nm_e ⟨9, ?_⟩⟩⟩⟩⟩
  exact x_ap155 hr K 8 0 9 a_nowCell rfl (by omega) fr_ag_r (fun c hc => by omega)
/-- the store copied, the write carried out on it, the old cells kept -/
theorem x_ap18 {nw : Nat} {P : Nat → gh_W} {post : SX → Prop} {r k w : Nat} {s : Nat → Int32} (hr : r < 4) (hk : k < 192) (hs : cx_a nw P a_origin a_turn a_stamp a_kindOf a_cellOf a_valueOf) (hw : w < nw)
    (hnow : ∀ c, c < 8 → a_nowCell (r * 8 + c) = s c)
    (K : ∀ nc wk a b, fr_ag 8 r a_nowCell nc → (∀ c, c < 8 → nc (r * 8 + c) = (ca_do (P w) s).2 c) → a < 8 → b < 8 → (∀ c, c < 8 → c ≠ a → c ≠ b → (ca_do (P w) s).2 c = s c) →
      post (f_replicas, f_writes, a_origin, a_turn, a_stamp, a_kindOf, a_cellOf, a_valueOf, a_clock, a_seen, a_fixed, a_done, a_heldFrom, a_trimmed, a_log, a_stableCell, nc, a_waiting, a_applied, a_tent, upd a_outcome k (ca_do (P w) s).1, upd a_oldCellA k (nI a), upd a_oldValA k (s a), upd a_oldCellB k (nI b), upd a_oldValB k (s b), wk)) :
    ∀ m i n wk, i + m = 8 → m < n → (∀ c, c < i → wk c = a_nowCell (r * 8 + c)) → wX_applyOne_18 post (nI r) (nI k) (nI w) f_replicas f_writes n (nI i) a_origin a_turn a_stamp a_kindOf a_cellOf a_valueOf a_clock a_seen a_fixed a_done a_heldFrom a_trimmed a_log a_stableCell a_nowCell a_waiting a_applied a_tent a_outcome a_oldCellA a_oldValA a_oldCellB a_oldValB wk := by
  intro m
  induction m with
  | zero =>
    intro i n wk hi hn h
    obtain ⟨n, rfl⟩ : ∃ k, n = k + 1 := ⟨n - 1, by omega⟩
    rw [wX_applyOne_18]
    refine pk_le 8 i (fun _ => ?_) (fun h => by omega)
    obtain ⟨h48, hws⟩ := hs
    obtain ⟨⟨_, _, _, k5, c8⟩, _, _, _, ekd, ece, eva⟩ := hws w hw
    have n8 := ca_nx8 (P w)
    have hE : ca_E wk s := fun c hc => (h c (by omega)).trans (hnow c hc)
    obtain ⟨e1, e2⟩ := ca_do_e (p := P w) c8 hE
    have i1 : vp_in (nI k) 192 := vp_in_nI hk (by omega)
    have i2 : vp_in (nI w) 48 := vp_in_nI (by omega) (by omega)
    refine x_perf (nw := nw) (P := P) ⟨h48, hws⟩ hw ?_
    dsimp only
    rw [nI_clamp (n := k) (by omega), nI_clamp (n := w) (by omega), ece, ekd]
    refine ⟨i1, nm_e ⟨i2, nm_e (nm_r (e' := nI (ca_nx (P w))) (ix_a71 (by omega)) ⟨i2, ?_⟩)⟩⟩
    by_cases k4 : gh_kd (P w) = 4
    · rw [k4]
      refine br_t (by decide) (x_fc hr c8 (fun a ha hd => ?_))
      refine x_ap100 hr hk ha n8 (fun nc hf hnc => ?_)
      rw [hnow a ha, hnow _ n8, e1]
      refine K nc _ a (ca_nx (P w)) hf (fun c hc => (hnc c hc).trans (e2 c hc)) ha n8 (fun c hc ca cb => ?_)
      obtain ⟨z, hz⟩ := ca_un4 k4 s
      rcases hd with hd | hd
      · have az : a = z := by
          by_cases az : a = z
          · exact az
          · exfalso
            apply hd
            rw [hnow a ha, e2 a ha]
            exact hz a az
        exact hz c (by omega)
      · rw [← e2 c hc, hd c hc]; exact hnow c hc
    · refine br_f (fun e => k4 ((nI_eq (b := 4) (by omega) (by omega)).mp e)) ?_
      refine x_ap100 hr hk c8 n8 (fun nc hf hnc => ?_)
      rw [hnow _ c8, hnow _ n8, e1]
      exact K nc _ (gh_ce (P w)) (ca_nx (P w)) hf (fun c hc => (hnc c hc).trans (e2 c hc)) c8 n8 (fun c hc ca cb => ca_un k4 s ca cb)
  | succ m ih =>
    intro i n wk hi hn h
    obtain ⟨n, rfl⟩ : ∃ k, n = k + 1 := ⟨n - 1, by omega⟩
    rw [wX_applyOne_18]
    dsimp only
    rw [ix_8, nI_clamp (n := i) (by omega), nI_clamp (n := r * 8 + i) (by omega)]
    refine pk_le 8 i (fun h => by omega) (fun _ => ⟨vp_in_nI (by omega) (by omega), vp_in_nI (by omega) (by omega), nm_e (nm_r (nI_1 i) ?_)⟩)
    refine ih (i + 1) n _ (by omega) (by omega) (fun c hc => ?_)
    by_cases ce : c = i
    · rw [ce]; exact pk_us
    · rw [pk_un (by omega)]; exact h c (by omega)
end app
theorem x_ap1 {nw : Nat} {P : Nat → gh_W} {ord : Nat → Nat} {r : Nat} {B : Nat → Int32} {T : List Nat} {aa i : Nat} {sn : Nat → Nat} {D ck tr w : Nat} {u : SX} {post : SX → Prop} (hr : r < 4) (hs : cx_s nw P u) (hw : w < nw) (hi : T[i]? = some w)
    (hR : rp_X P ord r B T aa i sn D ck tr u) (K : ∀ u', fr_X r u u' → rp_X P ord r B T aa (i + 1) sn D ck tr u' → post u') : wpX_applyOne post u (nI r) (nI i) := by
  obtain ⟨f_replicas, f_writes, a_origin, a_turn, a_stamp, a_kindOf, a_cellOf, a_valueOf, a_clock, a_seen, a_fixed, a_done, a_heldFrom, a_trimmed, a_log, a_stableCell, a_nowCell, a_waiting, a_applied, a_tent, a_outcome, a_oldCellA, a_oldValA, a_oldCellB, a_oldValB, a_work⟩ := u
  obtain ⟨hT, hA, hC, hS, hN, hF, hL, hK⟩ := hR
  change rp_T _ _ a_waiting a_tent at hT
  change rp_A _ _ a_applied at hA
  change rp_C _ _ _ _ _ a_nowCell a_outcome a_oldCellA a_oldValA a_oldCellB a_oldValB at hC
  change rp_S _ _ _ _ a_stableCell at hS
  change rp_n _ _ a_seen at hN
  change rp_f _ _ _ _ a_fixed at hF
  change rp_L _ _ _ a_done a_heldFrom a_log at hL
  change rp_K _ _ _ a_clock a_trimmed at hK
  obtain ⟨hql, hnow, hch⟩ := hC
  have hl := li_lt hi
  have h48 := hT.2.1
  have hte := hT.2.2.2 i w hi
  unfold wpX_applyOne
  dsimp only
  refine nm_r (ix_48 r i) ?_
  rw [nI_clamp (by omega)]
  refine ⟨vp_in_nI (by omega) (by omega), nm_r hte ⟨9, ?_⟩⟩
  refine x_ap18 (s := rn_l P B (T.take i)) hr (by omega) hs hw hnow (fun nc wk a b hf hnc ha hb hun => ?_) 8 0 9 a_work rfl (by omega) (fun c hc => by omega)
  have hi48 : i < 48 := by omega
  refine K _ ⟨@rfl _ f_replicas, @rfl _ f_writes, @rfl _ a_origin, @rfl _ a_turn, @rfl _ a_stamp, @rfl _ a_kindOf, @rfl _ a_cellOf, @rfl _ a_valueOf, @fr_ag_r _ _ a_clock, @fr_ag_r _ _ a_seen, @fr_ag_r _ _ a_fixed, @fr_ag_r _ _ a_done, @fr_ag_r _ _ a_heldFrom, @fr_ag_r _ _ a_trimmed, @fr_ag_r _ _ a_log, @fr_ag_r _ _ a_stableCell, hf, @fr_ag_r _ _ a_waiting, @fr_ag_r _ _ a_applied, @fr_ag_r _ _ a_tent, fr_ag_u (a := a_outcome) hi48, fr_ag_u (a := a_oldCellA) hi48, fr_ag_u (a := a_oldValA) hi48, fr_ag_u (a := a_oldCellB) hi48, fr_ag_u (a := a_oldValB) hi48⟩ ⟨hT, hA, ⟨by omega, fun c hc => ?_, fun j x hj hx => ?_⟩, hS, hN, hF, hL, hK⟩
  · rw [rn_snoc hi]; exact hnc c hc
  · by_cases e : j = i
    · subst e
      have ex : w = x := Option.some.inj (hi.symm.trans hx)
      subst ex
      refine ⟨pk_us, a, b, ha, hb, pk_us, pk_us, fun c hc => ?_⟩
      show _ = if c = a then upd a_oldValA (r * 48 + j) _ (r * 48 + j) else if c = b then upd a_oldValB (r * 48 + j) _ (r * 48 + j) else _
      rw [pk_us, pk_us, rn_snoc hi]
      by_cases ca : c = a
      · rw [if_pos ca, ca]
      · rw [if_neg ca]
        by_cases cb : c = b
        · rw [if_pos cb, cb]
        · rw [if_neg cb]; exact (hun c hc ca cb).symm
    · obtain ⟨o1, a', b', ha', hb', o2, o3, o4⟩ := hch j x (by omega) hx
      refine ⟨(pk_un (by omega)).trans o1, a', b', ha', hb', (pk_un (by omega)).trans o2, (pk_un (by omega)).trans o3, fun c hc => ?_⟩
      show _ = if c = a' then upd a_oldValA (r * 48 + i) _ (r * 48 + j) else if c = b' then upd a_oldValB (r * 48 + i) _ (r * 48 + j) else _
      rw [pk_un (by omega), pk_un (by omega)]
      exact o4 c hc
theorem x_apA_lp {nw : Nat} {P : Nat → gh_W} {ord : Nat → Nat} {r : Nat} {B : Nat → Int32} {T : List Nat} {aa : Nat} {sn : Nat → Nat} {D ck tr : Nat} {post : SX → Prop} (hr : r < 4) (hTw : ∀ x, x ∈ T → x < nw) :
    ∀ n i u, T.length - i < n → i ≤ T.length → cx_s nw P u → rp_X P ord r B T aa i sn D ck tr u →
      (∀ u', fr_X r u u' → rp_X P ord r B T T.length T.length sn D ck tr u' → post u') → ux_applyAll_7 post (nI r) n (nI i) u := by
  intro n
  induction n with
  | zero => intro i u h; omega
  | succ n ih =>
    intro i u hn hi hs hR K
    have h48 := hR.1.2.1
    have hwt := hR.1.1
    by_cases c : i < T.length
    · have hx : T[i]? = some (T[i]'c) := List.getElem?_eq_getElem c
      generalize T[i]'c = w at hx
      have A := x_ap1 (u := u) (post := fun u' => ∀ x2_35 : Int32, x2_35 = nI i + 1 → ux_applyAll_7 post (nI r) n x2_35 u') hr hs (hTw w (List.mem_of_getElem? hx)) hx hR
        (fun u' hf hR' => nm_r (nI_1 i) (ih (i + 1) u' (by omega) (by omega) (cx_fr hf hs) hR' (fun u2 hf2 hR2 => K u2 (fr_X_t hf hf2) hR2)))
      obtain ⟨f_replicas, f_writes, a_origin, a_turn, a_stamp, a_kindOf, a_cellOf, a_valueOf, a_clock, a_seen, a_fixed, a_done, a_heldFrom, a_trimmed, a_log, a_stableCell, a_nowCell, a_waiting, a_applied, a_tent, a_outcome, a_oldCellA, a_oldValA, a_oldCellB, a_oldValB, a_work⟩ := u
      change a_waiting r = nI T.length at hwt
      unfold ux_applyAll_7
      dsimp only
      rw [wX_applyAll_7]
      dsimp only
      rw [nI_clamp (by omega), hwt]
      exact ⟨vp_in_nI hr (by omega), br_f (nI_ge c (by omega)) A⟩
    · have e : i = T.length := by omega
      subst e
      obtain ⟨f_replicas, f_writes, a_origin, a_turn, a_stamp, a_kindOf, a_cellOf, a_valueOf, a_clock, a_seen, a_fixed, a_done, a_heldFrom, a_trimmed, a_log, a_stableCell, a_nowCell, a_waiting, a_applied, a_tent, a_outcome, a_oldCellA, a_oldValA, a_oldCellB, a_oldValB, a_work⟩ := u
      obtain ⟨hT, hA, hC, hS, hN, hF, hL, hK⟩ := hR
      change rp_T _ _ a_waiting a_tent at hT
      change rp_A _ _ a_applied at hA
      change rp_C _ _ _ _ _ a_nowCell a_outcome a_oldCellA a_oldValA a_oldCellB a_oldValB at hC
      change rp_S _ _ _ _ a_stableCell at hS
      change rp_n _ _ a_seen at hN
      change rp_f _ _ _ _ a_fixed at hF
      change rp_L _ _ _ a_done a_heldFrom a_log at hL
      change rp_K _ _ _ a_clock a_trimmed at hK
      change a_waiting r = nI T.length at hwt
      unfold ux_applyAll_7
      dsimp only
      rw [wX_applyAll_7]
      dsimp only
      rw [nI_clamp (by omega), hwt]
      have i4 : vp_in (nI r) 4 := vp_in_nI hr (by omega)
      exact ⟨i4, br_t (nI_le (Nat.le_refl _) (by omega)) ⟨i4, i4, nm_e (K _ ⟨@rfl _ f_replicas, @rfl _ f_writes, @rfl _ a_origin, @rfl _ a_turn, @rfl _ a_stamp, @rfl _ a_kindOf, @rfl _ a_cellOf, @rfl _ a_valueOf, @fr_ag_r _ _ a_clock, @fr_ag_r _ _ a_seen, @fr_ag_r _ _ a_fixed, @fr_ag_r _ _ a_done, @fr_ag_r _ _ a_heldFrom, @fr_ag_r _ _ a_trimmed, @fr_ag_r _ _ a_log, @fr_ag_r _ _ a_stableCell, @fr_ag_r _ _ a_nowCell, @fr_ag_r _ _ a_waiting, fr_ag_1 (a := a_applied), @fr_ag_r _ _ a_tent, @fr_ag_r _ _ a_outcome, @fr_ag_r _ _ a_oldCellA, @fr_ag_r _ _ a_oldValA, @fr_ag_r _ _ a_oldCellB, @fr_ag_r _ _ a_oldValB⟩ ⟨hT, ⟨pk_us, h48⟩, hC, hS, hN, hF, hL, hK⟩)⟩⟩
theorem x_apA {nw : Nat} {P : Nat → gh_W} {ord : Nat → Nat} {r : Nat} {B : Nat → Int32} {T : List Nat} {q : Nat} {sn : Nat → Nat} {D ck tr : Nat} {u : SX} {post : SX → Prop} (hr : r < 4) (hTw : ∀ x, x ∈ T → x < nw) (hs : cx_s nw P u)
    (hR : rp_X P ord r B T q q sn D ck tr u) (K : ∀ u', fr_X r u u' → rp_X P ord r B T T.length T.length sn D ck tr u' → post u') : wpX_applyAll post u (nI r) := by
  have L := x_apA_lp hr hTw (T.length - q + 1) q u (by omega) hR.2.2.1.1 hs hR K
  have hap := hR.2.1.1
  obtain ⟨f_replicas, f_writes, a_origin, a_turn, a_stamp, a_kindOf, a_cellOf, a_valueOf, a_clock, a_seen, a_fixed, a_done, a_heldFrom, a_trimmed, a_log, a_stableCell, a_nowCell, a_waiting, a_applied, a_tent, a_outcome, a_oldCellA, a_oldValA, a_oldCellB, a_oldValB, a_work⟩ := u
  change a_applied r = nI q at hap
  unfold wpX_applyAll
  dsimp only
  refine ⟨vp_in_nI hr (by omega), nm_r (e' := nI q) ?_ ⟨_, L⟩⟩
  rw [nI_clamp (by omega), hap]
end
section
/-! X: removeTentative, fix -/
/-- an array's slice with the places p .. i-1 shifted down by one -/
abbrev rm_sh (r p i : Nat) (a0 a : Nat → Int32) : Prop :=
  (∀ j, p ≤ j → j < i → a (r * 48 + j) = a0 (r * 48 + (j + 1))) ∧ (∀ j, j < p ∨ i ≤ j → a (r * 48 + j) = a0 (r * 48 + j)) ∧ fr_ag 48 r a0 a
theorem rm_0 {r p : Nat} {a : Nat → Int32} : rm_sh r p p a a := ⟨fun j h1 h2 => by omega, fun _ _ => rfl, fr_ag_r⟩
theorem rm_s {r p i : Nat} {a0 a : Nat → Int32} (hi : i < 48) (hp : p ≤ i) (h : rm_sh r p i a0 a) : rm_sh r p (i + 1) a0 (upd a (r * 48 + i) (a (r * 48 + i + 1))) := by
  obtain ⟨h1, h2, h3⟩ := h
  refine ⟨fun j hj1 hj2 => ?_, fun j hj => ?_, fr_ag_t h3 (fr_ag_u hi)⟩
  · by_cases e : j = i
    · rw [e, pk_us]; exact h2 (i + 1) (by omega)
    · rw [pk_un (by omega)]; exact h1 j hj1 (by omega)
  · rw [pk_un (by omega)]; exact h2 j (by omega)
section rmt
variable {f_replicas f_writes : Int32} {a_origin a_turn a_stamp a_kindOf a_cellOf a_valueOf a_clock a_seen a_fixed a_done a_heldFrom a_trimmed a_log a_stableCell a_nowCell a_waiting a_applied a_tent a_outcome a_oldCellA a_oldValA a_oldCellB a_oldValB a_work : Nat → Int32}
theorem x_rm54 {post : SX → Prop} {r p L aa : Nat} (hr : r < 4) (hL : L ≤ 48) (hp : p < L) (haa : a_applied r = nI aa) (ha48 : aa ≤ 48)
    (K : ∀ te oc oA vA oB vB, rm_sh r p (L - 1) a_tent te → rm_sh r p (L - 1) a_outcome oc → rm_sh r p (L - 1) a_oldCellA oA → rm_sh r p (L - 1) a_oldValA vA → rm_sh r p (L - 1) a_oldCellB oB → rm_sh r p (L - 1) a_oldValB vB →
      ((aa ≤ p → post (f_replicas, f_writes, a_origin, a_turn, a_stamp, a_kindOf, a_cellOf, a_valueOf, a_clock, a_seen, a_fixed, a_done, a_heldFrom, a_trimmed, a_log, a_stableCell, a_nowCell, upd a_waiting r (nI (L - 1)), a_applied, te, oc, oA, vA, oB, vB, a_work)) ∧
       (p < aa → post (f_replicas, f_writes, a_origin, a_turn, a_stamp, a_kindOf, a_cellOf, a_valueOf, a_clock, a_seen, a_fixed, a_done, a_heldFrom, a_trimmed, a_log, a_stableCell, a_nowCell, upd a_waiting r (nI (L - 1)), upd a_applied r (nI (aa - 1)), te, oc, oA, vA, oB, vB, a_work)))) :
    ∀ m i n te oc oA vA oB vB, i + m = L - 1 → p ≤ i → m < n → rm_sh r p i a_tent te → rm_sh r p i a_outcome oc → rm_sh r p i a_oldCellA oA → rm_sh r p i a_oldValA vA → rm_sh r p i a_oldCellB oB → rm_sh r p i a_oldValB vB →
      wX_removeTentative_54 post (nI r) (nI L) (nI p) f_replicas f_writes n (nI (r * 48 + i)) a_origin a_turn a_stamp a_kindOf a_cellOf a_valueOf a_clock a_seen a_fixed a_done a_heldFrom a_trimmed a_log a_stableCell a_nowCell a_waiting a_applied te oc oA vA oB vB a_work := by
  intro m
  induction m with
  | zero =>
    intro i n te oc oA vA oB vB hi hpi hn s1 s2 s3 s4 s5 s6
    obtain ⟨n, rfl⟩ : ∃ k, n = k + 1 := ⟨n - 1, by omega⟩
    have e : i = L - 1 := by omega
    subst e
    obtain ⟨K1, K2⟩ := K te oc oA vA oB vB s1 s2 s3 s4 s5 s6
    have i4 : vp_in (nI r) 4 := vp_in_nI hr (by omega)
    have e1 : nI r * 48 + nI L - 1 = nI (r * 48 + (L - 1)) := by rw [ix_48, ix_p (by omega)]; exact congrArg nI (by omega)
    rw [wX_removeTentative_54]
    dsimp only
    rw [e1, nI_clamp (n := r) (by omega), haa, ix_p (n := L) (by omega)]
    refine br_t (nI_le (Nat.le_refl _) (by omega)) ⟨i4, nm_e ⟨i4, pk_le aa p (fun h => K1 h) (fun h => ⟨i4, i4, ?_⟩)⟩⟩
    rw [ix_p (n := aa) (by omega)]
    exact nm_e (K2 h)
  | succ m ih =>
    intro i n te oc oA vA oB vB hi hpi hn s1 s2 s3 s4 s5 s6
    obtain ⟨n, rfl⟩ : ∃ k, n = k + 1 := ⟨n - 1, by omega⟩
    have e1 : nI r * 48 + nI L - 1 = nI (r * 48 + (L - 1)) := by rw [ix_48, ix_p (by omega)]; exact congrArg nI (by omega)
    have i1 : vp_in (nI (r * 48 + i)) 192 := vp_in_nI (by omega) (by omega)
    have i2 : vp_in (nI (r * 48 + i + 1)) 192 := vp_in_nI (by omega) (by omega)
    rw [wX_removeTentative_54]
    dsimp only
    rw [e1]
    refine br_f (nI_ge (by omega) (by omega)) ?_
    rw [nI_1 (r * 48 + i), nI_clamp (n := r * 48 + i) (by omega), nI_clamp (n := r * 48 + i + 1) (by omega)]
    refine ⟨i2, i1, nm_e ⟨i2, i1, nm_e ⟨i2, i1, nm_e ⟨i2, i1, nm_e ⟨i2, i1, nm_e ⟨i2, i1, nm_e (nm_e ?_)⟩⟩⟩⟩⟩⟩
    have h48 : i < 48 := by omega
    exact ih (i + 1) n _ _ _ _ _ _ (by omega) (by omega) (by omega) (rm_s h48 hpi s1) (rm_s h48 hpi s2) (rm_s h48 hpi s3) (rm_s h48 hpi s4) (rm_s h48 hpi s5) (rm_s h48 hpi s6)
theorem rm_C {P : Nat → gh_W} {B : Nat → Int32} {r w : Nat} {T' : List Nat} {q : Nat} {oc oA vA oB vB : Nat → Int32} (hq : 0 < q)
    (s2 : rm_sh r 0 T'.length a_outcome oc) (s3 : rm_sh r 0 T'.length a_oldCellA oA) (s4 : rm_sh r 0 T'.length a_oldValA vA) (s5 : rm_sh r 0 T'.length a_oldCellB oB) (s6 : rm_sh r 0 T'.length a_oldValB vB)
    (hC : rp_C P B r (w :: T') q a_nowCell a_outcome a_oldCellA a_oldValA a_oldCellB a_oldValB) : rp_C P (ca_do (P w) B).2 r T' (q - 1) a_nowCell oc oA vA oB vB := by
  obtain ⟨q, rfl⟩ : ∃ k, q = k + 1 := ⟨q - 1, by omega⟩
  obtain ⟨c1, c2, c3⟩ := hC
  rw [List.length_cons] at c1
  refine ⟨by omega, fun c hc => c2 c hc, fun i x hi hx => ?_⟩
  obtain ⟨o1, a, b, ha, hb, o2, o3, o4⟩ := c3 (i + 1) x (by omega) hx
  have hl := li_lt hx
  refine ⟨(s2.1 i (by omega) hl).trans o1, a, b, ha, hb, (s3.1 i (by omega) hl).trans o2, (s5.1 i (by omega) hl).trans o3, fun c hc => ?_⟩
  rw [s4.1 i (by omega) hl, s6.1 i (by omega) hl]
  exact o4 c hc
theorem rm_T {r p L : Nat} {T : List Nat} {te : Nat → Int32} (hL : L = T.length) (hp : p < L) (hT : rp_T r T a_waiting a_tent) (s : rm_sh r p (L - 1) a_tent te) : rp_T r (T.eraseIdx p) (upd a_waiting r (nI (L - 1))) te := by
  subst hL
  obtain ⟨t1, t2, t3, t4⟩ := hT
  have hl := List.length_eraseIdx_of_lt hp
  refine ⟨by rw [pk_us, hl], by omega, fun x hx => t3 x (List.mem_of_mem_eraseIdx hx), fun j x hx => ?_⟩
  have hj := li_lt hx
  rw [List.getElem?_eraseIdx] at hx
  by_cases c : j < p
  · rw [if_pos c] at hx
    rw [s.2.1 j (Or.inl c)]; exact t4 j x hx
  · rw [if_neg c] at hx
    rw [s.1 j (by omega) (by omega)]; exact t4 (j + 1) x hx
theorem x_rm38 {P : Nat → gh_W} {ord : Nat → Nat} {r : Nat} {B : Nat → Int32} {T : List Nat} {q : Nat} {sn : Nat → Nat} {D ck tr w p : Nat} {post : SX → Prop} (hr : r < 4) (hp : T[p]? = some w) (hq : q = 0 ∨ p = 0)
    (hR : rp_X P ord r B T q q sn D ck tr (f_replicas, f_writes, a_origin, a_turn, a_stamp, a_kindOf, a_cellOf, a_valueOf, a_clock, a_seen, a_fixed, a_done, a_heldFrom, a_trimmed, a_log, a_stableCell, a_nowCell, a_waiting, a_applied, a_tent, a_outcome, a_oldCellA, a_oldValA, a_oldCellB, a_oldValB, a_work))
    (K1 : ∀ T' u', T = w :: T' → 0 < q → fr_X r (f_replicas, f_writes, a_origin, a_turn, a_stamp, a_kindOf, a_cellOf, a_valueOf, a_clock, a_seen, a_fixed, a_done, a_heldFrom, a_trimmed, a_log, a_stableCell, a_nowCell, a_waiting, a_applied, a_tent, a_outcome, a_oldCellA, a_oldValA, a_oldCellB, a_oldValB, a_work) u' → rp_X P ord r (ca_do (P w) B).2 T' (q - 1) (q - 1) sn D ck tr u' → post u')
    (K2 : ∀ u', q = 0 → fr_X r (f_replicas, f_writes, a_origin, a_turn, a_stamp, a_kindOf, a_cellOf, a_valueOf, a_clock, a_seen, a_fixed, a_done, a_heldFrom, a_trimmed, a_log, a_stableCell, a_nowCell, a_waiting, a_applied, a_tent, a_outcome, a_oldCellA, a_oldValA, a_oldCellB, a_oldValB, a_work) u' → rp_X P ord r B (T.eraseIdx p) 0 0 sn D ck tr u' → post u') :
    wX_removeTentative_38 post (nI r) (nI T.length) (nI p) f_replicas f_writes a_origin a_turn a_stamp a_kindOf a_cellOf a_valueOf a_clock a_seen a_fixed a_done a_heldFrom a_trimmed a_log a_stableCell a_nowCell a_waiting a_applied a_tent a_outcome a_oldCellA a_oldValA a_oldCellB a_oldValB a_work := by
  obtain ⟨hT, hA, hC, hS, hN, hF, hL, hK⟩ := hR
  change rp_T _ _ a_waiting a_tent at hT
  change rp_A _ _ a_applied at hA
  change rp_C _ _ _ _ _ a_nowCell a_outcome a_oldCellA a_oldValA a_oldCellB a_oldValB at hC
  change rp_S _ _ _ _ a_stableCell at hS
  change rp_n _ _ a_seen at hN
  change rp_f _ _ _ _ a_fixed at hF
  change rp_L _ _ _ a_done a_heldFrom a_log at hL
  change rp_K _ _ _ a_clock a_trimmed at hK
  have hl := li_lt hp
  have h48 := hT.2.1
  unfold wX_removeTentative_38
  refine br_t (nI_lt hl (by omega)) (nm_r (ix_48 r p) ⟨T.length, ?_⟩)
  refine x_rm54 hr h48 hl hA.1 hA.2 (fun te oc oA vA oB vB s1 s2 s3 s4 s5 s6 => ?_) (T.length - 1 - p) p T.length a_tent a_outcome a_oldCellA a_oldValA a_oldCellB a_oldValB (by omega) (Nat.le_refl _) (by omega) rm_0 rm_0 rm_0 rm_0 rm_0 rm_0
  have hT' := rm_T (a_waiting := a_waiting) rfl hl hT s1
  by_cases q0 : q = 0
  · subst q0
    refine ⟨fun _ => ?_, fun h => by omega⟩
    refine K2 _ rfl ⟨@rfl _ f_replicas, @rfl _ f_writes, @rfl _ a_origin, @rfl _ a_turn, @rfl _ a_stamp, @rfl _ a_kindOf, @rfl _ a_cellOf, @rfl _ a_valueOf, @fr_ag_r _ _ a_clock, @fr_ag_r _ _ a_seen, @fr_ag_r _ _ a_fixed, @fr_ag_r _ _ a_done, @fr_ag_r _ _ a_heldFrom, @fr_ag_r _ _ a_trimmed, @fr_ag_r _ _ a_log, @fr_ag_r _ _ a_stableCell, @fr_ag_r _ _ a_nowCell, fr_ag_1 (a := a_waiting), @fr_ag_r _ _ a_applied, s1.2.2, s2.2.2, s3.2.2, s4.2.2, s5.2.2, s6.2.2⟩ ⟨hT', hA, ⟨by omega, fun c hc => hC.2.1 c hc, fun i x hi => by omega⟩, hS, hN, hF, hL, hK⟩
  · have p0 : p = 0 := by omega
    subst p0
    refine ⟨fun h => by omega, fun _ => ?_⟩
    obtain ⟨x, T', rfl⟩ : ∃ x T', T = x :: T' := by
      cases T with
      | nil => exact absurd hl (by simp)
      | cons x T' => exact ⟨x, T', rfl⟩
    have ex : x = w := Option.some.inj hp
    subst ex
    have e0 : (x :: T').length - 1 = T'.length := by rw [List.length_cons]; omega
    rw [e0] at s1 s2 s3 s4 s5 s6 hT' ⊢
    refine K1 T' _ rfl (by omega) ⟨@rfl _ f_replicas, @rfl _ f_writes, @rfl _ a_origin, @rfl _ a_turn, @rfl _ a_stamp, @rfl _ a_kindOf, @rfl _ a_cellOf, @rfl _ a_valueOf, @fr_ag_r _ _ a_clock, @fr_ag_r _ _ a_seen, @fr_ag_r _ _ a_fixed, @fr_ag_r _ _ a_done, @fr_ag_r _ _ a_heldFrom, @fr_ag_r _ _ a_trimmed, @fr_ag_r _ _ a_log, @fr_ag_r _ _ a_stableCell, @fr_ag_r _ _ a_nowCell, fr_ag_1 (a := a_waiting), fr_ag_1 (a := a_applied), s1.2.2, s2.2.2, s3.2.2, s4.2.2, s5.2.2, s6.2.2⟩ ⟨hT', ⟨pk_us, by have := hA.2; omega⟩, rm_C (by omega) s2 s3 s4 s5 s6 hC, hS, hN, hF, hL, hK⟩
theorem x_rm10 {P : Nat → gh_W} {ord : Nat → Nat} {r : Nat} {B : Nat → Int32} {T : List Nat} {q : Nat} {sn : Nat → Nat} {D ck tr w : Nat} {post : SX → Prop} (hr : r < 4) (hw : w < 48) (hq : q = 0 ∨ T[0]? = some w)
    (hR : rp_X P ord r B T q q sn D ck tr (f_replicas, f_writes, a_origin, a_turn, a_stamp, a_kindOf, a_cellOf, a_valueOf, a_clock, a_seen, a_fixed, a_done, a_heldFrom, a_trimmed, a_log, a_stableCell, a_nowCell, a_waiting, a_applied, a_tent, a_outcome, a_oldCellA, a_oldValA, a_oldCellB, a_oldValB, a_work))
    (K0 : ¬ w ∈ T → post (f_replicas, f_writes, a_origin, a_turn, a_stamp, a_kindOf, a_cellOf, a_valueOf, a_clock, a_seen, a_fixed, a_done, a_heldFrom, a_trimmed, a_log, a_stableCell, a_nowCell, a_waiting, a_applied, a_tent, a_outcome, a_oldCellA, a_oldValA, a_oldCellB, a_oldValB, a_work))
    (K1 : ∀ T' u', T = w :: T' → 0 < q → fr_X r (f_replicas, f_writes, a_origin, a_turn, a_stamp, a_kindOf, a_cellOf, a_valueOf, a_clock, a_seen, a_fixed, a_done, a_heldFrom, a_trimmed, a_log, a_stableCell, a_nowCell, a_waiting, a_applied, a_tent, a_outcome, a_oldCellA, a_oldValA, a_oldCellB, a_oldValB, a_work) u' → rp_X P ord r (ca_do (P w) B).2 T' (q - 1) (q - 1) sn D ck tr u' → post u')
    (K2 : ∀ p u', T[p]? = some w → q = 0 → fr_X r (f_replicas, f_writes, a_origin, a_turn, a_stamp, a_kindOf, a_cellOf, a_valueOf, a_clock, a_seen, a_fixed, a_done, a_heldFrom, a_trimmed, a_log, a_stableCell, a_nowCell, a_waiting, a_applied, a_tent, a_outcome, a_oldCellA, a_oldValA, a_oldCellB, a_oldValB, a_work) u' → rp_X P ord r B (T.eraseIdx p) 0 0 sn D ck tr u' → post u') :
    ∀ m i n, i + m = T.length → m < n → (∀ j, j < i → ¬ T[j]? = some w) → wX_removeTentative_10 post (nI r) (nI w) (nI T.length) f_replicas f_writes a_origin a_turn a_stamp a_kindOf a_cellOf a_valueOf a_clock a_seen a_fixed a_done a_heldFrom a_trimmed a_log a_stableCell a_nowCell a_waiting a_applied a_tent a_outcome a_oldCellA a_oldValA a_oldCellB a_oldValB a_work n (nI i) := by
  have h48 := hR.1.2.1
  have hlt := hR.1.2.2.1
  have hte := hR.1.2.2.2
  intro m
  induction m with
  | zero =>
    intro i n hi hn h
    obtain ⟨n, rfl⟩ : ∃ k, n = k + 1 := ⟨n - 1, by omega⟩
    rw [wX_removeTentative_10]
    refine br_t (nI_le (by omega) (by omega)) ?_
    unfold wX_removeTentative_38
    refine br_f (nI_nlt (by omega) (by omega)) (K0 (fun hm => ?_))
    obtain ⟨j, hj⟩ := List.mem_iff_getElem?.mp hm
    exact h j (by have := li_lt hj; omega) hj
  | succ m ih =>
    intro i n hi hn h
    obtain ⟨n, rfl⟩ : ∃ k, n = k + 1 := ⟨n - 1, by omega⟩
    have hil : i < T.length := by omega
    have hx : T[i]? = some (T[i]'hil) := List.getElem?_eq_getElem hil
    generalize T[i]'hil = x at hx
    have ht : a_tent (r * 48 + i) = nI x := hte i x hx
    have hx48 := hlt x (List.mem_of_getElem? hx)
    rw [wX_removeTentative_10]
    dsimp only
    rw [ix_48, nI_clamp (by omega), ht]
    refine br_f (nI_ge hil (by omega)) ⟨vp_in_nI (by omega) (by omega), pk_eq x w (fun e => ?_) (fun e => ?_)⟩
    · rw [e] at hx
      refine x_rm38 hr hx ?_ hR K1 (fun u' => K2 i u' hx)
      rcases hq with z | z
      · exact Or.inl z
      · by_cases i0 : i = 0
        · exact Or.inr i0
        · exact absurd z (h 0 (by omega))
    · refine nm_r (nI_1 i) (ih (i + 1) n (by omega) (by omega) (fun j hj hjw => ?_))
      by_cases ej : j = i
      · rw [ej, hx] at hjw; exact e (Option.some.inj hjw)
      · exact h j (by omega) hjw
end rmt
theorem x_rm {P : Nat → gh_W} {ord : Nat → Nat} {r : Nat} {B : Nat → Int32} {T : List Nat} {q : Nat} {sn : Nat → Nat} {D ck tr w : Nat} {post : SX → Prop} {u : SX} (hr : r < 4) (hw : w < 48) (hq : q = 0 ∨ T[0]? = some w)
    (hR : rp_X P ord r B T q q sn D ck tr u)
    (K0 : ¬ w ∈ T → post u)
    (K1 : ∀ T' u', T = w :: T' → 0 < q → fr_X r u u' → rp_X P ord r (ca_do (P w) B).2 T' (q - 1) (q - 1) sn D ck tr u' → post u')
    (K2 : ∀ p u', T[p]? = some w → q = 0 → fr_X r u u' → rp_X P ord r B (T.eraseIdx p) 0 0 sn D ck tr u' → post u') : wpX_removeTentative post u (nI r) (nI w) := by
  have hwt := hR.1.1
  obtain ⟨f_replicas, f_writes, a_origin, a_turn, a_stamp, a_kindOf, a_cellOf, a_valueOf, a_clock, a_seen, a_fixed, a_done, a_heldFrom, a_trimmed, a_log, a_stableCell, a_nowCell, a_waiting, a_applied, a_tent, a_outcome, a_oldCellA, a_oldValA, a_oldCellB, a_oldValB, a_work⟩ := u
  change a_waiting r = nI T.length at hwt
  unfold wpX_removeTentative
  dsimp only
  rw [nI_clamp (by omega), hwt]
  exact ⟨vp_in_nI hr (by omega), nm_e ⟨T.length + 1, x_rm10 hr hw hq hR K0 K1 K2 T.length 0 (T.length + 1) (by omega) (by omega) (fun j hj => by omega)⟩⟩
end
section
/-! X: fix -/
section fx
variable {f_replicas f_writes : Int32} {a_origin a_turn a_stamp a_kindOf a_cellOf a_valueOf a_clock a_seen a_fixed a_done a_heldFrom a_trimmed a_log a_stableCell a_nowCell a_waiting a_applied a_tent a_outcome a_oldCellA a_oldValA a_oldCellB a_oldValB a_work : Nat → Int32}
theorem x_fix97 {post : SX → Prop} {r w z D o f : Nat} (hr : r < 4) (hw : w < 48) (hz : z ≤ 1) (hD : D < 48) (ho : o < 4) (eD : a_done r = nI D) (eo : a_origin w = nI o) (ef : a_fixed (r * 4 + o) = nI f)
    (K : ∀ sc nc, fr_ag 8 r a_stableCell sc → fr_ag 8 r a_nowCell nc → (∀ c, c < 8 → sc (r * 8 + c) = a_work c) → (z = 0 → ∀ c, c < 8 → nc (r * 8 + c) = a_work c) → (z = 1 → nc = a_nowCell) →
      post (f_replicas, f_writes, a_origin, a_turn, a_stamp, a_kindOf, a_cellOf, a_valueOf, a_clock, a_seen, upd a_fixed (r * 4 + o) (nI (f + 1)), upd a_done r (nI (D + 1)), a_heldFrom, a_trimmed, upd a_log (r * 48 + D) (nI w), sc, nc, a_waiting, a_applied, a_tent, a_outcome, a_oldCellA, a_oldValA, a_oldCellB, a_oldValB, a_work)) :
    ∀ m i n sc nc, i + m = 8 → m < n → fr_ag 8 r a_stableCell sc → fr_ag 8 r a_nowCell nc → (∀ c, c < i → sc (r * 8 + c) = a_work c) → (z = 0 → ∀ c, c < i → nc (r * 8 + c) = a_work c) → (z = 1 → nc = a_nowCell) →
      wX_fix_97 post (nI r) (nI w) (nI z) f_replicas f_writes n (nI i) a_origin a_turn a_stamp a_kindOf a_cellOf a_valueOf a_clock a_seen a_fixed a_done a_heldFrom a_trimmed a_log sc nc a_waiting a_applied a_tent a_outcome a_oldCellA a_oldValA a_oldCellB a_oldValB a_work := by
  intro m
  induction m with
  | zero =>
    intro i n sc nc hi hn f1 f2 h1 h2 h3
    obtain ⟨n, rfl⟩ : ∃ k, n = k + 1 := ⟨n - 1, by omega⟩
    rw [wX_fix_97]
    refine pk_le 8 i (fun _ => ?_) (fun h => by omega)
    have i4 : vp_in (nI r) 4 := vp_in_nI hr (by omega)
    have i5 : vp_in (nI (r * 4 + o)) 16 := vp_in_nI (by omega) (by omega)
    rw [nI_clamp (n := r) (by omega), nI_clamp (n := w) (by omega), eD, eo, ix_48, ix_4, nI_clamp (n := r * 48 + D) (by omega), nI_clamp (n := r * 4 + o) (by omega), ef, nI_1, nI_1]
    exact ⟨i4, vp_in_nI (by omega) (by omega), nm_e ⟨i4, i4, nm_e ⟨vp_in_nI hw (by omega), i5, i5, nm_e (K sc nc f1 f2 (fun c hc => h1 c (by omega)) (fun e c hc => h2 e c (by omega)) h3)⟩⟩⟩
  | succ m ih =>
    intro i n sc nc hi hn f1 f2 h1 h2 h3
    obtain ⟨n, rfl⟩ : ∃ k, n = k + 1 := ⟨n - 1, by omega⟩
    rw [wX_fix_97]
    refine pk_le 8 i (fun h => by omega) (fun _ => ?_)
    have i1 : vp_in (nI i) 8 := vp_in_nI (by omega) (by omega)
    have i2 : vp_in (nI (r * 8 + i)) 32 := vp_in_nI (by omega) (by omega)
    rw [ix_8, nI_clamp (n := i) (by omega), nI_clamp (n := r * 8 + i) (by omega)]
    have hs1 : ∀ c, c < i + 1 → upd sc (r * 8 + i) (a_work i) (r * 8 + c) = a_work c := by
      intro c hc
      by_cases e : c = i
      · rw [e]; exact pk_us
      · rw [pk_un (by omega)]; exact h1 c (by omega)
    refine ⟨i1, i2, nm_e (pk_eq z 0 (fun e => ⟨i1, i2, nm_e (nm_r (nI_1 i) ?_)⟩) (fun e => nm_r (nI_1 i) ?_))⟩
    · refine ih (i + 1) n _ _ (by omega) (by omega) (fr_ag_t f1 (fr_ag_u (by omega))) (fr_ag_t f2 (fr_ag_u (by omega))) hs1 (fun _ c hc => ?_) (fun e1 => by omega)
      by_cases e : c = i
      · rw [e]; exact pk_us
      · rw [pk_un (by omega)]; exact h2 (by assumption) c (by omega)
    · exact ih (i + 1) n _ _ (by omega) (by omega) (fr_ag_t f1 (fr_ag_u (by omega))) f2 hs1 (fun e0 => absurd e0 e) h3
theorem x_fix56 {nw : Nat} {P : Nat → gh_W} {post : SX → Prop} {r w z D f : Nat} {s : Nat → Int32} (hr : r < 4) (hz : z ≤ 1) (hD : D < 48) (hs : cx_a nw P a_origin a_turn a_stamp a_kindOf a_cellOf a_valueOf) (hw : w < nw) (eD : a_done r = nI D) (ef : a_fixed (r * 4 + gh_og (P w)) = nI f)
    (hst : ∀ c, c < 8 → a_stableCell (r * 8 + c) = s c)
    (K : ∀ sc nc wk, fr_ag 8 r a_stableCell sc → fr_ag 8 r a_nowCell nc → (∀ c, c < 8 → sc (r * 8 + c) = (ca_do (P w) s).2 c) → (z = 0 → ∀ c, c < 8 → nc (r * 8 + c) = (ca_do (P w) s).2 c) → (z = 1 → nc = a_nowCell) →
      post (f_replicas, f_writes, a_origin, a_turn, a_stamp, a_kindOf, a_cellOf, a_valueOf, a_clock, a_seen, upd a_fixed (r * 4 + gh_og (P w)) (nI (f + 1)), upd a_done r (nI (D + 1)), a_heldFrom, a_trimmed, upd a_log (r * 48 + D) (nI w), sc, nc, a_waiting, a_applied, a_tent, a_outcome, a_oldCellA, a_oldValA, a_oldCellB, a_oldValB, wk)) :
    ∀ m i n wk, i + m = 8 → m < n → (∀ c, c < i → wk c = a_stableCell (r * 8 + c)) → wX_fix_56 post (nI r) (nI w) (nI z) f_replicas f_writes n (nI i) a_origin a_turn a_stamp a_kindOf a_cellOf a_valueOf a_clock a_seen a_fixed a_done a_heldFrom a_trimmed a_log a_stableCell a_nowCell a_waiting a_applied a_tent a_outcome a_oldCellA a_oldValA a_oldCellB a_oldValB wk := by
  intro m
  induction m with
  | zero =>
    intro i n wk hi hn h
    obtain ⟨n, rfl⟩ : ∃ k, n = k + 1 := ⟨n - 1, by omega⟩
    rw [wX_fix_56]
    refine pk_le 8 i (fun _ => ?_) (fun h => by omega)
    obtain ⟨h48, hws⟩ := hs
    obtain ⟨⟨o4, _, _, _, c8⟩, eo, _⟩ := hws w hw
    change a_origin w = _ at eo
    have hE : ca_E wk s := fun c hc => (h c (by omega)).trans (hst c hc)
    obtain ⟨_, e2⟩ := ca_do_e (p := P w) c8 hE
    refine x_perf (nw := nw) (P := P) ⟨h48, hws⟩ hw ?_
    dsimp only
    refine ⟨9, x_fix97 hr (by omega) hz hD o4 eD eo ef (fun sc nc f1 f2 g1 g2 g3 => ?_) 8 0 9 a_stableCell a_nowCell rfl (by omega) fr_ag_r fr_ag_r (fun c hc => by omega) (fun _ c hc => by omega) (fun _ => rfl)⟩
    exact K sc nc _ f1 f2 (fun c hc => (g1 c hc).trans (e2 c hc)) (fun e c hc => (g2 e c hc).trans (e2 c hc)) g3
  | succ m ih =>
    intro i n wk hi hn h
    obtain ⟨n, rfl⟩ : ∃ k, n = k + 1 := ⟨n - 1, by omega⟩
    rw [wX_fix_56]
    dsimp only
    rw [ix_8, nI_clamp (n := i) (by omega), nI_clamp (n := r * 8 + i) (by omega)]
    refine pk_le 8 i (fun h => by omega) (fun _ => ⟨vp_in_nI (by omega) (by omega), vp_in_nI (by omega) (by omega), nm_e (nm_r (nI_1 i) ?_)⟩)
    refine ih (i + 1) n _ (by omega) (by omega) (fun c hc => ?_)
    by_cases ce : c = i
    · rw [ce]; exact pk_us
    · rw [pk_un (by omega)]; exact h c (by omega)
end fx
theorem x_fixT {nw : Nat} {P : Nat → gh_W} {ord : Nat → Nat} {r : Nat} {B : Nat → Int32} {T : List Nat} {q : Nat} {sn : Nat → Nat} {D ck tr w z : Nat} {u : SX} {post : SX → Prop} (hr : r < 4) (hs : cx_s nw P u) (hw : w < nw) (ho : ord D = w) (hD : D < 48)
    (hz : (z = 0 ∧ q = 0) ∨ (z = 1 ∧ B = ro_s P ord (D + 1))) (hR : rp_X P ord r B T q q sn D ck tr u)
    (K : ∀ u', fr_X r u u' → rp_X P ord r (ro_s P ord (D + 1)) T q q sn (D + 1) ck tr u' → post u') : ux_fix_56 post (nI r) (nI w) (nI z) 9 0 u := by
  obtain ⟨f_replicas, f_writes, a_origin, a_turn, a_stamp, a_kindOf, a_cellOf, a_valueOf, a_clock, a_seen, a_fixed, a_done, a_heldFrom, a_trimmed, a_log, a_stableCell, a_nowCell, a_waiting, a_applied, a_tent, a_outcome, a_oldCellA, a_oldValA, a_oldCellB, a_oldValB, a_work⟩ := u
  have o4 := (hs.2 w hw).1.1
  obtain ⟨hT, hA, hC, hS, hN, hF, hL, hK⟩ := hR
  change rp_T _ _ a_waiting a_tent at hT
  change rp_A _ _ a_applied at hA
  change rp_C _ _ _ _ _ a_nowCell a_outcome a_oldCellA a_oldValA a_oldCellB a_oldValB at hC
  change rp_S _ _ _ _ a_stableCell at hS
  change rp_n _ _ a_seen at hN
  change rp_f _ _ _ _ a_fixed at hF
  change rp_L _ _ _ a_done a_heldFrom a_log at hL
  change rp_K _ _ _ a_clock a_trimmed at hK
  refine x_fix56 hr (by omega) hD hs hw hL.1 (hF _ o4) hS (fun sc nc wk f1 f2 g1 g2 g3 => ?_) 8 0 9 a_work rfl (by omega) (fun c hc => by omega)
  have er : ∀ c, (ca_do (P w) (ro_s P ord D)).2 c = ro_s P ord (D + 1) c := by
    intro c
    show _ = (ca_do (P (ord D)) (ro_s P ord D)).2 c
    rw [ho]
  refine K _ ⟨@rfl _ f_replicas, @rfl _ f_writes, @rfl _ a_origin, @rfl _ a_turn, @rfl _ a_stamp, @rfl _ a_kindOf, @rfl _ a_cellOf, @rfl _ a_valueOf, @fr_ag_r _ _ a_clock, @fr_ag_r _ _ a_seen, fr_ag_u (a := a_fixed) o4, fr_ag_1 (a := a_done), @fr_ag_r _ _ a_heldFrom, @fr_ag_r _ _ a_trimmed, fr_ag_u (a := a_log) hD, f1, f2, @fr_ag_r _ _ a_waiting, @fr_ag_r _ _ a_applied, @fr_ag_r _ _ a_tent, @fr_ag_r _ _ a_outcome, @fr_ag_r _ _ a_oldCellA, @fr_ag_r _ _ a_oldValA, @fr_ag_r _ _ a_oldCellB, @fr_ag_r _ _ a_oldValB⟩ ⟨hT, hA, ?_, fun c hc => (g1 c hc).trans (er c), hN, fun o ho4 => ?_, ⟨pk_us, by omega, ?_⟩, hK⟩
  · rcases hz with ⟨z0, q0⟩ | ⟨z1, eB⟩
    · subst q0
      exact ⟨by omega, fun c hc => (g2 z0 c hc).trans (er c), fun i x hi => by omega⟩
    · rw [g3 z1, ← eB]; exact hC
  · have eq1 : gh_og (gh_q P ord D) = gh_og (P w) := by show gh_og (P (ord D)) = _; rw [ho]
    by_cases e : o = gh_og (P w)
    · subst e
      rw [ct_s1 eq1]; exact pk_us
    · rw [ct_s0 (fun h => e (h.symm.trans eq1))]
      refine Eq.trans (pk_un (by omega)) (hF o ho4)
  · obtain ⟨_, _, hh, l3, l4, l5⟩ := hL
    refine ⟨hh, by omega, l4, fun i h1 h2 => ?_⟩
    by_cases e : i = D
    · rw [e, ho]; exact pk_us
    · exact (pk_un (by omega)).trans (l5 i h1 (by omega))
theorem x_fix {nw : Nat} {P : Nat → gh_W} {ord : Nat → Nat} {r : Nat} {T : List Nat} {q : Nat} {sn : Nat → Nat} {D ck tr w : Nat} {u : SX} {post : SX → Prop} (hr : r < 4) (hs : cx_s nw P u) (hw : w < nw) (ho : ord D = w) (hD : D < 48) (hnd : T.Nodup)
    (hR : rp_X P ord r (ro_s P ord D) T q q sn D ck tr u)
    (K : ∀ T' q' u', T'.Sublist T → (∀ x, x ∈ T' ↔ x ∈ T ∧ x ≠ w) → (∀ T1, T = w :: T1 → q = T.length → T' = T1 ∧ q' = T1.length) → fr_X r u u' → rp_X P ord r (ro_s P ord (D + 1)) T' q' q' sn (D + 1) ck tr u' → post u') :
    wpX_fix post u (nI r) (nI w) := by
  have h48 := hs.1
  have hrod : (ca_do (P w) (ro_s P ord D)).2 = ro_s P ord (D + 1) := by
    show _ = (ca_do (P (ord D)) (ro_s P ord D)).2
    rw [ho]
  -- not the first: all undone
  have N : ¬ (T[0]? = some w ∧ 0 < q) → ux_fix_36 post (nI r) (nI w) 0 u := by
    intro hnf
    have nf2 : ∀ T1, T = w :: T1 → q = T.length → False := by
      intro T1 e eq
      apply hnf
      subst e
      exact ⟨rfl, by rw [eq, List.length_cons]; omega⟩
    have U := x_undo (u := u) (keep := 0) hr (by omega) (post := fun u' => ux_fix_47 post (nI r) (nI w) 0 u') hR (fun u1 hf1 hR1 => by
      rw [Nat.min_zero] at hR1
      have Rm := x_rm (u := u1) (w := w) (post := fun u2 => ∃ n56 : Nat, ux_fix_56 post (nI r) (nI w) 0 n56 0 u2) hr (by omega) (Or.inl rfl) hR1
        (fun hn => ⟨9, x_fixT (z := 0) hr (cx_fr hf1 hs) hw ho hD (Or.inl ⟨rfl, rfl⟩) hR1 (fun u3 hf3 hR3 => K T 0 u3 (List.Sublist.refl T) (fun x => ⟨fun h => ⟨h, fun e => hn (e ▸ h)⟩, fun h => h.1⟩) (fun T1 e1 e2 => (nf2 T1 e1 e2).elim) (fr_X_t hf1 hf3) hR3)⟩)
        (fun T' u2 _ h0 => absurd h0 (by omega))
        (fun p u2 hp _ hf2 hR2 => ⟨9, x_fixT (z := 0) hr (cx_fr (fr_X_t hf1 hf2) hs) hw ho hD (Or.inl ⟨rfl, rfl⟩) hR2 (fun u3 hf3 hR3 => K (T.eraseIdx p) 0 u3 (List.eraseIdx_sublist T p) (fun x => so_er_mem hnd hp) (fun T1 e1 e2 => (nf2 T1 e1 e2).elim) (fr_X_t (fr_X_t hf1 hf2) hf3) hR3)⟩)
      obtain ⟨f_replicas, f_writes, a_origin, a_turn, a_stamp, a_kindOf, a_cellOf, a_valueOf, a_clock, a_seen, a_fixed, a_done, a_heldFrom, a_trimmed, a_log, a_stableCell, a_nowCell, a_waiting, a_applied, a_tent, a_outcome, a_oldCellA, a_oldValA, a_oldCellB, a_oldValB, a_work⟩ := u1
      exact Rm)
    obtain ⟨f_replicas, f_writes, a_origin, a_turn, a_stamp, a_kindOf, a_cellOf, a_valueOf, a_clock, a_seen, a_fixed, a_done, a_heldFrom, a_trimmed, a_log, a_stableCell, a_nowCell, a_waiting, a_applied, a_tent, a_outcome, a_oldCellA, a_oldValA, a_oldCellB, a_oldValB, a_work⟩ := u
    exact br_t rfl U
  -- the first
  have F : T[0]? = some w → 0 < q → ux_fix_36 post (nI r) (nI w) 1 u := by
    intro h0 hq
    have Rm := x_rm (u := u) (w := w) (post := fun u2 => ∃ n56 : Nat, ux_fix_56 post (nI r) (nI w) 1 n56 0 u2) hr (by omega) (Or.inr h0) hR
      (fun hn => absurd (List.mem_of_getElem? h0) hn)
      (fun T' u2 eT _ hf2 hR2 => ⟨9, x_fixT (z := 1) hr (cx_fr hf2 hs) hw ho hD (Or.inr ⟨rfl, hrod⟩) hR2 (fun u3 hf3 hR3 => K T' (q - 1) u3 (by rw [eT]; exact List.sublist_cons_self w T') (fun x => by
          rw [eT] at hnd ⊢
          have hnd2 := List.nodup_cons.mp hnd
          constructor
          · intro h; exact ⟨List.mem_cons_of_mem _ h, fun e => hnd2.1 (e ▸ h)⟩
          · rintro ⟨h, n⟩
            rcases List.mem_cons.mp h with c | c
            · exact absurd c n
            · exact c) (fun T1 e1 e2 => by
          rw [eT] at e1 e2
          have e3 : T' = T1 := (List.cons.inj e1).2
          rw [List.length_cons] at e2
          exact ⟨e3, by rw [← e3]; omega⟩) (fr_X_t hf2 hf3) hR3)⟩)
      (fun p u2 _ q0 => absurd q0 (by omega))
    obtain ⟨f_replicas, f_writes, a_origin, a_turn, a_stamp, a_kindOf, a_cellOf, a_valueOf, a_clock, a_seen, a_fixed, a_done, a_heldFrom, a_trimmed, a_log, a_stableCell, a_nowCell, a_waiting, a_applied, a_tent, a_outcome, a_oldCellA, a_oldValA, a_oldCellB, a_oldValB, a_work⟩ := u
    exact br_f (by decide) Rm
  have hq48 := hR.2.1.2
  have hT := hR.1
  have hA := hR.2.1
  obtain ⟨f_replicas, f_writes, a_origin, a_turn, a_stamp, a_kindOf, a_cellOf, a_valueOf, a_clock, a_seen, a_fixed, a_done, a_heldFrom, a_trimmed, a_log, a_stableCell, a_nowCell, a_waiting, a_applied, a_tent, a_outcome, a_oldCellA, a_oldValA, a_oldCellB, a_oldValB, a_work⟩ := u
  obtain ⟨t1, t2, t3, t4⟩ := hT
  change a_waiting r = nI T.length at t1
  obtain ⟨a1, a2⟩ := hA
  change a_applied r = nI q at a1
  have i4 : vp_in (nI r) 4 := vp_in_nI hr (by omega)
  unfold wpX_fix
  dsimp only
  rw [ix_48z, nI_clamp (n := r) (by omega), nI_clamp (n := r * 48) (by omega), t1, a1]
  refine ⟨i4, pk_le T.length 0 (fun h => N (fun h2 => ?_)) (fun h => ⟨vp_in_nI (by omega) (by omega), ?_⟩)⟩
  · have := li_lt h2.1; omega
  · have hx : T[0]? = some (T[0]'h) := List.getElem?_eq_getElem h
    generalize T[0]'h = x at hx
    have ex : a_tent (r * 48) = nI x := t4 0 x hx
    have hx48 := t3 x (List.mem_of_getElem? hx)
    rw [ex]
    refine pk_eq x w (fun e => ⟨i4, pk_le q 0 (fun hq => N (fun h2 => by omega)) (fun hq => F (by rw [hx, e]) hq)⟩) (fun e => N (fun h2 => e ?_))
    exact Option.some.inj (hx.symm.trans h2.1)
end
section
/-! X: transferLog, transferState -/
/-- the first i of the four origins are set to the greater one -/
abbrev mx_I (t i : Nat) (sn g : Nat → Nat) (se : Nat → Int32) : Prop :=
  (∀ o, o < i → se (t * 4 + o) = nI (gb_x (sn o) (g o))) ∧ (∀ o, i ≤ o → o < 4 → se (t * 4 + o) = nI (sn o))
theorem mx_k {t i : Nat} {sn g : Nat → Nat} {se : Nat → Int32} (hi : i < 4) (h : g i ≤ sn i) (I : mx_I t i sn g se) : mx_I t (i + 1) sn g se := by
  refine ⟨fun o ho => ?_, fun o h1 h2 => I.2 o (by omega) h2⟩
  by_cases e : o = i
  · rw [e, I.2 i (Nat.le_refl _) hi]
    unfold gb_x
    rw [if_neg (by omega)]
  · exact I.1 o (by omega)
theorem mx_c {t i : Nat} {sn g : Nat → Nat} {se : Nat → Int32} (h : sn i < g i) (I : mx_I t i sn g se) : mx_I t (i + 1) sn g (upd se (t * 4 + i) (nI (g i))) := by
  refine ⟨fun o ho => ?_, fun o h1 h2 => ?_⟩
  · by_cases e : o = i
    · rw [e, pk_us]
      unfold gb_x
      rw [if_pos h]
    · rw [pk_un (by omega)]; exact I.1 o (by omega)
  · rw [pk_un (by omega)]; exact I.2 o (by omega) h2
section tlg
variable {f_replicas f_writes : Int32} {a_origin a_turn a_stamp a_kindOf a_cellOf a_valueOf a_clock a_seen a_fixed a_done a_heldFrom a_trimmed a_log a_stableCell a_nowCell a_waiting a_applied a_tent a_outcome a_oldCellA a_oldValA a_oldCellB a_oldValB a_work : Nat → Int32}
theorem x_tl47 {post : SX → Prop} {t : Nat} {sn g : Nat → Nat} (ht : t < 4) (hsn : ∀ o, o < 4 → sn o ≤ 48) (hg : ∀ o, o < 4 → a_fixed (t * 4 + o) = nI (g o) ∧ g o ≤ 48)
    (K : ∀ se, fr_ag 4 t a_seen se → (∀ o, o < 4 → se (t * 4 + o) = nI (gb_x (sn o) (g o))) → post (f_replicas, f_writes, a_origin, a_turn, a_stamp, a_kindOf, a_cellOf, a_valueOf, a_clock, se, a_fixed, a_done, a_heldFrom, a_trimmed, a_log, a_stableCell, a_nowCell, a_waiting, a_applied, a_tent, a_outcome, a_oldCellA, a_oldValA, a_oldCellB, a_oldValB, a_work)) :
    ∀ m i n se, i + m = 4 → m < n → fr_ag 4 t a_seen se → mx_I t i sn g se → wX_transferLog_47 post (nI t) f_replicas f_writes n (nI i) a_origin a_turn a_stamp a_kindOf a_cellOf a_valueOf a_clock se a_fixed a_done a_heldFrom a_trimmed a_log a_stableCell a_nowCell a_waiting a_applied a_tent a_outcome a_oldCellA a_oldValA a_oldCellB a_oldValB a_work := by
  intro m
  induction m with
  | zero =>
    intro i n se hi hn hf hI
    obtain ⟨n, rfl⟩ : ∃ k, n = k + 1 := ⟨n - 1, by omega⟩
    rw [wX_transferLog_47]
    exact pk_le 4 i (fun _ => K se hf (fun o ho => hI.1 o (by omega))) (fun h => by omega)
  | succ m ih =>
    intro i n se hi hn hf hI
    obtain ⟨n, rfl⟩ : ∃ k, n = k + 1 := ⟨n - 1, by omega⟩
    have i1 : vp_in (nI (t * 4 + i)) 16 := vp_in_nI (by omega) (by omega)
    have hi4 : i < 4 := by omega
    obtain ⟨g1, g2⟩ := hg i hi4
    have s2 := hsn i hi4
    rw [wX_transferLog_47]
    dsimp only
    rw [ix_4, nI_clamp (n := t * 4 + i) (by omega), g1, hI.2 i (Nat.le_refl _) hi4]
    refine pk_le 4 i (fun h => by omega) (fun _ => ⟨i1, nm_e ⟨i1, pk_le (g i) (sn i) (fun h => nm_r (nI_1 i) ?_) (fun h => ⟨i1, nm_e (nm_r (nI_1 i) ?_)⟩)⟩⟩)
    · exact ih (i + 1) n se (by omega) (by omega) hf (mx_k hi4 h hI)
    · exact ih (i + 1) n _ (by omega) (by omega) (fr_ag_t hf (fr_ag_u hi4)) (mx_c h hI)
end tlg
theorem ct_le48 {P : Nat → gh_W} {ord : Nat → Nat} {o D : Nat} (h : D ≤ 48) : ct_n (gh_q P ord) o D ≤ 48 := Nat.le_trans (ct_le _ _ _) h
theorem gb_48 {a b : Nat} (h : a ≤ 48) (h2 : b ≤ 48) : gb_x a b ≤ 48 := gb_x3 h h2
theorem x_tl15 {nw : Nat} {P : Nat → gh_W} {ord : Nat → Nat} {f t Df : Nat} {sn : Nat → Nat} {ck tr : Nat} {post : SX → Prop} (hft : f ≠ t) (hf : f < 4) (ht : t < 4) (hDf : Df ≤ 48) (hord : ∀ i, i < Df → ord i < nw) :
    ∀ n i T q u, Df - i < n → i ≤ Df → cx_s nw P u → T.Nodup → rp_X P ord t (ro_s P ord i) T q q sn i ck tr u → (∀ j, i ≤ j → j < Df → sx_log u (f * 48 + j) = nI (ord j)) →
      (∀ T' q' u', T'.Sublist T → (∀ x, x ∈ T' ↔ x ∈ T ∧ ∀ j, i ≤ j → j < Df → ord j ≠ x) → fr_X t u u' → rp_X P ord t (ro_s P ord Df) T' q' q' (fun o => gb_x (sn o) (ct_n (gh_q P ord) o Df)) Df ck tr u' → post u') →
      ux_transferLog_15 post (nI f) (nI t) (nI Df) n (nI i) u := by
  intro n
  induction n with
  | zero => intro i T q u h; omega
  | succ n ih =>
    intro i T q u hn hi hs hnd hR hlog K
    by_cases c : i < Df
    · have hl := hlog i (Nat.le_refl _) c
      have A := x_fix (u := u) (w := ord i) (post := fun u' => ∀ x4_43 : Int32, x4_43 = nI i + 1 → ux_transferLog_15 post (nI f) (nI t) (nI Df) n x4_43 u') ht hs (hord i c) rfl (by omega) hnd hR
        (fun T' q' u' hsub hm _ hfr hR' => nm_r (nI_1 i) (ih (i + 1) T' q' u' (by omega) (by omega) (cx_fr hfr hs) (hnd.sublist hsub) hR'
          (fun j h1 h2 => by
            have e := hfr.2.2.2.2.2.2.2.2.2.2.2.2.2.2.1
            rw [fr_at48 e hft (by omega)]
            exact hlog j (by omega) h2)
          (fun T2 q2 u2 hsub2 hm2 hfr2 hR2 => K T2 q2 u2 (hsub2.trans hsub) (fun x => by
            rw [hm2 x, hm x]
            constructor
            · rintro ⟨⟨a, b⟩, d⟩
              refine ⟨a, fun j h1 h2 => ?_⟩
              by_cases e : j = i
              · rw [e]; exact fun h => b h.symm
              · exact d j (by omega) h2
            · rintro ⟨a, d⟩
              exact ⟨⟨a, fun h => d i (Nat.le_refl _) c h.symm⟩, fun j h1 h2 => d j (by omega) h2⟩) (fr_X_t hfr hfr2) hR2)))
      obtain ⟨f_replicas, f_writes, a_origin, a_turn, a_stamp, a_kindOf, a_cellOf, a_valueOf, a_clock, a_seen, a_fixed, a_done, a_heldFrom, a_trimmed, a_log, a_stableCell, a_nowCell, a_waiting, a_applied, a_tent, a_outcome, a_oldCellA, a_oldValA, a_oldCellB, a_oldValB, a_work⟩ := u
      change a_log (f * 48 + i) = nI (ord i) at hl
      unfold ux_transferLog_15
      dsimp only
      rw [wX_transferLog_15]
      dsimp only
      rw [ix_48, nI_clamp (by omega), hl]
      exact br_f (nI_ge c (by omega)) ⟨vp_in_nI (by omega) (by omega), A⟩
    · have e : i = Df := by omega
      subst e
      obtain ⟨f_replicas, f_writes, a_origin, a_turn, a_stamp, a_kindOf, a_cellOf, a_valueOf, a_clock, a_seen, a_fixed, a_done, a_heldFrom, a_trimmed, a_log, a_stableCell, a_nowCell, a_waiting, a_applied, a_tent, a_outcome, a_oldCellA, a_oldValA, a_oldCellB, a_oldValB, a_work⟩ := u
      unfold ux_transferLog_15
      dsimp only
      rw [wX_transferLog_15]
      obtain ⟨hT, hA, hC, hS, hN, hF, hL, hK⟩ := hR
      change rp_T _ _ a_waiting a_tent at hT
      change rp_A _ _ a_applied at hA
      change rp_C _ _ _ _ _ a_nowCell a_outcome a_oldCellA a_oldValA a_oldCellB a_oldValB at hC
      change rp_S _ _ _ _ a_stableCell at hS
      change rp_n _ _ a_seen at hN
      change rp_f _ _ _ _ a_fixed at hF
      change rp_L _ _ _ a_done a_heldFrom a_log at hL
      change rp_K _ _ _ a_clock a_trimmed at hK
      refine br_t (nI_le (Nat.le_refl _) (by omega)) ⟨5, ?_⟩
      refine x_tl47 (sn := sn) (g := fun o => ct_n (gh_q P ord) o i) ht (fun o ho => (hN o ho).2) (fun o ho => ⟨hF o ho, ct_le48 hDf⟩) (fun se hfr hse => ?_) 4 0 5 a_seen rfl (by omega) fr_ag_r ⟨fun o ho => by omega, fun o _ ho => (hN o ho).1⟩
      exact K T q _ (List.Sublist.refl T) (fun x => ⟨fun h => ⟨h, fun j h1 h2 => by omega⟩, fun h => h.1⟩) ⟨@rfl _ f_replicas, @rfl _ f_writes, @rfl _ a_origin, @rfl _ a_turn, @rfl _ a_stamp, @rfl _ a_kindOf, @rfl _ a_cellOf, @rfl _ a_valueOf, @fr_ag_r _ _ a_clock, hfr, @fr_ag_r _ _ a_fixed, @fr_ag_r _ _ a_done, @fr_ag_r _ _ a_heldFrom, @fr_ag_r _ _ a_trimmed, @fr_ag_r _ _ a_log, @fr_ag_r _ _ a_stableCell, @fr_ag_r _ _ a_nowCell, @fr_ag_r _ _ a_waiting, @fr_ag_r _ _ a_applied, @fr_ag_r _ _ a_tent, @fr_ag_r _ _ a_outcome, @fr_ag_r _ _ a_oldCellA, @fr_ag_r _ _ a_oldValA, @fr_ag_r _ _ a_oldCellB, @fr_ag_r _ _ a_oldValB⟩ ⟨hT, hA, hC, hS, fun o ho => ⟨hse o ho, gb_48 (hN o ho).2 (ct_le48 hDf)⟩, hF, hL, hK⟩
theorem x_tlog {nw : Nat} {P : Nat → gh_W} {ord : Nat → Nat} {f t Df Dt : Nat} {T : List Nat} {q : Nat} {sn : Nat → Nat} {ck tr : Nat} {u : SX} {post : SX → Prop} (hft : f ≠ t) (hf : f < 4) (ht : t < 4) (hDf : Df ≤ 48) (hDt : Dt ≤ Df) (hord : ∀ i, i < Df → ord i < nw)
    (hs : cx_s nw P u) (hnd : T.Nodup) (hR : rp_X P ord t (ro_s P ord Dt) T q q sn Dt ck tr u) (hdf : sx_done u f = nI Df) (hlog : ∀ j, Dt ≤ j → j < Df → sx_log u (f * 48 + j) = nI (ord j))
    (K : ∀ T' q' u', T'.Sublist T → (∀ x, x ∈ T' ↔ x ∈ T ∧ ∀ j, Dt ≤ j → j < Df → ord j ≠ x) → fr_X t u u' → rp_X P ord t (ro_s P ord Df) T' q' q' (fun o => gb_x (sn o) (ct_n (gh_q P ord) o Df)) Df ck tr u' → post u') :
    wpX_transferLog post u (nI f) (nI t) := by
  have L := x_tl15 hft hf ht hDf hord (Df - Dt + 1) Dt T q u (by omega) hDt hs hnd hR hlog K
  have hdt := hR.2.2.2.2.2.2.1.1
  obtain ⟨f_replicas, f_writes, a_origin, a_turn, a_stamp, a_kindOf, a_cellOf, a_valueOf, a_clock, a_seen, a_fixed, a_done, a_heldFrom, a_trimmed, a_log, a_stableCell, a_nowCell, a_waiting, a_applied, a_tent, a_outcome, a_oldCellA, a_oldValA, a_oldCellB, a_oldValB, a_work⟩ := u
  change a_done t = nI Dt at hdt
  change a_done f = nI Df at hdf
  unfold wpX_transferLog
  dsimp only
  rw [nI_clamp (n := f) (by omega), nI_clamp (n := t) (by omega), hdf, hdt]
  exact ⟨vp_in_nI hf (by omega), nm_e ⟨vp_in_nI ht (by omega), nm_e ⟨_, L⟩⟩⟩
section tst
variable {f_replicas f_writes : Int32} {a_origin a_turn a_stamp a_kindOf a_cellOf a_valueOf a_clock a_seen a_fixed a_done a_heldFrom a_trimmed a_log a_stableCell a_nowCell a_waiting a_applied a_tent a_outcome a_oldCellA a_oldValA a_oldCellB a_oldValB a_work : Nat → Int32}
theorem x_ts157 {nw : Nat} {P : Nat → gh_W} {post : SX → Prop} {t : Nat} {T : List Nat} {g : Nat → Nat} {pr : Nat → Bool} (ht : t < 4) (hs : cx_a nw P a_origin a_turn a_stamp a_kindOf a_cellOf a_valueOf) (hTw : ∀ x, x ∈ T → x < nw) (hT : rp_T t T a_waiting a_tent)
    (hg : ∀ o, o < 4 → a_fixed (t * 4 + o) = nI (g o) ∧ g o ≤ 48) (hpr : ∀ x, pr x = decide (g (gh_og (P x)) ≤ gh_tn (P x)))
    (K : ∀ te, fr_ag 48 t a_tent te → rp_T t (T.filter pr) (upd a_waiting t (nI (T.filter pr).length)) te → post (f_replicas, f_writes, a_origin, a_turn, a_stamp, a_kindOf, a_cellOf, a_valueOf, a_clock, a_seen, a_fixed, a_done, a_heldFrom, a_trimmed, a_log, a_stableCell, a_nowCell, upd a_waiting t (nI (T.filter pr).length), a_applied, te, a_outcome, a_oldCellA, a_oldValA, a_oldCellB, a_oldValB, a_work)) :
    ∀ m i n k te, i + m = T.length → m < n → k = ((T.take i).filter pr).length → k ≤ i → fr_ag 48 t a_tent te → (∀ j x, ((T.take i).filter pr)[j]? = some x → te (t * 48 + j) = nI x) → (∀ j x, i ≤ j → T[j]? = some x → te (t * 48 + j) = nI x) →
      wX_transferState_157 post (nI t) f_replicas f_writes n (nI k) (nI i) a_origin a_turn a_stamp a_kindOf a_cellOf a_valueOf a_clock a_seen a_fixed a_done a_heldFrom a_trimmed a_log a_stableCell a_nowCell a_waiting a_applied te a_outcome a_oldCellA a_oldValA a_oldCellB a_oldValB a_work := by
  obtain ⟨t1, t2, t3, t4⟩ := hT
  obtain ⟨h48, hws⟩ := hs
  have i4 : vp_in (nI t) 4 := vp_in_nI ht (by omega)
  intro m
  induction m with
  | zero =>
    intro i n k te hi hn hk hki hf h1 h2
    obtain ⟨n, rfl⟩ : ∃ k, n = k + 1 := ⟨n - 1, by omega⟩
    have e : T.take i = T := List.take_of_length_le (by omega)
    rw [e] at hk h1
    rw [wX_transferState_157]
    dsimp only
    rw [nI_clamp (n := t) (by omega), t1, hk]
    refine ⟨i4, br_t (nI_le (by omega) (by omega)) ⟨i4, nm_e (K te hf ⟨pk_us, ?_, fun x hx => t3 x (List.mem_filter.mp hx).1, h1⟩)⟩⟩
    exact Nat.le_trans (List.length_filter_le _ _) t2
  | succ m ih =>
    intro i n k te hi hn hk hki hf h1 h2
    obtain ⟨n, rfl⟩ : ∃ k, n = k + 1 := ⟨n - 1, by omega⟩
    have hil : i < T.length := by omega
    have hx : T[i]? = some (T[i]'hil) := List.getElem?_eq_getElem hil
    generalize T[i]'hil = x at hx
    have hxw := hTw x (List.mem_of_getElem? hx)
    obtain ⟨⟨o4, tn48, _⟩, eo, et, _⟩ := hws x hxw
    change a_origin x = _ at eo
    change a_turn x = _ at et
    obtain ⟨g1, g2⟩ := hg _ o4
    have hte := h2 i x (Nat.le_refl _) hx
    have e1 : T.take (i + 1) = T.take i ++ [x] := by rw [List.take_add_one, hx]; rfl
    have ix : vp_in (nI x) 48 := vp_in_nI (by omega) (by omega)
    rw [wX_transferState_157]
    dsimp only
    rw [nI_clamp (n := t) (by omega), t1, ix_48, nI_clamp (n := t * 48 + i) (by omega)]
    refine ⟨i4, br_f (nI_ge hil (by omega)) ⟨vp_in_nI (by omega) (by omega), nm_r hte ?_⟩⟩
    rw [nI_clamp (n := x) (by omega), eo, et, ix_4, nI_clamp (n := t * 4 + gh_og (P x)) (by omega), g1]
    refine ⟨ix, ix, vp_in_nI (by omega) (by omega), pk_lt _ _ (fun c => nm_r (nI_1 i) ?_) (fun c => ?_)⟩
    · have ep : pr x = false := by rw [hpr]; exact decide_eq_false (by omega)
      have ef : (T.take (i + 1)).filter pr = (T.take i).filter pr := by rw [e1, List.filter_append]; simp [ep]
      exact ih (i + 1) n k te (by omega) (by omega) (by rw [ef]; exact hk) (by omega) hf (by rw [ef]; exact h1) (fun j y hj hy => h2 j y (by omega) hy)
    · have ep : pr x = true := by rw [hpr]; exact decide_eq_true c
      have ef : (T.take (i + 1)).filter pr = (T.take i).filter pr ++ [x] := by rw [e1, List.filter_append]; simp [ep]
      rw [ix_48, nI_clamp (n := t * 48 + k) (by omega)]
      refine ⟨vp_in_nI (by omega) (by omega), nm_e (nm_r (nI_1 k) (nm_r (nI_1 i) ?_))⟩
      refine ih (i + 1) n (k + 1) _ (by omega) (by omega) (by rw [ef, List.length_append, hk]; rfl) (by omega) (fr_ag_t hf (fr_ag_u (by omega))) (fun j y hy => ?_) (fun j y hj hy => ?_)
      · rw [ef] at hy
        by_cases c2 : j < k
        · rw [List.getElem?_append_left (by omega)] at hy
          rw [pk_un (by omega)]; exact h1 j y hy
        · have hl := li_lt hy
          rw [List.length_append, List.length_singleton] at hl
          have ej : j = k := by omega
          rw [ej, List.getElem?_append_right (by omega), hk, Nat.sub_self] at hy
          rw [ej, pk_us]
          exact congrArg nI (Option.some.inj hy)
      · rw [pk_un (by omega)]; exact h2 j y (by omega) hy
theorem x_ts66 {nw : Nat} {P : Nat → gh_W} {post : SX → Prop} {f t Df : Nat} {T : List Nat} {sn g : Nat → Nat} {pr : Nat → Bool} (hft : f ≠ t) (hf : f < 4) (ht : t < 4) (hs : cx_a nw P a_origin a_turn a_stamp a_kindOf a_cellOf a_valueOf) (hTw : ∀ x, x ∈ T → x < nw) (hT : rp_T t T a_waiting a_tent) (hsn : ∀ o, o < 4 → sn o ≤ 48)
    (hg : ∀ o, o < 4 → a_fixed (f * 4 + o) = nI (g o) ∧ g o ≤ 48) (hpr : ∀ x, pr x = decide (g (gh_og (P x)) ≤ gh_tn (P x))) (hdf : a_done f = nI Df)
    (K : ∀ se fx te, fr_ag 4 t a_seen se → fr_ag 4 t a_fixed fx → (∀ o, o < 4 → se (t * 4 + o) = nI (gb_x (sn o) (g o))) → (∀ o, o < 4 → fx (t * 4 + o) = nI (g o)) → fr_ag 48 t a_tent te → rp_T t (T.filter pr) (upd a_waiting t (nI (T.filter pr).length)) te →
      post (f_replicas, f_writes, a_origin, a_turn, a_stamp, a_kindOf, a_cellOf, a_valueOf, a_clock, se, fx, upd a_done t (nI Df), upd a_heldFrom t (nI Df), a_trimmed, a_log, a_stableCell, a_nowCell, upd a_waiting t (nI (T.filter pr).length), a_applied, te, a_outcome, a_oldCellA, a_oldValA, a_oldCellB, a_oldValB, a_work)) :
    ∀ m i n se fx, i + m = 4 → m < n → fr_ag 4 t a_seen se → fr_ag 4 t a_fixed fx → mx_I t i sn g se → (∀ o, o < i → fx (t * 4 + o) = nI (g o)) →
      wX_transferState_66 post (nI f) (nI t) f_replicas f_writes n (nI i) a_origin a_turn a_stamp a_kindOf a_cellOf a_valueOf a_clock se fx a_done a_heldFrom a_trimmed a_log a_stableCell a_nowCell a_waiting a_applied a_tent a_outcome a_oldCellA a_oldValA a_oldCellB a_oldValB a_work := by
  have i4 : vp_in (nI t) 4 := vp_in_nI ht (by omega)
  have i5 : vp_in (nI f) 4 := vp_in_nI hf (by omega)
  intro m
  induction m with
  | zero =>
    intro i n se fx hi hn hfs hff hI hx
    obtain ⟨n, rfl⟩ : ∃ k, n = k + 1 := ⟨n - 1, by omega⟩
    rw [wX_transferState_66]
    dsimp only
    rw [nI_clamp (n := f) (by omega), nI_clamp (n := t) (by omega), hdf]
    refine pk_le 4 i (fun _ => ⟨i5, i4, nm_e ⟨i5, i4, nm_r (e' := upd a_heldFrom t (nI Df)) (by rw [pk_un hft, hdf]) ⟨T.length + 1, ?_⟩⟩⟩) (fun h => by omega)
    exact x_ts157 (P := P) (nw := nw) ht hs hTw hT (fun o ho => ⟨hx o (by omega), (hg o ho).2⟩) hpr (fun te hft' hT' => K se fx te hfs hff (fun o ho => hI.1 o (by omega)) (fun o ho => hx o (by omega)) hft' hT') T.length 0 (T.length + 1) 0 a_tent (by omega) (by omega) rfl (Nat.le_refl _) fr_ag_r (fun j x h => by simp at h) (fun j x _ hx => hT.2.2.2 j x hx)
  | succ m ih =>
    intro i n se fx hi hn hfs hff hI hx
    obtain ⟨n, rfl⟩ : ∃ k, n = k + 1 := ⟨n - 1, by omega⟩
    have hi4 : i < 4 := by omega
    have i1 : vp_in (nI (t * 4 + i)) 16 := vp_in_nI (by omega) (by omega)
    have i2 : vp_in (nI (f * 4 + i)) 16 := vp_in_nI (by omega) (by omega)
    obtain ⟨g1, g2⟩ := hg i hi4
    have g3 : fx (f * 4 + i) = nI (g i) := (fr_at4 hff hft hi4).trans g1
    have s2 := hsn i hi4
    have hx2 : ∀ o, o < i + 1 → upd fx (t * 4 + i) (nI (g i)) (t * 4 + o) = nI (g o) := by
      intro o ho
      by_cases e : o = i
      · rw [e]; exact pk_us
      · rw [pk_un (by omega)]; exact hx o (by omega)
    rw [wX_transferState_66]
    dsimp only
    rw [ix_4, ix_4, nI_clamp (n := t * 4 + i) (by omega), nI_clamp (n := f * 4 + i) (by omega), g3, hI.2 i (Nat.le_refl _) hi4]
    refine pk_le 4 i (fun h => by omega) (fun _ => ⟨i2, nm_e ⟨i1, nm_e ⟨i1, pk_le (g i) (sn i) (fun h => nm_r (nI_1 i) ?_) (fun h => ⟨i1, nm_e (nm_r (nI_1 i) ?_)⟩)⟩⟩⟩)
    · exact ih (i + 1) n se _ (by omega) (by omega) hfs (fr_ag_t hff (fr_ag_u hi4)) (mx_k hi4 h hI) hx2
    · exact ih (i + 1) n _ _ (by omega) (by omega) (fr_ag_t hfs (fr_ag_u hi4)) (fr_ag_t hff (fr_ag_u hi4)) (mx_c h hI) hx2
theorem x_ts8 {post : SX → Prop} {f t : Nat} (hft : f ≠ t) (hf : f < 4) (ht : t < 4)
    (K : ∀ sc nc, fr_ag 8 t a_stableCell sc → fr_ag 8 t a_nowCell nc → (∀ c, c < 8 → sc (t * 8 + c) = a_stableCell (f * 8 + c)) → (∀ c, c < 8 → nc (t * 8 + c) = a_stableCell (f * 8 + c)) →
      ∃ n66 : Nat, wX_transferState_66 post (nI f) (nI t) f_replicas f_writes n66 0 a_origin a_turn a_stamp a_kindOf a_cellOf a_valueOf a_clock a_seen a_fixed a_done a_heldFrom a_trimmed a_log sc nc a_waiting a_applied a_tent a_outcome a_oldCellA a_oldValA a_oldCellB a_oldValB a_work) :
    ∀ m i n sc nc, i + m = 8 → m < n → fr_ag 8 t a_stableCell sc → fr_ag 8 t a_nowCell nc → (∀ c, c < i → sc (t * 8 + c) = a_stableCell (f * 8 + c)) → (∀ c, c < i → nc (t * 8 + c) = a_stableCell (f * 8 + c)) →
      wX_transferState_8 post (nI f) (nI t) f_replicas f_writes n (nI i) a_origin a_turn a_stamp a_kindOf a_cellOf a_valueOf a_clock a_seen a_fixed a_done a_heldFrom a_trimmed a_log sc nc a_waiting a_applied a_tent a_outcome a_oldCellA a_oldValA a_oldCellB a_oldValB a_work := by
  intro m
  induction m with
  | zero =>
    intro i n sc nc hi hn f1 f2 h1 h2
    obtain ⟨n, rfl⟩ : ∃ k, n = k + 1 := ⟨n - 1, by omega⟩
    rw [wX_transferState_8]
    exact pk_le 8 i (fun _ => K sc nc f1 f2 (fun c hc => h1 c (by omega)) (fun c hc => h2 c (by omega))) (fun h => by omega)
  | succ m ih =>
    intro i n sc nc hi hn f1 f2 h1 h2
    obtain ⟨n, rfl⟩ : ∃ k, n = k + 1 := ⟨n - 1, by omega⟩
    have hi8 : i < 8 := by omega
    have i1 : vp_in (nI (t * 8 + i)) 32 := vp_in_nI (by omega) (by omega)
    have i2 : vp_in (nI (f * 8 + i)) 32 := vp_in_nI (by omega) (by omega)
    have e1 : sc (f * 8 + i) = a_stableCell (f * 8 + i) := fr_at8 f1 hft hi8
    rw [wX_transferState_8]
    dsimp only
    rw [ix_8, ix_8, nI_clamp (n := t * 8 + i) (by omega), nI_clamp (n := f * 8 + i) (by omega), e1]
    refine pk_le 8 i (fun h => by omega) (fun _ => ⟨i2, i1, nm_e ⟨i2, i1, nm_r (e' := upd nc (t * 8 + i) (a_stableCell (f * 8 + i))) (by rw [pk_un (by omega), e1]) (nm_r (nI_1 i) ?_)⟩⟩)
    refine ih (i + 1) n _ _ (by omega) (by omega) (fr_ag_t f1 (fr_ag_u hi8)) (fr_ag_t f2 (fr_ag_u hi8)) (fun c hc => ?_) (fun c hc => ?_)
    · by_cases e : c = i
      · rw [e]; exact pk_us
      · rw [pk_un (by omega)]; exact h1 c (by omega)
    · by_cases e : c = i
      · rw [e]; exact pk_us
      · rw [pk_un (by omega)]; exact h2 c (by omega)
end tst
theorem x_tstate {nw : Nat} {P : Nat → gh_W} {ord : Nat → Nat} {f t Df Dt : Nat} {T : List Nat} {q : Nat} {sn : Nat → Nat} {ck tr : Nat} {u : SX} {post : SX → Prop} {pr : Nat → Bool} (hft : f ≠ t) (hf : f < 4) (ht : t < 4) (hDf : Df ≤ 48)
    (hs : cx_s nw P u) (hTw : ∀ x, x ∈ T → x < nw) (hR : rp_X P ord t (ro_s P ord Dt) T q q sn Dt ck tr u)
    (hdf : sx_done u f = nI Df) (hsf : rp_S P ord Df f (sx_stableCell u)) (hff : rp_f P ord Df f (sx_fixed u)) (hpr : ∀ x, pr x = decide (ct_n (gh_q P ord) (gh_og (P x)) Df ≤ gh_tn (P x)))
    (K : ∀ u', fr_X t u u' → rp_X P ord t (ro_s P ord Df) (T.filter pr) 0 0 (fun o => gb_x (sn o) (ct_n (gh_q P ord) o Df)) Df ck tr u' → post u') :
    wpX_transferState post u (nI f) (nI t) := by
  have U := x_undo (u := u) (keep := 0) ht (by omega) (post := fun u' => ∃ n8 : Nat, ux_transferState_8 post (nI f) (nI t) n8 0 u') hR (fun u1 hf1 hR1 => by
    rw [Nat.min_zero] at hR1
    have hdf1 : sx_done u1 f = nI Df := (fr_at1 hf1.2.2.2.2.2.2.2.2.2.2.2.1 hft).trans hdf
    have hsf1 : rp_S P ord Df f (sx_stableCell u1) := fun c hc => (fr_at8 hf1.2.2.2.2.2.2.2.2.2.2.2.2.2.2.2.1 hft hc).trans (hsf c hc)
    have hff1 : rp_f P ord Df f (sx_fixed u1) := fun o ho => (fr_at4 hf1.2.2.2.2.2.2.2.2.2.2.1 hft ho).trans (hff o ho)
    have hs1 := cx_fr hf1 hs
    obtain ⟨f_replicas, f_writes, a_origin, a_turn, a_stamp, a_kindOf, a_cellOf, a_valueOf, a_clock, a_seen, a_fixed, a_done, a_heldFrom, a_trimmed, a_log, a_stableCell, a_nowCell, a_waiting, a_applied, a_tent, a_outcome, a_oldCellA, a_oldValA, a_oldCellB, a_oldValB, a_work⟩ := u1
    have hR := hR1
    obtain ⟨hT, hA, hC, hS, hN, hF, hL, hK⟩ := hR
    change rp_T _ _ a_waiting a_tent at hT
    change rp_A _ _ a_applied at hA
    change rp_C _ _ _ _ _ a_nowCell a_outcome a_oldCellA a_oldValA a_oldCellB a_oldValB at hC
    change rp_S _ _ _ _ a_stableCell at hS
    change rp_n _ _ a_seen at hN
    change rp_f _ _ _ _ a_fixed at hF
    change rp_L _ _ _ a_done a_heldFrom a_log at hL
    change rp_K _ _ _ a_clock a_trimmed at hK
    change a_done f = _ at hdf1
    change cx_a nw P a_origin a_turn a_stamp a_kindOf a_cellOf a_valueOf at hs1
    change rp_S P ord Df f a_stableCell at hsf1
    change rp_f P ord Df f a_fixed at hff1
    refine ⟨9, x_ts8 hft hf ht (fun sc nc g1 g2 g3 g4 => ⟨5, ?_⟩) 8 0 9 a_stableCell a_nowCell rfl (by omega) fr_ag_r fr_ag_r (fun c hc => by omega) (fun c hc => by omega)⟩
    refine x_ts66 (P := P) (nw := nw) (sn := sn) (g := fun o => ct_n (gh_q P ord) o Df) (pr := pr) hft hf ht hs1 hTw hT (fun o ho => (hN o ho).2) (fun o ho => ⟨hff1 o ho, ct_le48 hDf⟩) hpr hdf1 (fun se fx te e1 e2 e3 e4 e5 e6 => ?_) 4 0 5 a_seen a_fixed rfl (by omega) fr_ag_r fr_ag_r ⟨fun o ho => by omega, fun o _ ho => (hN o ho).1⟩ (fun o ho => by omega)
    refine K _ (fr_X_t hf1 ⟨@rfl _ f_replicas, @rfl _ f_writes, @rfl _ a_origin, @rfl _ a_turn, @rfl _ a_stamp, @rfl _ a_kindOf, @rfl _ a_cellOf, @rfl _ a_valueOf, @fr_ag_r _ _ a_clock, e1, e2, fr_ag_1 (a := a_done), fr_ag_1 (a := a_heldFrom), @fr_ag_r _ _ a_trimmed, @fr_ag_r _ _ a_log, g1, g2, fr_ag_1 (a := a_waiting), @fr_ag_r _ _ a_applied, e5, @fr_ag_r _ _ a_outcome, @fr_ag_r _ _ a_oldCellA, @fr_ag_r _ _ a_oldValA, @fr_ag_r _ _ a_oldCellB, @fr_ag_r _ _ a_oldValB⟩) ⟨e6, hA, ⟨by omega, fun c hc => (g4 c hc).trans (hsf1 c hc), fun i x hi => by omega⟩, fun c hc => (g3 c hc).trans (hsf1 c hc), fun o ho => ⟨e3 o ho, gb_48 (hN o ho).2 (ct_le48 hDf)⟩, e4, ⟨pk_us, hDf, Df, Nat.le_refl _, pk_us, fun i h1 h2 => by omega⟩, hK⟩)
  obtain ⟨f_replicas, f_writes, a_origin, a_turn, a_stamp, a_kindOf, a_cellOf, a_valueOf, a_clock, a_seen, a_fixed, a_done, a_heldFrom, a_trimmed, a_log, a_stableCell, a_nowCell, a_waiting, a_applied, a_tent, a_outcome, a_oldCellA, a_oldValA, a_oldCellB, a_oldValB, a_work⟩ := u
  exact U
end
section
/-! X: bring -/
abbrev rx_X (nr nw : Nat) (P : Nat → gh_W) (ord : Nat → Nat) (T : Nat → List Nat) (sn : Nat → Nat → Nat) (dn ck tr : Nat → Nat) (u : SX) : Prop :=
  sx_replicas u = nI nr ∧ sx_writes u = nI nw ∧ cx_s nw P u ∧
  ∀ r, r < nr → rp_X P ord r (ro_s P ord (dn r)) (T r) (T r).length (T r).length (sn r) (dn r) (ck r) (tr r) u
theorem rx_up {nr nw : Nat} {P : Nat → gh_W} {ord : Nat → Nat} {T : Nat → List Nat} {sn : Nat → Nat → Nat} {dn ck tr : Nat → Nat} {u u' : SX} {t : Nat} {T2 : List Nat} {s2 : Nat → Nat} {d k : Nat}
    (X : rx_X nr nw P ord T sn dn ck tr u) (hf : fr_X t u u') (hR : rp_X P ord t (ro_s P ord d) T2 T2.length T2.length s2 d k (tr t) u') :
    rx_X nr nw P ord (gh_u T t T2) (gh_u sn t s2) (gh_u dn t d) (gh_u ck t k) tr u' := by
  obtain ⟨x1, x2, x3, x4⟩ := X
  refine ⟨hf.1.trans x1, hf.2.1.trans x2, cx_fr hf x3, fun r hr => ?_⟩
  by_cases e : r = t
  · subst e
    rw [gh_us, gh_us, gh_us, gh_us]
    exact hR
  · rw [gh_un e, gh_un e, gh_un e, gh_un e]
    exact rp_fr hf e (x4 r hr)
theorem rp_T_fr {t f : Nat} {Tf : List Nat} {u u' : SX} (hf : fr_X t u u') (hn : f ≠ t) (h : rp_T f Tf (sx_waiting u) (sx_tent u)) : rp_T f Tf (sx_waiting u') (sx_tent u') := by
  obtain ⟨_, _, _, _, _, _, _, _, _, _, _, _, _, _, _, _, _, b10, _, b12, _⟩ := hf
  obtain ⟨t1, t2, t3, t4⟩ := h
  refine ⟨(fr_at1 b10 hn).trans t1, t2, t3, fun i x hx => ?_⟩
  have := li_lt hx
  exact (fr_at48 b12 hn (by omega)).trans (t4 i x hx)
theorem x_br126 {nr nw : Nat} {P : Nat → gh_W} {ck0 : Nat → Nat} {ord : Nat → Nat} {f t : Nat} {B : Nat → Int32} {T0 Tf : List Nat} {s1 : Nat → Nat} {D ck tr lr : Nat} {post : Int32 → SX → Prop} (H : gh_ok nr nw P ck0) (hft : f ≠ t) (hf : f < 4) (ht : t < 4)
    (hT0 : ∀ x, x ∈ T0 → x < nw ∧ gh_tn (P x) < s1 (gh_og (P x))) (hTf : ∀ x, x ∈ Tf → x < nw) (hnf : Tf.Nodup) :
    ∀ n i T1 q u, Tf.length - i < n → i ≤ Tf.length → cx_s nw P u → rp_T f Tf (sx_waiting u) (sx_tent u) → rp_X P ord t B T1 q q s1 D ck tr u → T1.Pairwise (gh_lt P) →
      (∀ x, x ∈ T1 ↔ x ∈ T0 ∨ (x ∈ Tf.take i ∧ s1 (gh_og (P x)) ≤ gh_tn (P x))) →
      (∀ T2 q2 u', T2.Pairwise (gh_lt P) → (∀ x, x ∈ T2 ↔ x ∈ T0 ∨ (x ∈ Tf ∧ s1 (gh_og (P x)) ≤ gh_tn (P x))) → fr_X t u u' → rp_X P ord t B T2 q2 q2 s1 D ck tr u' → ∃ n193 : Nat, ux_bring_193 post (nI f) (nI t) (nI lr) n193 0 u') →
      ux_bring_126 post (nI f) (nI t) (nI lr) n (nI i) u := by
  intro n
  induction n with
  | zero => intro i T1 q u h; omega
  | succ n ih =>
    intro i T1 q u hn hi hs hRf hR hp hm K
    have hf48 := hRf.2.1
    by_cases c : i < Tf.length
    · have hx : Tf[i]? = some (Tf[i]'c) := List.getElem?_eq_getElem c
      generalize Tf[i]'c = x at hx
      have hxm := List.mem_of_getElem? hx
      have hxw := hTf x hxm
      have e1 : Tf.take (i + 1) = Tf.take i ++ [x] := by rw [List.take_add_one, hx]; rfl
      have hmem : ∀ y, y ∈ Tf.take (i + 1) ↔ y ∈ Tf.take i ∨ y = x := by
        intro y; rw [e1, List.mem_append, List.mem_singleton]
      have hT1w : ∀ y, y ∈ T1 → y < nw := by
        intro y hy
        rcases (hm y).mp hy with h | h
        · exact (hT0 y h).1
        · exact hTf y (List.mem_of_mem_take h.1)
      have hxt : ¬ x ∈ Tf.take i := by
        intro h
        obtain ⟨j, hj⟩ := List.mem_iff_getElem?.mp h
        have hl := li_lt hj
        rw [List.length_take] at hl
        rw [List.getElem?_take_of_lt (by omega)] at hj
        have := (List.getElem?_inj (by omega) hnf).mp (hj.trans hx.symm)
        omega
      obtain ⟨⟨o4, tn48, _⟩, eo, et, _⟩ := hs.2 x hxw
      have hse := (hR.2.2.2.2.1 _ o4)
      have hte := hRf.2.2.2 i x hx
      have hwt := hRf.1
      -- known: passed over
      have Ka : gh_tn (P x) < s1 (gh_og (P x)) → ux_bring_126 post (nI f) (nI t) (nI lr) n (nI (i + 1)) u := fun hk =>
        ih (i + 1) T1 q u (by omega) (by omega) hs hRf hR hp (fun y => by
          rw [hm y, hmem y]
          constructor
          · rintro (h | ⟨h1, h2⟩)
            · exact Or.inl h
            · exact Or.inr ⟨Or.inl h1, h2⟩
          · rintro (h | ⟨h1 | h1, h2⟩)
            · exact Or.inl h
            · exact Or.inr ⟨h1, h2⟩
            · rw [h1] at h2; omega) K
      -- not known: put in
      have Kb : s1 (gh_og (P x)) ≤ gh_tn (P x) → wpX_insert (fun u' => ∀ x4_140 : Int32, x4_140 = nI i + 1 → ux_bring_126 post (nI f) (nI t) (nI lr) n x4_140 u') u (nI t) (nI x) := by
        intro hk
        have hxT : ¬ x ∈ T1 := by
          intro h
          rcases (hm x).mp h with h | h
          · have := (hT0 x h).2; omega
          · exact hxt h.1
        have hlen : T1.length < 48 := Nat.lt_of_lt_of_le (so_len1 (so_nd hp) hT1w hxw hxT) hs.1
        refine x_ins ht hs hxw hlen hT1w hR (fun p u' hp1 hp2 hp3 hfr hR' => nm_r (nI_1 i) ?_)
        refine ih (i + 1) _ _ u' (by omega) (by omega) (cx_fr hfr hs) (rp_T_fr hfr hft hRf) hR' (so_ins H hp hT1w hxw hxT hp1 hp2 hp3) (fun y => ?_) (fun T2 q2 u2 a1 a2 a3 a4 => K T2 q2 u2 a1 a2 (fr_X_t hfr a3) a4)
        rw [so_ins_mem, hm y, hmem y]
        constructor
        · rintro (h | h | ⟨h1, h2⟩)
          · rw [h]; exact Or.inr ⟨Or.inr rfl, hk⟩
          · exact Or.inl h
          · exact Or.inr ⟨Or.inl h1, h2⟩
        · rintro (h | ⟨h1 | h1, h2⟩)
          · exact Or.inr (Or.inl h)
          · exact Or.inr (Or.inr ⟨h1, h2⟩)
          · exact Or.inl h1
      obtain ⟨f_replicas, f_writes, a_origin, a_turn, a_stamp, a_kindOf, a_cellOf, a_valueOf, a_clock, a_seen, a_fixed, a_done, a_heldFrom, a_trimmed, a_log, a_stableCell, a_nowCell, a_waiting, a_applied, a_tent, a_outcome, a_oldCellA, a_oldValA, a_oldCellB, a_oldValB, a_work⟩ := u
      change a_waiting f = nI Tf.length at hwt
      change a_tent (f * 48 + i) = nI x at hte
      change a_origin x = _ at eo
      change a_turn x = _ at et
      change a_seen (t * 4 + gh_og (P x)) = _ ∧ _ at hse
      have hnw := hs.1
      unfold ux_bring_126
      dsimp only
      rw [wX_bring_126]
      dsimp only
      rw [nI_clamp (n := f) (by omega), hwt, ix_48, nI_clamp (n := f * 48 + i) (by omega), hte]
      refine ⟨vp_in_nI hf (by omega), br_f (nI_ge c (by omega)) ⟨vp_in_nI (by omega) (by omega), nm_e ?_⟩⟩
      rw [nI_clamp (n := x) (by omega), eo, et, ix_4, nI_clamp (n := t * 4 + gh_og (P x)) (by omega), hse.1]
      have ix : vp_in (nI x) 48 := vp_in_nI (by omega) (by omega)
      have hs48 := hse.2
      exact ⟨ix, ix, vp_in_nI (by omega) (by omega), pk_lt _ _ (fun h => nm_r (nI_1 i) (Ka h)) (fun h => Kb h)⟩
    · have e : i = Tf.length := by omega
      subst e
      rw [List.take_length] at hm
      have G := K T1 q u hp hm (fr_X_r _ _) hR
      have hwt := hRf.1
      obtain ⟨f_replicas, f_writes, a_origin, a_turn, a_stamp, a_kindOf, a_cellOf, a_valueOf, a_clock, a_seen, a_fixed, a_done, a_heldFrom, a_trimmed, a_log, a_stableCell, a_nowCell, a_waiting, a_applied, a_tent, a_outcome, a_oldCellA, a_oldValA, a_oldCellB, a_oldValB, a_work⟩ := u
      change a_waiting f = nI Tf.length at hwt
      unfold ux_bring_126
      dsimp only
      rw [wX_bring_126]
      dsimp only
      rw [nI_clamp (n := f) (by omega), hwt]
      exact ⟨vp_in_nI hf (by omega), br_t (nI_le (Nat.le_refl _) (by omega)) G⟩
section br3
variable {f_replicas f_writes : Int32} {a_origin a_turn a_stamp a_kindOf a_cellOf a_valueOf a_clock a_seen a_fixed a_done a_heldFrom a_trimmed a_log a_stableCell a_nowCell a_waiting a_applied a_tent a_outcome a_oldCellA a_oldValA a_oldCellB a_oldValB a_work : Nat → Int32}
theorem x_br193 {post : Int32 → SX → Prop} {f t kf kt lr : Nat} {sn g : Nat → Nat} (hft : f ≠ t) (hf : f < 4) (ht : t < 4) (hsn : ∀ o, o < 4 → sn o ≤ 48) (hg : ∀ o, o < 4 → a_seen (f * 4 + o) = nI (g o) ∧ g o ≤ 48) (hkf : a_clock f = nI kf) (hkt : a_clock t = nI kt) (hkf8 : kf ≤ 48) (hkt8 : kt ≤ 48)
    (K : ∀ se ca, fr_ag 4 t a_seen se → (∀ o, o < 4 → se (t * 4 + o) = nI (gb_x (sn o) (g o))) → fr_ag 1 t a_clock ca → ca t = nI (gb_x kt kf) → wX_bring_274 post (nI t) (nI lr) f_replicas f_writes a_origin a_turn a_stamp a_kindOf a_cellOf a_valueOf ca se a_fixed a_done a_heldFrom a_trimmed a_log a_stableCell a_nowCell a_waiting a_applied a_tent a_outcome a_oldCellA a_oldValA a_oldCellB a_oldValB a_work) :
    ∀ m i n se, i + m = 4 → m < n → fr_ag 4 t a_seen se → mx_I t i sn g se → wX_bring_193 post (nI f) (nI t) (nI lr) f_replicas f_writes n (nI i) a_origin a_turn a_stamp a_kindOf a_cellOf a_valueOf a_clock se a_fixed a_done a_heldFrom a_trimmed a_log a_stableCell a_nowCell a_waiting a_applied a_tent a_outcome a_oldCellA a_oldValA a_oldCellB a_oldValB a_work := by
  have i4 : vp_in (nI t) 4 := vp_in_nI ht (by omega)
  have i5 : vp_in (nI f) 4 := vp_in_nI hf (by omega)
  intro m
  induction m with
  | zero =>
    intro i n se hi hn hfs hI
    obtain ⟨n, rfl⟩ : ∃ k, n = k + 1 := ⟨n - 1, by omega⟩
    rw [wX_bring_193]
    dsimp only
    rw [nI_clamp (n := f) (by omega), nI_clamp (n := t) (by omega), hkf, hkt]
    refine pk_le 4 i (fun _ => ⟨i5, i4, pk_le kf kt (fun h => ?_) (fun h => ⟨i5, i4, nm_e ?_⟩)⟩) (fun h => by omega)
    · refine K se a_clock hfs (fun o ho => hI.1 o (by omega)) fr_ag_r ?_
      rw [hkt]; unfold gb_x; rw [if_neg (by omega)]
    · refine K se _ hfs (fun o ho => hI.1 o (by omega)) fr_ag_1 ?_
      rw [pk_us]; unfold gb_x; rw [if_pos h]
  | succ m ih =>
    intro i n se hi hn hfs hI
    obtain ⟨n, rfl⟩ : ∃ k, n = k + 1 := ⟨n - 1, by omega⟩
    have hi4 : i < 4 := by omega
    have i1 : vp_in (nI (t * 4 + i)) 16 := vp_in_nI (by omega) (by omega)
    have i2 : vp_in (nI (f * 4 + i)) 16 := vp_in_nI (by omega) (by omega)
    obtain ⟨g1, g2⟩ := hg i hi4
    have g3 : se (f * 4 + i) = nI (g i) := (fr_at4 hfs hft hi4).trans g1
    have s2 := hsn i hi4
    rw [wX_bring_193]
    dsimp only
    rw [ix_4, ix_4, nI_clamp (n := t * 4 + i) (by omega), nI_clamp (n := f * 4 + i) (by omega), g3, hI.2 i (Nat.le_refl _) hi4]
    refine pk_le 4 i (fun h => by omega) (fun _ => ⟨i2, nm_e ⟨i1, pk_le (g i) (sn i) (fun h => nm_r (nI_1 i) ?_) (fun h => ⟨i1, nm_e (nm_r (nI_1 i) ?_)⟩)⟩⟩)
    · exact ih (i + 1) n se (by omega) (by omega) hfs (mx_k hi4 h hI)
    · exact ih (i + 1) n _ (by omega) (by omega) (fr_ag_t hfs (fr_ag_u hi4)) (mx_c h hI)
end br3
/-- how many writes the meeting brings, over the first origins -/
def lr_n (a b : Nat → Nat) : Nat → Nat
  | 0 => 0
  | o + 1 => lr_n a b o + (b o - a o)
/-- from the meeting of the tentative writes on -/
theorem x_br2 {nr nw : Nat} {P : Nat → gh_W} {ck0 : Nat → Nat} {ord : Nat → Nat} {f t : Nat} {T1 Tf : List Nat} {s1 sf : Nat → Nat} {D q kt kf tr lr : Nat} {post : Int32 → SX → Prop} {u : SX} (H : gh_ok nr nw P ck0) (hft : f ≠ t) (hf : f < 4) (ht : t < 4)
    (hT1 : ∀ x, x ∈ T1 → x < nw ∧ gh_tn (P x) < s1 (gh_og (P x))) (hTf : ∀ x, x ∈ Tf → x < nw) (hpf : Tf.Pairwise (gh_lt P)) (hp1 : T1.Pairwise (gh_lt P)) (hs : cx_s nw P u)
    (hRf : rp_T f Tf (sx_waiting u) (sx_tent u)) (hsf : rp_n f sf (sx_seen u)) (hkf : sx_clock u f = nI kf) (hkf8 : kf ≤ 48)
    (hR : rp_X P ord t (ro_s P ord D) T1 q q s1 D kt tr u)
    (K : ∀ T2 u', T2.Pairwise (gh_lt P) → (∀ x, x ∈ T2 ↔ x ∈ T1 ∨ (x ∈ Tf ∧ s1 (gh_og (P x)) ≤ gh_tn (P x))) → fr_X t u u' → rp_X P ord t (ro_s P ord D) T2 T2.length T2.length (fun o => gb_x (s1 o) (sf o)) D (gb_x kt kf) tr u' → post (nI lr) u') :
    ∃ n126 : Nat, ux_bring_126 post (nI f) (nI t) (nI lr) n126 0 u := by
  refine ⟨Tf.length + 1, ?_⟩
  refine x_br126 (T0 := T1) H hft hf ht hT1 hTf (so_nd hpf) (Tf.length + 1) 0 T1 q u (by omega) (by omega) hs hRf hR hp1 (fun x => ⟨fun h => Or.inl h, fun h => ?_⟩) (fun T2 q2 u2 hp2 hm2 hfr2 hR2 => ⟨5, ?_⟩)
  · rcases h with h | h
    · exact h
    · rw [List.take_zero] at h; exact absurd h.1 (List.not_mem_nil)
  · have hT2w : ∀ x, x ∈ T2 → x < nw := fun x hx => by
      rcases (hm2 x).mp hx with h | h
      · exact (hT1 x h).1
      · exact hTf x h.1
    have hs2 := cx_fr hfr2 hs
    have hsf2 : rp_n f sf (sx_seen u2) := fun o ho => ⟨(fr_at4 hfr2.2.2.2.2.2.2.2.2.2.1 hft ho).trans (hsf o ho).1, (hsf o ho).2⟩
    have hkf2 : sx_clock u2 f = nI kf := (fr_at1 hfr2.2.2.2.2.2.2.2.2.1 hft).trans hkf
    obtain ⟨f_replicas, f_writes, a_origin, a_turn, a_stamp, a_kindOf, a_cellOf, a_valueOf, a_clock, a_seen, a_fixed, a_done, a_heldFrom, a_trimmed, a_log, a_stableCell, a_nowCell, a_waiting, a_applied, a_tent, a_outcome, a_oldCellA, a_oldValA, a_oldCellB, a_oldValB, a_work⟩ := u2
    have hR := hR2
    obtain ⟨hT, hA, hC, hS, hN, hF, hL, hK⟩ := hR
    change rp_T _ _ a_waiting a_tent at hT
    change rp_A _ _ a_applied at hA
    change rp_C _ _ _ _ _ a_nowCell a_outcome a_oldCellA a_oldValA a_oldCellB a_oldValB at hC
    change rp_S _ _ _ _ a_stableCell at hS
    change rp_n _ _ a_seen at hN
    change rp_f _ _ _ _ a_fixed at hF
    change rp_L _ _ _ a_done a_heldFrom a_log at hL
    change rp_K _ _ _ a_clock a_trimmed at hK
    change rp_n f sf a_seen at hsf2
    change cx_a nw P a_origin a_turn a_stamp a_kindOf a_cellOf a_valueOf at hs2
    change a_clock f = nI kf at hkf2
    refine x_br193 (sn := s1) (g := sf) hft hf ht (fun o ho => (hN o ho).2) hsf2 hkf2 hK.1 hkf8 hK.2.1 (fun se ca e1 e2 e3 e4 => ?_) 4 0 5 a_seen rfl (by omega) fr_ag_r ⟨fun o ho => by omega, fun o _ ho => (hN o ho).1⟩
    refine x_apA (T := T2) (q := q2) (sn := fun o => gb_x (s1 o) (sf o)) (ck := gb_x kt kf) (P := P) (ord := ord) (B := ro_s P ord D) (D := D) (tr := tr) ht hT2w hs2 ⟨hT, hA, hC, hS, fun o ho => ⟨e2 o ho, gb_48 (hN o ho).2 (hsf2 o ho).2⟩, hF, hL, ⟨e4, gb_48 hK.2.1 hkf8, hK.2.2⟩⟩ (fun u3 hf3 hR3 => ?_)
    have G := K T2 u3 hp2 hm2 (fr_X_t hfr2 (fr_X_t2 hf3 ⟨@rfl _ f_replicas, @rfl _ f_writes, @rfl _ a_origin, @rfl _ a_turn, @rfl _ a_stamp, @rfl _ a_kindOf, @rfl _ a_cellOf, @rfl _ a_valueOf, e3, e1, @fr_ag_r _ _ a_fixed, @fr_ag_r _ _ a_done, @fr_ag_r _ _ a_heldFrom, @fr_ag_r _ _ a_trimmed, @fr_ag_r _ _ a_log, @fr_ag_r _ _ a_stableCell, @fr_ag_r _ _ a_nowCell, @fr_ag_r _ _ a_waiting, @fr_ag_r _ _ a_applied, @fr_ag_r _ _ a_tent, @fr_ag_r _ _ a_outcome, @fr_ag_r _ _ a_oldCellA, @fr_ag_r _ _ a_oldValA, @fr_ag_r _ _ a_oldCellB, @fr_ag_r _ _ a_oldValB⟩)) hR3
    obtain ⟨f_replicas, f_writes, a_origin, a_turn, a_stamp, a_kindOf, a_cellOf, a_valueOf, a_clock, a_seen, a_fixed, a_done, a_heldFrom, a_trimmed, a_log, a_stableCell, a_nowCell, a_waiting, a_applied, a_tent, a_outcome, a_oldCellA, a_oldValA, a_oldCellB, a_oldValB, a_work⟩ := u3
    exact G
end
section
/-! X: bring, the whole -/
theorem ix_sle {a b : Nat} (ha : a < 2 ^ 30) (hb : b < 2 ^ 30) : nI a - nI b ≤ 0 ↔ a ≤ b := by
  rw [Int32.le_iff_toInt_le, pk_sub_toInt ha hb, show (0 : Int32).toInt = 0 from by decide]
  omega
section b31
variable {f_replicas f_writes : Int32} {a_origin a_turn a_stamp a_kindOf a_cellOf a_valueOf a_clock a_seen a_fixed a_done a_heldFrom a_trimmed a_log a_stableCell a_nowCell a_waiting a_applied a_tent a_outcome a_oldCellA a_oldValA a_oldCellB a_oldValB a_work : Nat → Int32}
theorem x_br31 {post : Int32 → SX → Prop} {f t Df Dt hh : Nat} {st sf : Nat → Nat} (hf : f < 4) (ht : t < 4) (h1 : rp_n t st a_seen) (h2 : rp_n f sf a_seen) (hdf : a_done f = nI Df) (hdt : a_done t = nI Dt) (hhf : a_heldFrom f = nI hh) (b1 : Df ≤ 48) (b2 : Dt ≤ 48) (b3 : hh ≤ 48)
    (Ka : Df ≤ Dt → ∃ n126 : Nat, ux_bring_126 post (nI f) (nI t) (nI (lr_n st sf 4)) n126 0 (f_replicas, f_writes, a_origin, a_turn, a_stamp, a_kindOf, a_cellOf, a_valueOf, a_clock, a_seen, a_fixed, a_done, a_heldFrom, a_trimmed, a_log, a_stableCell, a_nowCell, a_waiting, a_applied, a_tent, a_outcome, a_oldCellA, a_oldValA, a_oldCellB, a_oldValB, a_work))
    (Kb : Dt < Df → hh ≤ Dt → wpX_transferLog (fun u' => ∃ n126 : Nat, ux_bring_126 post (nI f) (nI t) (nI (lr_n st sf 4)) n126 0 u') (f_replicas, f_writes, a_origin, a_turn, a_stamp, a_kindOf, a_cellOf, a_valueOf, a_clock, a_seen, a_fixed, a_done, a_heldFrom, a_trimmed, a_log, a_stableCell, a_nowCell, a_waiting, a_applied, a_tent, a_outcome, a_oldCellA, a_oldValA, a_oldCellB, a_oldValB, a_work) (nI f) (nI t))
    (Kc : Dt < Df → Dt < hh → wpX_transferState (fun u' => ∃ n126 : Nat, ux_bring_126 post (nI f) (nI t) (nI (lr_n st sf 4)) n126 0 u') (f_replicas, f_writes, a_origin, a_turn, a_stamp, a_kindOf, a_cellOf, a_valueOf, a_clock, a_seen, a_fixed, a_done, a_heldFrom, a_trimmed, a_log, a_stableCell, a_nowCell, a_waiting, a_applied, a_tent, a_outcome, a_oldCellA, a_oldValA, a_oldCellB, a_oldValB, a_work) (nI f) (nI t)) :
    ∀ m i n, i + m = 4 → m < n → wX_bring_31 post (nI f) (nI t) f_replicas f_writes a_origin a_turn a_stamp a_kindOf a_cellOf a_valueOf a_clock a_seen a_fixed a_done a_heldFrom a_trimmed a_log a_stableCell a_nowCell a_waiting a_applied a_tent a_outcome a_oldCellA a_oldValA a_oldCellB a_oldValB a_work n (nI (lr_n st sf i)) (nI i) := by
  have i4 : vp_in (nI t) 4 := vp_in_nI ht (by omega)
  have i5 : vp_in (nI f) 4 := vp_in_nI hf (by omega)
  intro m
  induction m with
  | zero =>
    intro i n hi hn
    obtain ⟨n, rfl⟩ : ∃ k, n = k + 1 := ⟨n - 1, by omega⟩
    have e : i = 4 := by omega
    subst e
    rw [wX_bring_31]
    dsimp only
    rw [nI_clamp (n := f) (by omega), nI_clamp (n := t) (by omega), hdf, hdt, hhf]
    exact pk_le 4 4 (fun _ => ⟨i5, i4, pk_le Df Dt (fun h => Ka h) (fun h => ⟨i5, i4, pk_le hh Dt (fun h2 => Kb h h2) (fun h2 => Kc h h2)⟩)⟩) (fun h => by omega)
  | succ m ih =>
    intro i n hi hn
    obtain ⟨n, rfl⟩ : ∃ k, n = k + 1 := ⟨n - 1, by omega⟩
    have hi4 : i < 4 := by omega
    obtain ⟨e1, e2⟩ := h1 i hi4
    obtain ⟨e3, e4⟩ := h2 i hi4
    rw [wX_bring_31]
    dsimp only
    rw [ix_4, ix_4, nI_clamp (n := f * 4 + i) (by omega), nI_clamp (n := t * 4 + i) (by omega), e1, e3]
    refine pk_le 4 i (fun h => by omega) (fun _ => ⟨vp_in_nI (by omega) (by omega), vp_in_nI (by omega) (by omega), nm_e ?_⟩)
    have I := ih (i + 1) n (by omega) (by omega)
    have el : lr_n st sf (i + 1) = lr_n st sf i + (sf i - st i) := rfl
    by_cases c : sf i ≤ st i
    · refine br_t ((ix_sle (by omega) (by omega)).mpr c) (nm_r (nI_1 i) ?_)
      rw [show lr_n st sf (i + 1) = lr_n st sf i by omega] at I
      exact I
    · refine br_f (fun h => c ((ix_sle (by omega) (by omega)).mp h)) (nm_r ?_ (nm_r (nI_1 i) I))
      rw [pk_sub (by omega), nI_add, el]
end b31
theorem x_br3 {nr nw : Nat} {P : Nat → gh_W} {ord : Nat → Nat} {T : Nat → List Nat} {sn : Nat → Nat → Nat} {dn ck tr : Nat → Nat} {u u1 : SX} {f t d lr q : Nat} {T1 : List Nat} {post : Int32 → SX → Prop}
    (I : gh_inv nr nw P ord T sn dn ck tr) (X : rx_X nr nw P ord T sn dn ck tr u) (hf : f < nr) (ht : t < nr) (hft : f ≠ t) (hd : d = gb_x (dn t) (dn f))
    (hp1 : T1.Pairwise (gh_lt P)) (hm1 : ∀ x, x ∈ T1 ↔ x ∈ T t ∧ ct_n (gh_q P ord) (gh_og (P x)) d ≤ gh_tn (P x)) (hfr : fr_X t u u1)
    (hR : rp_X P ord t (ro_s P ord d) T1 q q (fun o => gb_x (sn t o) (ct_n (gh_q P ord) o d)) d (ck t) (tr t) u1)
    (K : ∀ (T2 : List Nat) (u' : SX), T2.Pairwise (gh_lt P) → (∀ x, x ∈ T2 ↔ x ∈ T1 ∨ (x ∈ T f ∧ gb_x (sn t (gh_og (P x))) (ct_n (gh_q P ord) (gh_og (P x)) d) ≤ gh_tn (P x))) →
      rx_X nr nw P ord (gh_u T t T2) (gh_u sn t (fun o => gb_x (sn t o) (sn f o))) (gh_u dn t d) (gh_u ck t (gb_x (ck t) (ck f))) tr u' → post (nI lr) u') :
    ∃ n126 : Nat, ux_bring_126 post (nI f) (nI t) (nI lr) n126 0 u1 := by
  obtain ⟨H, O, R⟩ := I
  have h4 := H.2.1
  obtain ⟨af1, af2, af3, af4⟩ := R f hf
  obtain ⟨at1, at2, at3, at4⟩ := R t ht
  have Xf := rp_fr hfr hft (X.2.2.2 f hf)
  refine x_br2 (s1 := fun o => gb_x (sn t o) (ct_n (gh_q P ord) o d)) (sf := sn f) (kf := ck f) H hft (by omega) (by omega) (fun x hx => ?_) (fun x hx => gh_Tlt af2 hx) af2.2.2.1 hp1 (cx_fr hfr X.2.2.1) Xf.1 Xf.2.2.2.2.1 Xf.2.2.2.2.2.2.2.1 Xf.2.2.2.2.2.2.2.2.1 hR (fun T2 u' hp2 hm2 hf2 hR2 => ?_)
  · have hx2 := ((hm1 x).mp hx).1
    exact ⟨gh_Tlt at2 hx2, Nat.lt_of_lt_of_le ((at2.2.2.2 x).mp hx2).2.2 (gb_x1 _ _)⟩
  · have es : (fun o => gb_x ((fun o => gb_x (sn t o) (ct_n (gh_q P ord) o d)) o) (sn f o)) = (fun o => gb_x (sn t o) (sn f o)) := by
      funext o
      exact (gb_sn at2 af2 hd o).symm
    rw [es] at hR2
    exact K T2 u' hp2 hm2 (rx_up X (fr_X_t hfr hf2) hR2)
theorem x_bring {nr nw : Nat} {P : Nat → gh_W} {ord : Nat → Nat} {T : Nat → List Nat} {sn : Nat → Nat → Nat} {dn ck tr : Nat → Nat} {u : SX} {f t d : Nat} {post : Int32 → SX → Prop}
    (I : gh_inv nr nw P ord T sn dn ck tr) (X : rx_X nr nw P ord T sn dn ck tr u) (hf : f < nr) (ht : t < nr) (hft : f ≠ t) (hd : d = gb_x (dn t) (dn f))
    (K : ∀ (T1 T2 : List Nat) (u' : SX), T1.Pairwise (gh_lt P) → (∀ x, x ∈ T1 ↔ x ∈ T t ∧ ct_n (gh_q P ord) (gh_og (P x)) d ≤ gh_tn (P x)) → T2.Pairwise (gh_lt P) → (∀ x, x ∈ T2 ↔ x ∈ T1 ∨ (x ∈ T f ∧ gb_x (sn t (gh_og (P x))) (ct_n (gh_q P ord) (gh_og (P x)) d) ≤ gh_tn (P x))) →
      rx_X nr nw P ord (gh_u T t T2) (gh_u sn t (fun o => gb_x (sn t o) (sn f o))) (gh_u dn t d) (gh_u ck t (gb_x (ck t) (ck f))) tr u' → post (nI (lr_n (sn t) (sn f) 4)) u') :
    ∃ n31 : Nat, ux_bring_31 post (nI f) (nI t) n31 0 0 u := by
  have H := I.1
  have O := I.2.1
  have h4 := H.2.1
  obtain ⟨af1, af2, af3, af4⟩ := I.2.2 f hf
  obtain ⟨at1, at2, at3, at4⟩ := I.2.2 t ht
  have Xf := X.2.2.2 f hf
  have Xt := X.2.2.2 t ht
  have hs := X.2.2.1
  have hnd := so_nd at2.2.2.1
  have hTw : ∀ x, x ∈ T t → x < nw := fun x hx => gh_Tlt at2 hx
  obtain ⟨ef1, ef2, hh, ef3, ef4, ef5⟩ := Xf.2.2.2.2.2.2.1
  have et1 := Xt.2.2.2.2.2.2.1.1
  have et2 := Xt.2.2.2.2.2.2.1.2.1
  have hord : ∀ i, i < dn f → ord i < nw := fun i hi => (O i (by omega)).1
  -- nothing to take over
  have Ka : dn f ≤ dn t → ∃ n126 : Nat, ux_bring_126 post (nI f) (nI t) (nI (lr_n (sn t) (sn f) 4)) n126 0 u := by
    intro h
    have ed : d = dn t := by rw [hd]; unfold gb_x; rw [if_neg (by omega)]
    have hm1 : ∀ x, x ∈ T t ↔ x ∈ T t ∧ ct_n (gh_q P ord) (gh_og (P x)) d ≤ gh_tn (P x) := by
      intro x
      rw [ed]
      exact ⟨fun h => ⟨h, ((at2.2.2.2 x).mp h).2.1⟩, fun h => h.1⟩
    have es : (fun o => gb_x (sn t o) (ct_n (gh_q P ord) o d)) = sn t := by
      funext o
      rw [ed]
      unfold gb_x
      rw [if_neg (by have := at2.2.1 o; omega)]
    refine x_br3 (T1 := T t) (q := (T t).length) I X hf ht hft hd at2.2.2.1 hm1 (fr_X_r t u) ?_ (fun T2 u' a b c => K (T t) T2 u' at2.2.2.1 hm1 a b c)
    rw [es, ed]
    exact Xt
  -- the log
  have Kb : dn t < dn f → hh ≤ dn t → wpX_transferLog (fun u' => ∃ n126 : Nat, ux_bring_126 post (nI f) (nI t) (nI (lr_n (sn t) (sn f) 4)) n126 0 u') u (nI f) (nI t) := by
    intro h hl
    have ed : d = dn f := by rw [hd]; unfold gb_x; rw [if_pos h]
    refine x_tlog (Df := dn f) (Dt := dn t) (ord := ord) hft (by omega) (by omega) ef2 (by omega) hord hs hnd Xt ef1 (fun j h1 h2 => ef5 j (by omega) h2) (fun T1 q1 u1 hsub hm hfr hR => ?_)
    have hp1 := at2.2.2.1.sublist hsub
    have hm1 : ∀ x, x ∈ T1 ↔ x ∈ T t ∧ ct_n (gh_q P ord) (gh_og (P x)) d ≤ gh_tn (P x) := by
      intro x
      rw [hm x, ed]
      constructor
      · rintro ⟨a, b⟩
        refine ⟨a, Nat.le_of_not_lt (fun hlt => ?_)⟩
        obtain ⟨j, hj, ej⟩ := (gh_com H O af1 (hTw x a)).mpr hlt
        by_cases c : dn t ≤ j
        · exact b j c hj ej
        · have h1 := (gh_com H O at1 (hTw x a)).mp ⟨j, by omega, ej⟩
          have h2 := ((at2.2.2.2 x).mp a).2.1
          omega
      · rintro ⟨a, b⟩
        refine ⟨a, fun j h1 h2 ej => ?_⟩
        have h3 := (gh_com H O af1 (hTw x a)).mp ⟨j, h2, ej⟩
        omega
    refine x_br3 (T1 := T1) (q := q1) I X hf ht hft hd hp1 hm1 hfr ?_ (fun T2 u' a b c => K T1 T2 u' hp1 hm1 a b c)
    rw [ed]
    exact hR
  -- the store
  have Kc : dn t < dn f → dn t < hh → wpX_transferState (fun u' => ∃ n126 : Nat, ux_bring_126 post (nI f) (nI t) (nI (lr_n (sn t) (sn f) 4)) n126 0 u') u (nI f) (nI t) := by
    intro h _
    have ed : d = dn f := by rw [hd]; unfold gb_x; rw [if_pos h]
    refine x_tstate (Df := dn f) (Dt := dn t) (ord := ord) (pr := fun x => decide (ct_n (gh_q P ord) (gh_og (P x)) (dn f) ≤ gh_tn (P x))) hft (by omega) (by omega) ef2 hs hTw Xt ef1 Xf.2.2.2.1 Xf.2.2.2.2.2.1 (fun _ => rfl) (fun u1 hfr hR => ?_)
    have hp1 := List.Pairwise.filter (fun x => decide (ct_n (gh_q P ord) (gh_og (P x)) (dn f) ≤ gh_tn (P x))) at2.2.2.1
    have hm1 : ∀ x, x ∈ (T t).filter (fun x => decide (ct_n (gh_q P ord) (gh_og (P x)) (dn f) ≤ gh_tn (P x))) ↔ x ∈ T t ∧ ct_n (gh_q P ord) (gh_og (P x)) d ≤ gh_tn (P x) := by
      intro x
      rw [List.mem_filter, ed, decide_eq_true_eq]
    refine x_br3 (q := 0) I X hf ht hft hd hp1 hm1 hfr ?_ (fun T2 u' a b c => K _ T2 u' hp1 hm1 a b c)
    rw [ed]
    exact hR
  have hN1 := Xt.2.2.2.2.1
  have hN2 := Xf.2.2.2.2.1
  refine ⟨5, ?_⟩
  obtain ⟨f_replicas, f_writes, a_origin, a_turn, a_stamp, a_kindOf, a_cellOf, a_valueOf, a_clock, a_seen, a_fixed, a_done, a_heldFrom, a_trimmed, a_log, a_stableCell, a_nowCell, a_waiting, a_applied, a_tent, a_outcome, a_oldCellA, a_oldValA, a_oldCellB, a_oldValB, a_work⟩ := u
  exact x_br31 (hh := hh) (by omega) (by omega) hN1 hN2 ef1 et1 ef4 ef2 et2 (by omega) Ka Kb Kc 4 0 5 rfl (by omega)
end
section
/-! X: bad, write, commit -/
theorem x_bad1 {post : Int32 → Prop} {u : SX} {nr : Nat} {x : Int32} (h4 : nr ≤ 4) (hr : sx_replicas u = nI nr) (h : x < 0 ∨ nI nr ≤ x) (hp : post 1) : wpX_bad post u x := by
  obtain ⟨f_replicas, f_writes, a_origin, a_turn, a_stamp, a_kindOf, a_cellOf, a_valueOf, a_clock, a_seen, a_fixed, a_done, a_heldFrom, a_trimmed, a_log, a_stableCell, a_nowCell, a_waiting, a_applied, a_tent, a_outcome, a_oldCellA, a_oldValA, a_oldCellB, a_oldValB, a_work⟩ := u
  change f_replicas = nI nr at hr
  unfold wpX_bad
  dsimp only
  rw [hr]
  rcases h with h | h
  · exact br_t h hp
  · exact br_c (fun _ => hp) (fun _ => br_f (Int32.not_lt.mpr h) hp)
theorem x_bad0 {post : Int32 → Prop} {u : SX} {nr r : Nat} (h4 : nr ≤ 4) (hr : sx_replicas u = nI nr) (h : r < nr) (hp : post 0) : wpX_bad post u (nI r) := by
  obtain ⟨f_replicas, f_writes, a_origin, a_turn, a_stamp, a_kindOf, a_cellOf, a_valueOf, a_clock, a_seen, a_fixed, a_done, a_heldFrom, a_trimmed, a_log, a_stableCell, a_nowCell, a_waiting, a_applied, a_tent, a_outcome, a_oldCellA, a_oldValA, a_oldCellB, a_oldValB, a_work⟩ := u
  change f_replicas = nI nr at hr
  unfold wpX_bad
  dsimp only
  rw [hr]
  exact br_f (nI_pos (by omega)) (br_t (nI_lt h (by omega)) hp)
theorem rp_cg {P P' : Nat → gh_W} {ord ord' : Nat → Nat} {r : Nat} {B : Nat → Int32} {T : List Nat} {aa q : Nat} {sn : Nat → Nat} {D ck tr : Nat} {u : SX} (hTP : ∀ x, x ∈ T → P x = P' x) (hO : ∀ i, i < D → ord i = ord' i ∧ P (ord i) = P' (ord i))
    (hR : rp_X P ord r B T aa q sn D ck tr u) : rp_X P' ord' r B T aa q sn D ck tr u := by
  have hq : ∀ i, i < D → P (ord i) = P' (ord' i) := fun i hi => by rw [(hO i hi).2, (hO i hi).1]
  have hrn : ∀ i, rn_l P B (T.take i) = rn_l P' B (T.take i) := fun i => rn_cg _ _ (fun w hw => hTP w (List.mem_of_mem_take hw))
  obtain ⟨hT, hA, ⟨c1, c2, c3⟩, hS, hN, hF, ⟨l1, l2, hh, l3, l4, l5⟩, hK⟩ := hR
  refine ⟨hT, hA, ⟨c1, fun c hc => ?_, fun i x hi hx => ?_⟩, fun c hc => ?_, hN, fun o ho => ?_, ⟨l1, l2, hh, l3, l4, fun i h1 h2 => ?_⟩, hK⟩
  · rw [← hrn]; exact c2 c hc
  · rw [← hTP x (List.mem_of_getElem? hx), ← hrn, ← hrn]; exact c3 i x hi hx
  · rw [← ro_cg D hq]; exact hS c hc
  · rw [← ct_cg (Q := gh_q P ord) (Q' := gh_q P' ord') D hq]; exact hF o ho
  · rw [← (hO i h2).1]; exact l5 i h1 h2
/-- the record of a new write -/
abbrev wr_p (P : Nat → gh_W) (ck : Nat → Nat) (r nw kd ce : Nat) (v : Int32) : gh_W := (r, ct_n P r nw, ck r + 1, kd, ce, v)
section wr2
variable {f_replicas f_writes : Int32} {a_origin a_turn a_stamp a_kindOf a_cellOf a_valueOf a_clock a_seen a_fixed a_done a_heldFrom a_trimmed a_log a_stableCell a_nowCell a_waiting a_applied a_tent a_outcome a_oldCellA a_oldValA a_oldCellB a_oldValB a_work : Nat → Int32}
theorem x_write2 {nw n1 : Nat} {P : Nat → gh_W} {ord : Nat → Nat} {r : Nat} {B : Nat → Int32} {T : List Nat} {q : Nat} {sn : Nat → Nat} {D ck tr : Nat} {post : Int32 → SX → Prop} (hr : r < 4) (hs : cx_a nw P a_origin a_turn a_stamp a_kindOf a_cellOf a_valueOf) (hTw : ∀ x, x ∈ T → x < nw) (hsr : sn r + 1 ≤ 48)
    (hR : rp_X P ord r B T q q sn D ck tr (f_replicas, f_writes, a_origin, a_turn, a_stamp, a_kindOf, a_cellOf, a_valueOf, a_clock, a_seen, a_fixed, a_done, a_heldFrom, a_trimmed, a_log, a_stableCell, a_nowCell, a_waiting, a_applied, a_tent, a_outcome, a_oldCellA, a_oldValA, a_oldCellB, a_oldValB, a_work)) (K : ∀ u', fr_X r (f_replicas, f_writes, a_origin, a_turn, a_stamp, a_kindOf, a_cellOf, a_valueOf, a_clock, a_seen, a_fixed, a_done, a_heldFrom, a_trimmed, a_log, a_stableCell, a_nowCell, a_waiting, a_applied, a_tent, a_outcome, a_oldCellA, a_oldValA, a_oldCellB, a_oldValB, a_work) u' → rp_X P ord r B T T.length T.length (gh_u sn r (sn r + 1)) D ck tr u' → post (nI n1) u') :
    vp_in (nI (r * 4 + r)) 16 ∧ (vp_in (nI (r * 4 + r)) 16 ∧ ∀ se : Nat → Int32, se = upd a_seen (r * 4 + r) (a_seen (r * 4 + r) + 1) → wpX_applyAll (fun u => post (nI n1) u) (f_replicas, f_writes, a_origin, a_turn, a_stamp, a_kindOf, a_cellOf, a_valueOf, a_clock, se, a_fixed, a_done, a_heldFrom, a_trimmed, a_log, a_stableCell, a_nowCell, a_waiting, a_applied, a_tent, a_outcome, a_oldCellA, a_oldValA, a_oldCellB, a_oldValB, a_work) (nI r)) := by
  obtain ⟨hT, hA, hC, hS, hN, hF, hL, hK⟩ := hR
  change rp_T _ _ a_waiting a_tent at hT
  change rp_A _ _ a_applied at hA
  change rp_C _ _ _ _ _ a_nowCell a_outcome a_oldCellA a_oldValA a_oldCellB a_oldValB at hC
  change rp_S _ _ _ _ a_stableCell at hS
  change rp_n _ _ a_seen at hN
  change rp_f _ _ _ _ a_fixed at hF
  change rp_L _ _ _ a_done a_heldFrom a_log at hL
  change rp_K _ _ _ a_clock a_trimmed at hK
  have i6 : vp_in (nI (r * 4 + r)) 16 := vp_in_nI (by omega) (by omega)
  rw [(hN r hr).1, nI_1]
  refine ⟨i6, i6, nm_e ?_⟩
  refine x_apA (nw := nw) (P := P) (ord := ord) (B := B) (T := T) (q := q) (sn := gh_u sn r (sn r + 1)) (D := D) (ck := ck) (tr := tr) hr hTw hs ⟨hT, hA, hC, hS, fun o ho => ?_, hF, hL, hK⟩ (fun u3 hf3 hR3 => K u3 (fr_X_t2 hf3 ⟨@rfl _ f_replicas, @rfl _ f_writes, @rfl _ a_origin, @rfl _ a_turn, @rfl _ a_stamp, @rfl _ a_kindOf, @rfl _ a_cellOf, @rfl _ a_valueOf, @fr_ag_r _ _ a_clock, fr_ag_u (a := a_seen) hr, @fr_ag_r _ _ a_fixed, @fr_ag_r _ _ a_done, @fr_ag_r _ _ a_heldFrom, @fr_ag_r _ _ a_trimmed, @fr_ag_r _ _ a_log, @fr_ag_r _ _ a_stableCell, @fr_ag_r _ _ a_nowCell, @fr_ag_r _ _ a_waiting, @fr_ag_r _ _ a_applied, @fr_ag_r _ _ a_tent, @fr_ag_r _ _ a_outcome, @fr_ag_r _ _ a_oldCellA, @fr_ag_r _ _ a_oldValA, @fr_ag_r _ _ a_oldCellB, @fr_ag_r _ _ a_oldValB⟩) hR3)
  show upd a_seen (r * 4 + r) (nI (sn r + 1)) (r * 4 + o) = nI (gh_u sn r (sn r + 1) o) ∧ gh_u sn r (sn r + 1) o ≤ 48
  by_cases e : o = r
  · subst e
    rw [pk_us, gh_us]
    exact ⟨rfl, hsr⟩
  · rw [pk_un (by omega), gh_un e]; exact hN o ho
end wr2
theorem x_write {nr nw : Nat} {P : Nat → gh_W} {ord : Nat → Nat} {T : Nat → List Nat} {sn : Nat → Nat → Nat} {dn ck tr : Nat → Nat} {u : SX} {r kd ce : Nat} {v : Int32} {post : Int32 → SX → Prop}
    (I : gh_inv nr nw P ord T sn dn ck tr) (X : rx_X nr nw P ord T sn dn ck tr u) (hr : r < nr) (hnw : nw < 48) (hkd : kd ≤ 5) (hce : ce < 8)
    (K : ∀ (T' : List Nat) (u' : SX), T'.Pairwise (gh_lt (gh_u P nw (wr_p P ck r nw kd ce v))) → (∀ x, x ∈ T' ↔ x = nw ∨ x ∈ T r) →
      rx_X nr (nw + 1) (gh_u P nw (wr_p P ck r nw kd ce v)) ord (gh_u T r T') (gh_u sn r (gh_u (sn r) r (sn r r + 1))) dn (gh_u ck r (ck r + 1)) tr u' → post (nI nw) u') :
    wpX_write post u (nI r) (nI kd) (nI ce) v := by
  obtain ⟨H, O, R⟩ := I
  have h4 := H.2.1
  obtain ⟨ar1, ar2, ar3, ar4⟩ := R r hr
  have hckr := H.2.2.2.2.2 r hr
  have H' : gh_ok nr (nw + 1) (gh_u P nw (wr_p P ck r nw kd ce v)) (gh_u ck r (ck r + 1)) := gh_w_ok H hnw hr rfl rfl rfl hkd hce
  have hTw : ∀ x, x ∈ T r → x < nw := fun x hx => gh_Tlt ar2 hx
  have hlen : (T r).length ≤ nw := gh_Tlen ar2
  have hnT : ¬ nw ∈ T r := fun h => by have := hTw nw h; omega
  generalize hp : wr_p P ck r nw kd ce v = p at *
  have hpP : gh_u P nw p nw = p := gh_us
  have hP' : ∀ w, w < nw → P w = gh_u P nw p w := fun w hw => (gh_wP hw).symm
  have hsort : (T r).Pairwise (gh_lt (gh_u P nw p)) := List.Pairwise.imp_of_mem (fun {x y} hx hy hxy => (gh_wlt (hTw x hx) (hTw y hy)).mpr hxy) ar2.2.2.1
  -- the replicas' slices, over the new records
  have XR : ∀ r', r' < nr → rp_X (gh_u P nw p) ord r' (ro_s (gh_u P nw p) ord (dn r')) (T r') (T r').length (T r').length (sn r') (dn r') (ck r') (tr r') u := by
    intro r' hr'
    obtain ⟨b1, b2, b3, b4⟩ := R r' hr'
    have eB : ro_s (gh_u P nw p) ord (dn r') = ro_s P ord (dn r') := (ro_cg (dn r') (fun i hi => hP' _ (O i (by omega)).1)).symm
    rw [eB]
    exact rp_cg (fun x hx => hP' x (gh_Tlt b2 hx)) (fun i hi => ⟨rfl, hP' _ (O i (by omega)).1⟩) (X.2.2.2 r' hr')
  obtain ⟨x1, x2, x3, x4⟩ := X
  have hR := XR r hr
  obtain ⟨f_replicas, f_writes, a_origin, a_turn, a_stamp, a_kindOf, a_cellOf, a_valueOf, a_clock, a_seen, a_fixed, a_done, a_heldFrom, a_trimmed, a_log, a_stableCell, a_nowCell, a_waiting, a_applied, a_tent, a_outcome, a_oldCellA, a_oldValA, a_oldCellB, a_oldValB, a_work⟩ := u
  change f_replicas = nI nr at x1
  change f_writes = nI nw at x2
  change cx_a nw P a_origin a_turn a_stamp a_kindOf a_cellOf a_valueOf at x3
  obtain ⟨hT, hA, hC, hS, hN, hF, hL, hK⟩ := hR
  change rp_T _ _ a_waiting a_tent at hT
  change rp_A _ _ a_applied at hA
  change rp_C _ _ _ _ _ a_nowCell a_outcome a_oldCellA a_oldValA a_oldCellB a_oldValB at hC
  change rp_S _ _ _ _ a_stableCell at hS
  change rp_n _ _ a_seen at hN
  change rp_f _ _ _ _ a_fixed at hF
  change rp_L _ _ _ a_done a_heldFrom a_log at hL
  change rp_K _ _ _ a_clock a_trimmed at hK
  subst x2
  have hseen := hN r (by omega)
  -- the state after the write's own data
  have hs1 : cx_a (nw + 1) (gh_u P nw p) (upd a_origin nw (nI r)) (upd a_turn nw (nI (sn r r))) (upd a_stamp nw (nI (ck r + 1))) (upd a_kindOf nw (nI kd)) (upd a_cellOf nw (nI ce)) (upd a_valueOf nw v) := by
    refine ⟨by omega, fun w hw => ?_⟩
    rcases Nat.lt_or_ge w nw with c | c
    · rw [gh_wP c, pk_un (by omega), pk_un (by omega), pk_un (by omega), pk_un (by omega), pk_un (by omega), pk_un (by omega)]
      exact x3.2 w c
    · have e : w = nw := by omega
      subst e
      rw [hpP, pk_us, pk_us, pk_us, pk_us, pk_us, pk_us, ← hp]
      have := ct_le P r w
      exact ⟨⟨by show r < 4; omega, by show ct_n P r w < 48; omega, by show ck r + 1 ≤ 48; omega, hkd, hce⟩, rfl, by rw [ar3]; rfl, rfl, rfl, rfl, rfl⟩
  have i4 : vp_in (nI r) 4 := vp_in_nI (by omega) (by omega)
  have i5 : vp_in (nI nw) 48 := vp_in_nI (by omega) (by omega)
  have i6 : vp_in (nI (r * 4 + r)) 16 := vp_in_nI (by omega) (by omega)
  unfold wpX_write
  dsimp only
  refine x_bad0 (nr := nr) h4 x1 hr (br_t rfl (br_f (nI_pos (by omega)) (br_t (nI_le (b := 5) hkd (by omega)) (br_f (nI_pos (by omega)) (br_t (nI_le (b := 7) (by omega) (by omega)) (br_t (nI_lt (b := 48) hnw (by omega)) ?_))))))
  rw [ix_4, nI_clamp (n := r) (by omega), nI_clamp (n := nw) (by omega), nI_clamp (n := r * 4 + r) (by omega), hK.1, hseen.1, nI_1, nI_1]
  refine ⟨i4, i4, nm_e ⟨i5, nm_e ⟨i6, i5, nm_e ⟨i4, i5, nm_r (e' := upd a_stamp nw (nI (ck r + 1))) (by rw [pk_us]) ⟨i5, nm_e ⟨i5, nm_e ⟨i5, nm_e (nm_e ?_)⟩⟩⟩⟩⟩⟩⟩
  refine x_ins (u := (f_replicas, nI (nw + 1), upd a_origin nw (nI r), upd a_turn nw (nI (sn r r)), upd a_stamp nw (nI (ck r + 1)), upd a_kindOf nw (nI kd), upd a_cellOf nw (nI ce), upd a_valueOf nw v, upd a_clock r (nI (ck r + 1)), a_seen, a_fixed, a_done, a_heldFrom, a_trimmed, a_log, a_stableCell, a_nowCell, a_waiting, a_applied, a_tent, a_outcome, a_oldCellA, a_oldValA, a_oldCellB, a_oldValB, a_work)) (nw := nw + 1) (P := gh_u P nw p) (ord := ord) (B := ro_s (gh_u P nw p) ord (dn r)) (T := T r) (q := (T r).length) (sn := sn r) (D := dn r) (ck := ck r + 1) (tr := tr r) (by omega) hs1 (by omega) (by omega) (fun x hx => by have := hTw x hx; omega) ⟨hT, hA, hC, hS, hN, hF, hL, ⟨pk_us, by omega, hK.2.2⟩⟩ (fun p' u2 hp1 hp2 hp3 hf2 hR2 => ?_)
  have hpw := so_ins H' hsort (fun x hx => by have := hTw x hx; omega) (by omega) hnT hp1 hp2 hp3
  have hs2 : cx_s (nw + 1) (gh_u P nw p) u2 := cx_fr hf2 hs1
  have e1 : sx_replicas u2 = nI nr := hf2.1.trans x1
  have e2 : sx_writes u2 = nI (nw + 1) := hf2.2.1
  have XR2 : ∀ r', r' < nr → r' ≠ r → rp_X (gh_u P nw p) ord r' (ro_s (gh_u P nw p) ord (dn r')) (T r') (T r').length (T r').length (sn r') (dn r') (ck r') (tr r') u2 := by
    clear hT hA hC hS hN hF hL hK
    intro r' hr' hne
    have hR := XR r' hr'
    obtain ⟨hT, hA, hC, hS, hN, hF, hL, hK⟩ := hR
    change rp_T _ _ a_waiting a_tent at hT
    change rp_A _ _ a_applied at hA
    change rp_C _ _ _ _ _ a_nowCell a_outcome a_oldCellA a_oldValA a_oldCellB a_oldValB at hC
    change rp_S _ _ _ _ a_stableCell at hS
    change rp_n _ _ a_seen at hN
    change rp_f _ _ _ _ a_fixed at hF
    change rp_L _ _ _ a_done a_heldFrom a_log at hL
    change rp_K _ _ _ a_clock a_trimmed at hK
    exact rp_fr hf2 hne ⟨hT, hA, hC, hS, hN, hF, hL, ⟨(pk_un hne).trans hK.1, hK.2⟩⟩
  have KK : ∀ u3, fr_X r u2 u3 → rp_X (gh_u P nw p) ord r (ro_s (gh_u P nw p) ord (dn r)) ((T r).take p' ++ nw :: (T r).drop p') ((T r).take p' ++ nw :: (T r).drop p').length ((T r).take p' ++ nw :: (T r).drop p').length (gh_u (sn r) r (sn r r + 1)) (dn r) (ck r + 1) (tr r) u3 → post (nI nw) u3 := by
    intro u3 hf3 hR3
    refine K _ u3 hpw (fun x => so_ins_mem) ⟨hf3.1.trans e1, hf3.2.1.trans e2, cx_fr hf3 hs2, fun r' hr' => ?_⟩
    by_cases e : r' = r
    · subst e
      rw [gh_us, gh_us, gh_us]
      exact hR3
    · rw [gh_un e, gh_un e, gh_un e]
      exact rp_fr hf3 e (XR2 r' hr' e)
  have hsr : sn r r + 1 ≤ 48 := by
    have := ct_le P r nw
    omega
  clear XR2 hf2 e1 e2 K
  obtain ⟨f_replicas2, f_writes2, a_origin2, a_turn2, a_stamp2, a_kindOf2, a_cellOf2, a_valueOf2, a_clock2, a_seen2, a_fixed2, a_done2, a_heldFrom2, a_trimmed2, a_log2, a_stableCell2, a_nowCell2, a_waiting2, a_applied2, a_tent2, a_outcome2, a_oldCellA2, a_oldValA2, a_oldCellB2, a_oldValB2, a_work2⟩ := u2
  exact x_write2 (nw := nw + 1) (by omega) hs2 (fun x hx => by
    rcases so_ins_mem.mp hx with e | e
    · omega
    · have := hTw x e; omega) hsr hR2 KK
/-- the committed order after the writes of a list -/
def cm_o (ord : Nat → Nat) : Nat → List Nat → Nat → Nat
  | _, [] => ord
  | d, w :: l => cm_o (gh_u ord d w) (d + 1) l
theorem gh_uu {α : Type} {f : Nat → α} {k : Nat} {x y : α} : gh_u (gh_u f k x) k y = gh_u f k y := by
  funext j
  by_cases e : j = k
  · rw [e, gh_us, gh_us]
  · rw [gh_un e, gh_un e, gh_un e]
theorem gh_ui {α : Type} {f : Nat → α} {k : Nat} {x : α} (h : f k = x) : gh_u f k x = f := by
  funext j
  by_cases e : j = k
  · rw [e, gh_us, h]
  · rw [gh_un e]
theorem x_com {nr nw : Nat} {P : Nat → gh_W} {sn : Nat → Nat → Nat} {ck tr : Nat → Nat} {v : Int32} {R : List Nat} {post : Int32 → SX → Prop} :
    ∀ (C : List Nat) (ord : Nat → Nat) (T : Nat → List Nat) (dn : Nat → Nat) (j : Nat) (u : SX), gh_inv nr nw P ord T sn dn ck tr → rx_X nr nw P ord T sn dn ck tr u → T 0 = C ++ R →
      (∀ i, i < C.length → ¬ v ≤ nI (j + i)) → (R = [] ∨ v ≤ nI (j + C.length)) →
      (∀ u', rx_X nr nw P (cm_o ord (dn 0) C) (gh_u T 0 R) sn (gh_u dn 0 (dn 0 + C.length)) ck tr u' → post (nI (j + C.length)) u') → ux_commit_2 post v (C.length + 1) (nI j) u := by
  intro C
  induction C with
  | nil =>
    intro ord T dn j u I X hT h1 h2 K
    have hT0 : T 0 = R := hT
    have G := K u (by
      rw [gh_ui hT0, gh_ui (show dn 0 = dn 0 + ([] : List Nat).length from rfl)]
      exact X)
    have h0 : 0 < nr := by have := I.1.1; omega
    have hwt := (X.2.2.2 0 h0).1.1
    obtain ⟨f_replicas, f_writes, a_origin, a_turn, a_stamp, a_kindOf, a_cellOf, a_valueOf, a_clock, a_seen, a_fixed, a_done, a_heldFrom, a_trimmed, a_log, a_stableCell, a_nowCell, a_waiting, a_applied, a_tent, a_outcome, a_oldCellA, a_oldValA, a_oldCellB, a_oldValB, a_work⟩ := u
    change a_waiting 0 = nI (T 0).length at hwt
    unfold ux_commit_2
    dsimp only
    rw [wX_commit_2]
    dsimp only
    rw [hwt]
    refine br_c (fun _ => G) (fun hn => br_t ?_ G)
    rcases h2 with h2 | h2
    · rw [hT0, h2]; decide
    · exact absurd h2 hn
  | cons w C ih =>
    intro ord T dn j u I X hT h1 h2 K
    have h0 : 0 < nr := by have := I.1.1; omega
    have h4 := I.1.2.1
    have I' := gh_c_inv I hT
    obtain ⟨H, O, Rr⟩ := I
    obtain ⟨a1, a2, a3, a4⟩ := Rr 0 h0
    have hTw : ∀ x, x ∈ T 0 → x < nw := fun x hx => gh_Tlt a2 hx
    have hwm : w ∈ T 0 := by rw [hT]; exact List.mem_cons_self
    have hw : w < nw := hTw w hwm
    have hD : dn 0 < 48 := Nat.lt_of_lt_of_le (gh_Dlt H O (Nat.le_refl _) a2 hwm) H.2.2.1
    have hro : ∀ r, r < nr → ro_s P (gh_u ord (dn 0) w) (dn r) = ro_s P ord (dn r) := fun r hr => gh_c_ro (Rr r hr).1
    have XR : ∀ r, r < nr → rp_X P (gh_u ord (dn 0) w) r (ro_s P (gh_u ord (dn 0) w) (dn r)) (T r) (T r).length (T r).length (sn r) (dn r) (ck r) (tr r) u := by
      intro r hr
      rw [hro r hr]
      have hle := (Rr r hr).1
      exact rp_cg (fun _ _ => rfl) (fun i hi => ⟨(gh_un (by omega)).symm, rfl⟩) (X.2.2.2 r hr)
    have A := x_fix (u := u) (r := 0) (w := w) (post := fun u' => ∀ x2_30 : Int32, x2_30 = nI j + 1 → ux_commit_2 post v (C.length + 1) x2_30 u') (by omega) X.2.2.1 hw gh_us hD (so_nd a2.2.2.1) (XR 0 h0)
      (fun T' q' u' _ _ h3 hf hR' => nm_r (nI_1 j) (by
        obtain ⟨e1, e2⟩ := h3 (C ++ R) hT rfl
        subst e1 e2
        refine ih (gh_u ord (dn 0) w) (gh_u T 0 (C ++ R)) (gh_u dn 0 (dn 0 + 1)) (j + 1) u' I' ⟨hf.1.trans X.1, hf.2.1.trans X.2.1, cx_fr hf X.2.2.1, fun r hr => ?_⟩ gh_us (fun i hi => ?_) ?_ (fun u2 X2 => ?_)
        · by_cases e : r = 0
          · subst e
            rw [gh_us, gh_us]
            exact hR'
          · rw [gh_un e, gh_un e]
            exact rp_fr hf e (XR r hr)
        · have := h1 (i + 1) (by rw [List.length_cons]; omega)
          rw [show j + 1 + i = j + (i + 1) by omega]; exact this
        · rw [List.length_cons] at h2
          rw [show j + 1 + C.length = j + (C.length + 1) by omega]; exact h2
        · rw [gh_us, gh_uu, gh_uu, show dn 0 + 1 + C.length = dn 0 + (w :: C).length by rw [List.length_cons]; omega] at X2
          have G := K u2 X2
          rw [List.length_cons] at G
          rw [show j + 1 + C.length = j + (C.length + 1) by omega]; exact G))
    have hR := X.2.2.2 0 h0
    have hwt := hR.1.1
    have hl : 0 < (T 0).length := by rw [hT]; exact Nat.succ_pos _
    have hte := hR.1.2.2.2 0 w (by rw [hT]; rfl)
    have hl48 := hR.1.2.1
    obtain ⟨f_replicas, f_writes, a_origin, a_turn, a_stamp, a_kindOf, a_cellOf, a_valueOf, a_clock, a_seen, a_fixed, a_done, a_heldFrom, a_trimmed, a_log, a_stableCell, a_nowCell, a_waiting, a_applied, a_tent, a_outcome, a_oldCellA, a_oldValA, a_oldCellB, a_oldValB, a_work⟩ := u
    change a_waiting 0 = nI (T 0).length at hwt
    change a_tent 0 = nI w at hte
    unfold ux_commit_2
    dsimp only
    rw [wX_commit_2]
    dsimp only
    rw [hwt, hte]
    exact br_f (h1 0 (Nat.succ_pos _)) (br_f (nI_nle hl (by omega)) A)
end
section
/-! Y: carryOut, firstLeft -/
abbrev cy_a (nw : Nat) (P : Nat → gh_W) (oo os ok oc ov : Nat → Int32) : Prop :=
  nw ≤ 48 ∧ ∀ w, w < nw → (gh_og (P w) < 4 ∧ gh_tn (P w) < 48 ∧ gh_st (P w) ≤ 48 ∧ gh_kd (P w) ≤ 5 ∧ gh_ce (P w) < 8) ∧
    oo w = nI (gh_og (P w)) ∧ os w = nI (gh_st (P w)) ∧ ok w = nI (gh_kd (P w)) ∧ oc w = nI (gh_ce (P w)) ∧ ov w = gh_va (P w)
section yca
variable {f_replicas f_writes f_committed : Int32} {a_origin a_stamp a_kind a_cellOf a_valueOf a_knows a_order a_m a_clock a_trimmed a_store a_stands : Nat → Int32}
theorem y_claim {post : Int32 → SY → Prop} {c : Nat} {v : Int32} (hc : c < 8) :
    ∀ m i n, i + m = 8 → m < n → post (ca_cl c v a_store m i).1 (f_replicas, f_writes, f_committed, a_origin, a_stamp, a_kind, a_cellOf, a_valueOf, a_knows, a_order, a_m, a_clock, a_trimmed, (ca_cl c v a_store m i).2, a_stands) → wY_claim_2 post (nI c) v f_replicas f_writes f_committed a_origin a_stamp a_kind a_cellOf a_valueOf a_knows a_order a_m a_clock a_trimmed a_store a_stands n (nI i) := by
  intro m
  induction m with
  | zero =>
    intro i n hi hn hp
    obtain ⟨n, rfl⟩ : ∃ k, n = k + 1 := ⟨n - 1, by omega⟩
    rw [wY_claim_2]
    exact pk_le 8 i (fun _ => hp) (fun h => by omega)
  | succ m ih =>
    intro i n hi hn hp
    obtain ⟨n, rfl⟩ : ∃ k, n = k + 1 := ⟨n - 1, by omega⟩
    have h8 : (c + i) % 8 < 8 := Nat.mod_lt _ (by decide)
    have hin : vp_in (nI ((c + i) % 8)) 8 := vp_in_nI h8 (by omega)
    rw [wY_claim_2]
    dsimp only
    rw [ix_a7 (by omega), nI_clamp (n := (c + i) % 8) (by omega)]
    refine pk_le 8 i (fun h => by omega) (fun h => ?_)
    by_cases z : a_store ((c + i) % 8) = 0
    · rw [ca_cl1 z] at hp
      refine ⟨hin, br_t z ⟨hin, nm_e (pk_eq i 0 (fun e => ?_) (fun e => ?_))⟩⟩
      · rw [if_pos e] at hp; exact hp
      · rw [if_neg e] at hp; exact hp
    · rw [ca_cl2 z] at hp
      exact ⟨hin, br_f z (nm_r (nI_1 i) (ih (i + 1) n (by omega) (by omega) hp))⟩
theorem y_carry {nw : Nat} {P : Nat → gh_W} {w : Nat} {post : Int32 → SY → Prop} (hs : cy_a nw P a_origin a_stamp a_kind a_cellOf a_valueOf) (hw : w < nw)
    (hp : post (ca_do (P w) a_store).1 (f_replicas, f_writes, f_committed, a_origin, a_stamp, a_kind, a_cellOf, a_valueOf, a_knows, a_order, a_m, a_clock, a_trimmed, (ca_do (P w) a_store).2, a_stands)) : wpY_carryOut post (f_replicas, f_writes, f_committed, a_origin, a_stamp, a_kind, a_cellOf, a_valueOf, a_knows, a_order, a_m, a_clock, a_trimmed, a_store, a_stands) (nI w) := by
  obtain ⟨h48, hws⟩ := hs
  obtain ⟨⟨_, _, _, k5, c8⟩, _, _, ekd, ece, eva⟩ := hws w hw
  have n8 := ca_nx8 (P w)
  have i1 : vp_in (nI w) 48 := vp_in_nI (by omega) (by omega)
  have i2 : vp_in (nI (gh_ce (P w))) 8 := vp_in_nI c8 (by omega)
  have i3 : vp_in (nI (ca_nx (P w))) 8 := vp_in_nI n8 (by omega)
  unfold wpY_carryOut
  dsimp only
  rw [nI_clamp (n := w) (by omega), ece, eva, ekd]
  refine ⟨i1, nm_e (nm_r (e' := nI (ca_nx (P w))) (ix_a71 (by omega)) ⟨i1, nm_e ⟨i2, ?_⟩⟩)⟩
  rw [nI_clamp (n := gh_ce (P w)) (by omega), nI_clamp (n := ca_nx (P w)) (by omega)]
  refine nm_e ⟨i1, ?_⟩
  by_cases k0 : gh_kd (P w) = 0
  · have ed : ca_do (P w) a_store = (2, upd a_store (gh_ce (P w)) (gh_va (P w))) := by simp only [ca_do, if_pos k0]
    rw [ed] at hp
    rw [k0]
    exact br_t (by decide) ⟨i2, nm_e hp⟩
  by_cases k1 : gh_kd (P w) = 1
  · have ed : ca_do (P w) a_store = (2, upd a_store (gh_ce (P w)) (a_store (gh_ce (P w)) + gh_va (P w))) := by simp only [ca_do, if_neg k0, if_pos k1]
    rw [ed] at hp
    rw [k1]
    exact br_f (by decide) ⟨i1, br_t (by decide) ⟨i2, nm_e hp⟩⟩
  by_cases k2 : gh_kd (P w) = 2
  · rw [k2]
    refine br_f (by decide) ⟨i1, br_f (by decide) ⟨i1, br_f (by decide) ⟨i1, br_f (by decide) ?_⟩⟩⟩
    refine br_c (fun a => ⟨i1, br_t (by decide) ⟨i3, br_c (fun b => ?_) (fun b => ⟨i3, i3, nm_e ?_⟩)⟩⟩) (fun a => ⟨i2, nm_e ⟨i1, br_f (by decide) ?_⟩⟩)
    · have ed : ca_do (P w) a_store = (4, a_store) := by simp only [ca_do, if_neg k0, if_neg k1, if_pos k2, if_pos a, if_pos b]
      rw [ed] at hp; exact hp
    · have ed : ca_do (P w) a_store = (3, upd a_store (ca_nx (P w)) (a_store (ca_nx (P w)) - gh_va (P w))) := by simp only [ca_do, if_neg k0, if_neg k1, if_pos k2, if_pos a, if_neg b]
      rw [ed] at hp; exact hp
    · have ed : ca_do (P w) a_store = (2, upd a_store (gh_ce (P w)) (a_store (gh_ce (P w)) - gh_va (P w))) := by simp only [ca_do, if_neg k0, if_neg k1, if_pos k2, if_neg a]
      rw [ed] at hp; exact hp
  by_cases k3 : gh_kd (P w) = 3
  · rw [k3]
    refine br_f (by decide) ⟨i1, br_f (by decide) ⟨i1, br_f (by decide) ⟨i1, br_f (by decide) ?_⟩⟩⟩
    refine br_c (fun a => ⟨i1, br_f (by decide) ?_⟩) (fun a => ⟨i2, nm_e ⟨i1, br_t (by decide) ⟨i3, i3, nm_e ?_⟩⟩⟩)
    · have ed : ca_do (P w) a_store = (4, a_store) := by simp only [ca_do, if_neg k0, if_neg k1, if_neg k2, if_pos k3, if_pos a]
      rw [ed] at hp; exact hp
    · have ed : ca_do (P w) a_store = (2, upd (upd a_store (gh_ce (P w)) (a_store (gh_ce (P w)) - gh_va (P w))) (ca_nx (P w)) (upd a_store (gh_ce (P w)) (a_store (gh_ce (P w)) - gh_va (P w)) (ca_nx (P w)) + gh_va (P w))) := by simp only [ca_do, if_neg k0, if_neg k1, if_neg k2, if_pos k3, if_neg a]
      rw [ed] at hp; exact hp
  by_cases k4 : gh_kd (P w) = 4
  · rw [k4]
    refine br_f (by decide) ⟨i1, br_f (by decide) ⟨i1, br_f (by decide) ⟨i1, br_t (by decide) ?_⟩⟩⟩
    have ed : ca_do (P w) a_store = ca_cl (gh_ce (P w)) (gh_va (P w)) a_store 8 0 := by simp only [ca_do, if_neg k0, if_neg k1, if_neg k2, if_neg k3, if_pos k4]
    rw [ed] at hp
    unfold wpY_claim
    dsimp only
    exact ⟨9, y_claim c8 8 0 9 rfl (by omega) hp⟩
  · have k5' : gh_kd (P w) = 5 := by omega
    rw [k5']
    have ed : ca_do (P w) a_store = (2, upd (upd a_store (gh_ce (P w)) (a_store (ca_nx (P w)))) (ca_nx (P w)) (a_store (gh_ce (P w)))) := by simp only [ca_do, if_neg k0, if_neg k1, if_neg k2, if_neg k3, if_neg k4]
    rw [ed] at hp
    exact br_f (by decide) ⟨i1, br_f (by decide) ⟨i1, br_t (by decide) ⟨i3, i2, nm_e ⟨i3, nm_e hp⟩⟩⟩⟩
/-- the first of the sorted list of those that are left -/
theorem y_fl {nr nw : Nat} {P : Nat → gh_W} {ck : Nat → Nat} {L : List Nat} {r : Nat} {post : Int32 → Prop} (H : gh_ok nr nw P ck) (hr : r < 4) (hwr : f_writes = nI nw) (hs : cy_a nw P a_origin a_stamp a_kind a_cellOf a_valueOf)
    (hL : ∀ w, w < nw → ((¬ a_knows (r * 48 + w) = 0 ∧ a_stands w = 0) ↔ w ∈ L)) (hLw : ∀ w, w ∈ L → w < nw) (hp : L.Pairwise (gh_lt P))
    (K0 : L = [] → post (-1)) (K1 : ∀ w l, L = w :: l → post (nI w)) :
    ∀ m i n bst, i + m = nw → m < n → ((bst = -1 ∧ ∀ x, x ∈ L → i ≤ x) ∨ ∃ b, bst = nI b ∧ b ∈ L ∧ b < i ∧ ∀ x, x ∈ L → x < i → x = b ∨ gh_lt P b x) → wY_firstLeft_4 post (nI r) f_replicas f_writes f_committed a_origin a_stamp a_kind a_cellOf a_valueOf a_knows a_order a_m a_clock a_trimmed a_store a_stands n bst (nI i) := by
  obtain ⟨h48, hws⟩ := hs
  subst hwr
  intro m
  induction m with
  | zero =>
    intro i n bst hi hn h
    obtain ⟨n, rfl⟩ : ∃ k, n = k + 1 := ⟨n - 1, by omega⟩
    rw [wY_firstLeft_4]
    refine br_t (nI_le (by omega) (by omega)) ?_
    rcases h with ⟨e, h⟩ | ⟨b, e, hb, hbi, h⟩
    · rw [e]
      refine K0 ?_
      cases L with
      | nil => rfl
      | cons x l =>
        have h1 := h x List.mem_cons_self
        have h2 := hLw x List.mem_cons_self
        omega
    · rw [e]
      cases L with
      | nil => exact absurd hb List.not_mem_nil
      | cons x l =>
        have hx := hLw x List.mem_cons_self
        rcases h x List.mem_cons_self (by omega) with c | c
        · rw [← c]; exact K1 x l rfl
        · exfalso
          rcases List.mem_cons.mp hb with d | d
          · rw [d] at c; exact gh_lt_ir c
          · exact gh_lt_as c ((List.pairwise_cons.mp hp).1 b d)
  | succ m ih =>
    intro i n bst hi hn h
    obtain ⟨n, rfl⟩ : ∃ k, n = k + 1 := ⟨n - 1, by omega⟩
    have hin : i < nw := by omega
    obtain ⟨⟨a1, a2, a3, _⟩, e1, e2, _⟩ := hws i hin
    -- not in the list: passed over
    have skip : ¬ i ∈ L → ∀ x3 : Int32, x3 = nI i + 1 → wY_firstLeft_4 post (nI r) f_replicas (nI nw) f_committed a_origin a_stamp a_kind a_cellOf a_valueOf a_knows a_order a_m a_clock a_trimmed a_store a_stands n bst x3 := by
      intro hni
      refine nm_r (nI_1 i) (ih (i + 1) n bst (by omega) (by omega) ?_)
      rcases h with ⟨e, h⟩ | ⟨b, e, hb, hbi, h⟩
      · refine Or.inl ⟨e, fun x hx => ?_⟩
        have := h x hx
        have : x ≠ i := fun ex => hni (ex ▸ hx)
        omega
      · refine Or.inr ⟨b, e, hb, by omega, fun x hx hxi => ?_⟩
        have : x ≠ i := fun ex => hni (ex ▸ hx)
        exact h x hx (by omega)
    have ii : vp_in (nI i) 48 := vp_in_nI (by omega) (by omega)
    rw [wY_firstLeft_4]
    dsimp only
    rw [ix_48, nI_clamp (n := r * 48 + i) (by omega), nI_clamp (n := i) (by omega), e1, e2]
    refine br_f (nI_ge hin (by omega)) ⟨vp_in_nI (by omega) (by omega), br_c (fun k0 => skip (fun hm => ((hL i hin).mpr hm).1 k0)) (fun k1 => ⟨ii, br_c (fun s0 => ?_) (fun s1 => skip (fun hm => s1 ((hL i hin).mpr hm).2))⟩)⟩
    have him : i ∈ L := (hL i hin).mp ⟨k1, s0⟩
    rcases h with ⟨e, h⟩ | ⟨b, e, hb, hbi, h⟩
    · refine br_t (by rw [e]; decide) (nm_r (nI_1 i) (ih (i + 1) n (nI i) (by omega) (by omega) (Or.inr ⟨i, rfl, him, by omega, fun x hx hxi => ?_⟩)))
      have := h x hx
      exact Or.inl (by omega)
    · have hbw := hLw b hb
      obtain ⟨⟨b1, b2, b3, _⟩, f1, f2, _⟩ := hws b hbw
      have ib : vp_in (nI b) 48 := vp_in_nI (by omega) (by omega)
      subst e
      rw [nI_clamp (n := b) (by omega), f1, f2]
      have take : gh_lt P i b → ∀ x3 : Int32, x3 = nI i + 1 → wY_firstLeft_4 post (nI r) f_replicas (nI nw) f_committed a_origin a_stamp a_kind a_cellOf a_valueOf a_knows a_order a_m a_clock a_trimmed a_store a_stands n (nI i) x3 := by
        intro hlt
        refine nm_r (nI_1 i) (ih (i + 1) n (nI i) (by omega) (by omega) (Or.inr ⟨i, rfl, him, by omega, fun x hx hxi => ?_⟩))
        by_cases ex : x = i
        · exact Or.inl ex
        · rcases h x hx (by omega) with c | c
          · rw [c]; exact Or.inr hlt
          · exact Or.inr (gh_lt_tr hlt c)
      have keep : ¬ gh_lt P i b → ∀ x3 : Int32, x3 = nI i + 1 → wY_firstLeft_4 post (nI r) f_replicas (nI nw) f_committed a_origin a_stamp a_kind a_cellOf a_valueOf a_knows a_order a_m a_clock a_trimmed a_store a_stands n (nI b) x3 := by
        intro hnl
        have hlt : gh_lt P b i := gh_tot H hin hbw (by omega) hnl
        refine nm_r (nI_1 i) (ih (i + 1) n (nI b) (by omega) (by omega) (Or.inr ⟨b, rfl, hb, by omega, fun x hx hxi => ?_⟩))
        by_cases ex : x = i
        · rw [ex]; exact Or.inr hlt
        · exact h x hx (by omega)
      refine br_f (nI_pos (by omega)) ⟨ii, ib, pk_lt _ _ (fun c => take ?_) (fun c => ⟨ii, ib, pk_eq _ _ (fun d => ⟨ii, ib, pk_le _ _ (fun g => keep ?_) (fun g => take ?_)⟩) (fun d => keep ?_)⟩)⟩
      · unfold gh_lt; omega
      · unfold gh_lt; omega
      · unfold gh_lt; omega
      · unfold gh_lt; omega
theorem y_first {nr nw : Nat} {P : Nat → gh_W} {ck : Nat → Nat} {L : List Nat} {r : Nat} {post : Int32 → Prop} (H : gh_ok nr nw P ck) (hr : r < 4) (hwr : f_writes = nI nw) (hs : cy_a nw P a_origin a_stamp a_kind a_cellOf a_valueOf)
    (hL : ∀ w, w < nw → ((¬ a_knows (r * 48 + w) = 0 ∧ a_stands w = 0) ↔ w ∈ L)) (hLw : ∀ w, w ∈ L → w < nw) (hp : L.Pairwise (gh_lt P))
    (K0 : L = [] → post (-1)) (K1 : ∀ w l, L = w :: l → post (nI w)) : wpY_firstLeft post (f_replicas, f_writes, f_committed, a_origin, a_stamp, a_kind, a_cellOf, a_valueOf, a_knows, a_order, a_m, a_clock, a_trimmed, a_store, a_stands) (nI r) := by
  unfold wpY_firstLeft
  dsimp only
  exact ⟨nw + 1, y_fl H hr hwr hs hL hLw hp K0 K1 nw 0 (nw + 1) (-1) (by omega) (by omega) (Or.inl ⟨rfl, fun x _ => Nat.zero_le x⟩)⟩
end yca
end
section
/-! Y: replay -/
/-- the bit of what is known -/
def kb_n (P : Nat → gh_W) (nw : Nat) (sn : Nat → Nat) (w : Nat) : Int32 := if w < nw ∧ gh_tn (P w) < sn (gh_og (P w)) then 1 else 0
theorem kb_0 {P : Nat → gh_W} {nw : Nat} {sn : Nat → Nat} {w : Nat} : kb_n P nw sn w = 0 ↔ ¬ (w < nw ∧ gh_tn (P w) < sn (gh_og (P w))) := by
  unfold kb_n
  by_cases h : w < nw ∧ gh_tn (P w) < sn (gh_og (P w))
  · rw [if_pos h]
    exact ⟨fun e => absurd e (by decide), fun e => absurd h e⟩
  · rw [if_neg h]
    exact ⟨fun _ => h, fun _ => rfl⟩
/-- how the committed writes stand: 1 below i of the order, else 0 -/
abbrev sd_c (ord : Nat → Nat) (i : Nat) (sd : Nat → Int32) : Prop := (∀ j, j < i → sd (ord j) = 1) ∧ (∀ w, w < 48 → (∀ j, j < i → ord j ≠ w) → sd w = 0)
/-- and the first k tentative ones -/
abbrev sd_t (P : Nat → gh_W) (B : Nat → Int32) (T : List Nat) (k : Nat) (s0 sd : Nat → Int32) : Prop :=
  (∀ i x, i < k → T[i]? = some x → sd x = (ca_do (P x) (rn_l P B (T.take i))).1) ∧ (∀ w, ¬ w ∈ T.take k → sd w = s0 w)
section yrp
variable {f_replicas f_writes f_committed : Int32} {a_origin a_stamp a_kind a_cellOf a_valueOf a_knows a_order a_m a_clock a_trimmed a_store a_stands : Nat → Int32}
theorem y_rp85 {nr nw : Nat} {P : Nat → gh_W} {ck : Nat → Nat} {T : List Nat} {r : Nat} {B s0 : Nat → Int32} {post : SY → Prop} (H : gh_ok nr nw P ck) (hr : r < 4) (hwr : f_writes = nI nw) (hs : cy_a nw P a_origin a_stamp a_kind a_cellOf a_valueOf)
    (hL : ∀ w, w < nw → ((¬ a_knows (r * 48 + w) = 0 ∧ s0 w = 0) ↔ w ∈ T)) (hTw : ∀ w, w ∈ T → w < nw) (hp : T.Pairwise (gh_lt P))
    (K : ∀ so sd, ca_E so (rn_l P B T) → sd_t P B T T.length s0 sd → post (f_replicas, f_writes, f_committed, a_origin, a_stamp, a_kind, a_cellOf, a_valueOf, a_knows, a_order, a_m, a_clock, a_trimmed, so, sd)) :
    ∀ m j n so sd, j + m = nw → m < n → ca_E so (rn_l P B (T.take j)) → sd_t P B T j s0 sd → wY_replay_85 post (nI r) 1 n (nI j) f_replicas f_writes f_committed a_origin a_stamp a_kind a_cellOf a_valueOf a_knows a_order a_m a_clock a_trimmed so sd := by
  subst hwr
  have hlen : T.length ≤ nw := so_len (so_nd hp) hTw
  have hnd := so_nd hp
  intro m
  induction m with
  | zero =>
    intro j n so sd hj hn h1 h2
    obtain ⟨n, rfl⟩ : ∃ k, n = k + 1 := ⟨n - 1, by omega⟩
    have h48 := hs.1
    rw [wY_replay_85]
    refine br_t (nI_le (by omega) (by omega)) (K so sd ?_ ?_)
    · rw [List.take_of_length_le (by omega)] at h1; exact h1
    · refine ⟨fun i x hi hx => h2.1 i x (by omega) hx, fun w hw => h2.2 w ?_⟩
      rw [List.take_of_length_le (by omega)] at hw ⊢
      exact hw
  | succ m ih =>
    intro j n so sd hj hn h1 h2
    obtain ⟨n, rfl⟩ : ∃ k, n = k + 1 := ⟨n - 1, by omega⟩
    have h48 := hs.1
    rw [wY_replay_85]
    refine br_f (nI_ge (by omega) (by omega)) ?_
    have hdm : ∀ x, x ∈ T ↔ x ∈ T.take j ∨ x ∈ T.drop j := fun x => by rw [← List.mem_append, List.take_append_drop]
    have hdis : ∀ x, x ∈ T.take j → ¬ x ∈ T.drop j := by
      intro x h3 h4
      have hq := hnd
      rw [← List.take_append_drop j T] at hq
      exact (List.nodup_append.mp hq).2.2 x h3 x h4 rfl
    refine y_first (L := T.drop j) H hr rfl hs (fun w hw => ?_) (fun w hw => hTw w (List.mem_of_mem_drop hw)) (hp.sublist (List.drop_sublist j T)) (fun e => ?_) (fun w l e => ?_)
    · by_cases c : w ∈ T.take j
      · constructor
        · rintro ⟨_, k2⟩
          obtain ⟨i, hi⟩ := List.mem_iff_getElem?.mp c
          have hl := li_lt hi
          rw [List.length_take] at hl
          rw [List.getElem?_take_of_lt (by omega)] at hi
          rw [h2.1 i w (by omega) hi] at k2
          exact absurd k2 (ca_do_n0 _ _)
        · intro k; exact absurd k (hdis w c)
      · rw [h2.2 w c, hL w hw, hdm w]
        exact ⟨fun k => k.resolve_left c, fun k => Or.inr k⟩
    · refine br_f (by decide) (br_t (by decide) (nm_r (nI_1 j) ?_))
      have hlj : T.length ≤ j := List.drop_eq_nil_iff.mp e
      refine ih (j + 1) n so sd (by omega) (by omega) ?_ ⟨fun i x hi hx => h2.1 i x (by have := li_lt hx; omega) hx, fun w hw => h2.2 w ?_⟩
      · rw [List.take_of_length_le (by omega)] at h1 ⊢; exact h1
      · rw [List.take_of_length_le (by omega)] at hw ⊢; exact hw
    · have hw : w < nw := hTw w (List.mem_of_mem_drop (by rw [e]; exact List.mem_cons_self))
      have hx : T[j]? = some w := by
        have h3 : (T.drop j)[0]? = some w := by rw [e]; rfl
        rw [List.getElem?_drop] at h3
        exact h3
      have hjl := li_lt hx
      have hE := ca_do_e (p := P w) (hs.2 w hw).1.2.2.2.2 h1
      refine br_f (by decide) (br_f (nI_pos (by omega)) (y_carry hs hw ?_))
      dsimp only
      rw [nI_clamp (n := w) (by omega)]
      refine ⟨vp_in_nI (by omega) (by omega), nm_e (nm_r (nI_1 j) ?_)⟩
      refine ih (j + 1) n _ _ (by omega) (by omega) ?_ ⟨fun i x hi hxi => ?_, fun x hxn => ?_⟩
      · rw [rn_snoc hx]; exact hE.2
      · by_cases ei : i = j
        · subst ei
          have ex : w = x := Option.some.inj (hx.symm.trans hxi)
          subst ex
          rw [pk_us]; exact hE.1
        · have hne : x ≠ w := by
            intro ex
            rw [ex] at hxi
            exact ei ((List.getElem?_inj (li_lt hxi) hnd).mp (hxi.trans hx.symm))
          rw [pk_un hne]; exact h2.1 i x (by omega) hxi
      · have et : T.take (j + 1) = T.take j ++ [w] := by rw [List.take_add_one, hx]; rfl
        rw [et, List.mem_append, List.mem_singleton] at hxn
        have hne : x ≠ w := fun ex => hxn (Or.inr ex)
        rw [pk_un hne]; exact h2.2 x (fun h => hxn (Or.inl h))
/-- the rounds that carry nothing out -/
theorem y_rp85z {nr nw : Nat} {P : Nat → gh_W} {ck : Nat → Nat} {T : List Nat} {r : Nat} {post : SY → Prop} (H : gh_ok nr nw P ck) (hr : r < 4) (hwr : f_writes = nI nw) (hs : cy_a nw P a_origin a_stamp a_kind a_cellOf a_valueOf)
    (hL : ∀ w, w < nw → ((¬ a_knows (r * 48 + w) = 0 ∧ a_stands w = 0) ↔ w ∈ T)) (hTw : ∀ w, w ∈ T → w < nw) (hp : T.Pairwise (gh_lt P)) (K : post (f_replicas, f_writes, f_committed, a_origin, a_stamp, a_kind, a_cellOf, a_valueOf, a_knows, a_order, a_m, a_clock, a_trimmed, a_store, a_stands)) :
    ∀ m j n, j + m = nw → m < n → wY_replay_85 post (nI r) 0 n (nI j) f_replicas f_writes f_committed a_origin a_stamp a_kind a_cellOf a_valueOf a_knows a_order a_m a_clock a_trimmed a_store a_stands := by
  subst hwr
  have h48 := hs.1
  intro m
  induction m with
  | zero =>
    intro j n hj hn
    obtain ⟨n, rfl⟩ : ∃ k, n = k + 1 := ⟨n - 1, by omega⟩
    rw [wY_replay_85]
    exact br_t (nI_le (by omega) (by omega)) K
  | succ m ih =>
    intro j n hj hn
    obtain ⟨n, rfl⟩ : ∃ k, n = k + 1 := ⟨n - 1, by omega⟩
    rw [wY_replay_85]
    refine br_f (nI_ge (by omega) (by omega)) ?_
    have G := ih (j + 1) n (by omega) (by omega)
    exact y_first (L := T) H hr rfl hs hL hTw hp (fun _ => br_t rfl (nm_r (nI_1 j) G)) (fun w l _ => br_t rfl (nm_r (nI_1 j) G))
theorem y_rp44 {nw : Nat} {P : Nat → gh_W} {ord : Nat → Nat} {r D z : Nat} {post : SY → Prop} (hr : r < 4) (hD : D ≤ 48) (hm : a_m r = nI D) (hs : cy_a nw P a_origin a_stamp a_kind a_cellOf a_valueOf) (hord : ∀ i, i < D → a_order i = nI (ord i) ∧ ord i < nw)
    (K : ∀ so sd, ca_E so (ro_s P ord D) → sd_c ord D sd → ∃ n85 : Nat, wY_replay_85 post (nI r) (nI z) n85 0 f_replicas f_writes f_committed a_origin a_stamp a_kind a_cellOf a_valueOf a_knows a_order a_m a_clock a_trimmed so sd) :
    ∀ m i n so sd, i + m = D → m < n → ca_E so (ro_s P ord i) → sd_c ord i sd → wY_replay_44 post (nI r) (nI z) n (nI i) f_replicas f_writes f_committed a_origin a_stamp a_kind a_cellOf a_valueOf a_knows a_order a_m a_clock a_trimmed so sd := by
  have i4 : vp_in (nI r) 4 := vp_in_nI hr (by omega)
  have h48 := hs.1
  intro m
  induction m with
  | zero =>
    intro i n so sd hi hn h1 h2
    obtain ⟨n, rfl⟩ : ∃ k, n = k + 1 := ⟨n - 1, by omega⟩
    have e : i = D := by omega
    subst e
    rw [wY_replay_44]
    dsimp only
    rw [nI_clamp (n := r) (by omega), hm]
    exact ⟨i4, br_t (nI_le (Nat.le_refl _) (by omega)) (K so sd h1 h2)⟩
  | succ m ih =>
    intro i n so sd hi hn h1 h2
    obtain ⟨n, rfl⟩ : ∃ k, n = k + 1 := ⟨n - 1, by omega⟩
    obtain ⟨e1, e2⟩ := hord i (by omega)
    have ii : vp_in (nI i) 48 := vp_in_nI (by omega) (by omega)
    rw [wY_replay_44]
    dsimp only
    rw [nI_clamp (n := r) (by omega), hm, nI_clamp (n := i) (by omega), e1]
    refine ⟨i4, br_f (nI_ge (by omega) (by omega)) ⟨ii, y_carry hs e2 ?_⟩⟩
    dsimp only
    rw [e1, nI_clamp (n := ord i) (by omega)]
    refine ⟨ii, vp_in_nI (by omega) (by omega), nm_e (nm_r (nI_1 i) ?_)⟩
    refine ih (i + 1) n _ _ (by omega) (by omega) (ca_do_e (hs.2 _ e2).1.2.2.2.2 h1).2 ⟨fun j hj => ?_, fun w hw hne => ?_⟩
    · by_cases e : ord j = ord i
      · rw [e, pk_us]
      · have : j ≠ i := fun h => e (by rw [h])
        rw [pk_un e]; exact h2.1 j (by omega)
    · rw [pk_un (fun h => hne i (by omega) h.symm)]
      exact h2.2 w hw (fun j hj => hne j (by omega))
theorem y_rp23 {r z : Nat} {post : SY → Prop}
    (K : ∀ sd, (∀ w, w < 48 → sd w = 0) → ∃ n44 : Nat, wY_replay_44 post (nI r) (nI z) n44 0 f_replicas f_writes f_committed a_origin a_stamp a_kind a_cellOf a_valueOf a_knows a_order a_m a_clock a_trimmed a_store sd) :
    ∀ m i n sd, i + m = 48 → m < n → (∀ w, w < i → sd w = 0) → wY_replay_23 post (nI r) (nI z) f_replicas f_writes f_committed n (nI i) a_origin a_stamp a_kind a_cellOf a_valueOf a_knows a_order a_m a_clock a_trimmed a_store sd := by
  intro m
  induction m with
  | zero =>
    intro i n sd hi hn h
    obtain ⟨n, rfl⟩ : ∃ k, n = k + 1 := ⟨n - 1, by omega⟩
    rw [wY_replay_23]
    exact pk_le 48 i (fun _ => K sd (fun w hw => h w (by omega))) (fun h => by omega)
  | succ m ih =>
    intro i n sd hi hn h
    obtain ⟨n, rfl⟩ : ∃ k, n = k + 1 := ⟨n - 1, by omega⟩
    rw [wY_replay_23]
    dsimp only
    rw [nI_clamp (n := i) (by omega)]
    refine pk_le 48 i (fun h => by omega) (fun _ => ⟨vp_in_nI (by omega) (by omega), nm_e (nm_r (nI_1 i) ?_)⟩)
    refine ih (i + 1) n _ (by omega) (by omega) (fun w hw => ?_)
    by_cases e : w = i
    · rw [e]; exact pk_us
    · rw [pk_un e]; exact h w (by omega)
theorem y_rp2 {r z : Nat} {post : SY → Prop}
    (K : ∀ so, (∀ c, c < 8 → so c = 0) → ∃ n23 : Nat, wY_replay_23 post (nI r) (nI z) f_replicas f_writes f_committed n23 0 a_origin a_stamp a_kind a_cellOf a_valueOf a_knows a_order a_m a_clock a_trimmed so a_stands) :
    ∀ m i n so, i + m = 8 → m < n → (∀ c, c < i → so c = 0) → wY_replay_2 post (nI r) (nI z) f_replicas f_writes f_committed n (nI i) a_origin a_stamp a_kind a_cellOf a_valueOf a_knows a_order a_m a_clock a_trimmed so a_stands := by
  intro m
  induction m with
  | zero =>
    intro i n so hi hn h
    obtain ⟨n, rfl⟩ : ∃ k, n = k + 1 := ⟨n - 1, by omega⟩
    rw [wY_replay_2]
    exact pk_le 8 i (fun _ => K so (fun w hw => h w (by omega))) (fun h => by omega)
  | succ m ih =>
    intro i n so hi hn h
    obtain ⟨n, rfl⟩ : ∃ k, n = k + 1 := ⟨n - 1, by omega⟩
    rw [wY_replay_2]
    dsimp only
    rw [nI_clamp (n := i) (by omega)]
    refine pk_le 8 i (fun h => by omega) (fun _ => ⟨vp_in_nI (by omega) (by omega), nm_e (nm_r (nI_1 i) ?_)⟩)
    refine ih (i + 1) n _ (by omega) (by omega) (fun w hw => ?_)
    by_cases e : w = i
    · rw [e]; exact pk_us
    · rw [pk_un e]; exact h w (by omega)
/-- the committed part of a replay -/
theorem y_rpc {nw : Nat} {P : Nat → gh_W} {ord : Nat → Nat} {r D z : Nat} {post : SY → Prop} (hr : r < 4) (hD : D ≤ 48) (hm : a_m r = nI D) (hs : cy_a nw P a_origin a_stamp a_kind a_cellOf a_valueOf) (hord : ∀ i, i < D → a_order i = nI (ord i) ∧ ord i < nw)
    (K : ∀ so sd, ca_E so (ro_s P ord D) → sd_c ord D sd → ∃ n85 : Nat, wY_replay_85 post (nI r) (nI z) n85 0 f_replicas f_writes f_committed a_origin a_stamp a_kind a_cellOf a_valueOf a_knows a_order a_m a_clock a_trimmed so sd) : wpY_replay post (f_replicas, f_writes, f_committed, a_origin, a_stamp, a_kind, a_cellOf, a_valueOf, a_knows, a_order, a_m, a_clock, a_trimmed, a_store, a_stands) (nI r) (nI z) := by
  unfold wpY_replay
  dsimp only
  refine ⟨9, y_rp2 (fun so h0 => ⟨49, y_rp23 (fun sd h1 => ⟨D + 1, ?_⟩) 48 0 49 a_stands rfl (by omega) (fun w hw => by omega)⟩) 8 0 9 a_store rfl (by omega) (fun c hc => by omega)⟩
  exact y_rp44 hr hD hm hs hord K D 0 (D + 1) so sd (by omega) (by omega) (fun c hc => h0 c hc) ⟨fun j hj => by omega, fun w hw _ => h1 w hw⟩
end yrp
end
section
/-! Y: the state against the ghosts; replay, commit, bring -/
abbrev ry_a (nr nw : Nat) (P : Nat → gh_W) (ord : Nat → Nat) (sn : Nat → Nat → Nat) (dn ck tr : Nat → Nat) (fr fw fc : Int32) (oo os ok oc ov kn od mm ca ta : Nat → Int32) : Prop :=
  fr = nI nr ∧ fw = nI nw ∧ fc = nI (dn 0) ∧ cy_a nw P oo os ok oc ov ∧
  (∀ r, r < nr → ∀ w, w < 48 → kn (r * 48 + w) = kb_n P nw (sn r) w) ∧ (∀ i, i < dn 0 → od i = nI (ord i)) ∧
  (∀ r, r < nr → mm r = nI (dn r) ∧ ca r = nI (ck r) ∧ ta r = nI (tr r))
abbrev ry_Y (nr nw : Nat) (P : Nat → gh_W) (ord : Nat → Nat) (sn : Nat → Nat → Nat) (dn ck tr : Nat → Nat) (v : SY) : Prop :=
  ry_a nr nw P ord sn dn ck tr (sy_replicas v) (sy_writes v) (sy_committed v) (sy_origin v) (sy_stamp v) (sy_kind v) (sy_cellOf v) (sy_valueOf v) (sy_knows v) (sy_order v) (sy_m v) (sy_clock v) (sy_trimmed v)
/-- after the committed part of a replay, those that are left are the tentative ones -/
theorem yl_T {nr nw : Nat} {P : Nat → gh_W} {ord : Nat → Nat} {T : List Nat} {sn : Nat → Nat} {D d w : Nat} {ck : Nat → Nat} {x : Int32} {sd : Nat → Int32} (H : gh_ok nr nw P ck) (O : gh_or nw P ord d) (hD : D ≤ d) (R : gh_rp nw P ord T sn D)
    (hx : x = kb_n P nw sn w) (hs : sd_c ord D sd) (hw : w < nw) : (¬ x = 0 ∧ sd w = 0) ↔ w ∈ T := by
  have h48 := H.2.2.1
  rw [hx, kb_0, R.2.2.2 w, Decidable.not_not]
  have hc := gh_com H O hD hw
  have hz : sd w = 0 ↔ ¬ ∃ i, i < D ∧ ord i = w := by
    constructor
    · rintro h ⟨i, hi, e⟩
      have h1 := hs.1 i hi
      rw [e, h] at h1
      exact absurd h1 (by decide)
    · intro h
      exact hs.2 w (by omega) (fun j hj e => h ⟨j, hj, e⟩)
  rw [hz, hc]
  constructor
  · rintro ⟨⟨a, b⟩, c⟩; exact ⟨a, by omega, b⟩
  · rintro ⟨a, b, c⟩; exact ⟨⟨a, c⟩, by omega⟩
section yop
variable {f_replicas f_writes f_committed : Int32} {a_origin a_stamp a_kind a_cellOf a_valueOf a_knows a_order a_m a_clock a_trimmed a_store a_stands : Nat → Int32}
theorem y_rep1 {nr nw : Nat} {P : Nat → gh_W} {ord : Nat → Nat} {T : Nat → List Nat} {sn : Nat → Nat → Nat} {dn ck tr : Nat → Nat} {r : Nat} {post : SY → Prop} (I : gh_inv nr nw P ord T sn dn ck tr)
    (Y : ry_a nr nw P ord sn dn ck tr f_replicas f_writes f_committed a_origin a_stamp a_kind a_cellOf a_valueOf a_knows a_order a_m a_clock a_trimmed) (hr : r < nr)
    (K : ∀ so s0 sd, ca_E so (rn_l P (ro_s P ord (dn r)) (T r)) → sd_c ord (dn r) s0 → sd_t P (ro_s P ord (dn r)) (T r) (T r).length s0 sd → post (f_replicas, f_writes, f_committed, a_origin, a_stamp, a_kind, a_cellOf, a_valueOf, a_knows, a_order, a_m, a_clock, a_trimmed, so, sd)) : wpY_replay post (f_replicas, f_writes, f_committed, a_origin, a_stamp, a_kind, a_cellOf, a_valueOf, a_knows, a_order, a_m, a_clock, a_trimmed, a_store, a_stands) (nI r) 1 := by
  obtain ⟨H, O, R⟩ := I
  obtain ⟨b1, b2, b3, b4⟩ := R r hr
  obtain ⟨y1, y2, y3, y4, y5, y6, y7⟩ := Y
  have h4 := H.2.1
  have h48 := H.2.2.1
  have hD := gh_Dle H O b1 b2
  refine y_rpc (z := 1) (D := dn r) (by omega) (by omega) (y7 r hr).1 y4 (fun i hi => ⟨y6 i (by omega), (O i (by omega)).1⟩) (fun so s0 h1 h2 => ⟨nw + 1, ?_⟩)
  refine y_rp85 (T := T r) (B := ro_s P ord (dn r)) (s0 := s0) H (by omega) y2 y4 (fun w hw => yl_T H O b1 b2 (y5 r hr w (by omega)) h2 hw) (fun w hw => gh_Tlt b2 hw) b2.2.2.1 (fun so2 sd g1 g2 => K so2 s0 sd g1 h2 g2) nw 0 (nw + 1) so s0 (by omega) (by omega) ?_ ⟨fun i x hi => by omega, fun w _ => rfl⟩
  rw [List.take_zero]
  exact h1
theorem y_rep0 {nr nw : Nat} {P : Nat → gh_W} {ord : Nat → Nat} {T : Nat → List Nat} {sn : Nat → Nat → Nat} {dn ck tr : Nat → Nat} {r : Nat} {post : SY → Prop} (I : gh_inv nr nw P ord T sn dn ck tr)
    (Y : ry_a nr nw P ord sn dn ck tr f_replicas f_writes f_committed a_origin a_stamp a_kind a_cellOf a_valueOf a_knows a_order a_m a_clock a_trimmed) (hr : r < nr)
    (K : ∀ so sd, ca_E so (ro_s P ord (dn r)) → sd_c ord (dn r) sd → post (f_replicas, f_writes, f_committed, a_origin, a_stamp, a_kind, a_cellOf, a_valueOf, a_knows, a_order, a_m, a_clock, a_trimmed, so, sd)) : wpY_replay post (f_replicas, f_writes, f_committed, a_origin, a_stamp, a_kind, a_cellOf, a_valueOf, a_knows, a_order, a_m, a_clock, a_trimmed, a_store, a_stands) (nI r) 0 := by
  obtain ⟨H, O, R⟩ := I
  obtain ⟨b1, b2, b3, b4⟩ := R r hr
  obtain ⟨y1, y2, y3, y4, y5, y6, y7⟩ := Y
  have h4 := H.2.1
  have h48 := H.2.2.1
  have hD := gh_Dle H O b1 b2
  refine y_rpc (z := 0) (D := dn r) (by omega) (by omega) (y7 r hr).1 y4 (fun i hi => ⟨y6 i (by omega), (O i (by omega)).1⟩) (fun so s0 h1 h2 => ⟨nw + 1, ?_⟩)
  exact y_rp85z (T := T r) H (by omega) y2 y4 (fun w hw => yl_T H O b1 b2 (y5 r hr w (by omega)) h2 hw) (fun w hw => gh_Tlt b2 hw) b2.2.2.1 (K so s0 h1 h2) nw 0 (nw + 1) (by omega) (by omega)
/-- the rounds of commit that commit nothing more -/
theorem y_cmi {nr nw : Nat} {P : Nat → gh_W} {ck : Nat → Nat} {L : List Nat} {d : Nat} {v x2 : Int32} {post : Int32 → SY → Prop} (H : gh_ok nr nw P ck) (hs : cy_a nw P a_origin a_stamp a_kind a_cellOf a_valueOf)
    (hL : ∀ w, w < nw → ((¬ a_knows (0 * 48 + w) = 0 ∧ a_stands w = 0) ↔ w ∈ L)) (hLw : ∀ w, w ∈ L → w < nw) (hp : L.Pairwise (gh_lt P)) (K : post x2 (f_replicas, nI nw, nI d, a_origin, a_stamp, a_kind, a_cellOf, a_valueOf, a_knows, a_order, upd a_m 0 (nI d), a_clock, a_trimmed, a_store, a_stands)) :
    ∀ m k n, k + m = 48 → m < n → (L = [] ∨ v ≤ nI k) → wY_commit_10 post v f_replicas (nI nw) n x2 (nI k) (nI d) a_origin a_stamp a_kind a_cellOf a_valueOf a_knows a_order a_m a_clock a_trimmed a_store a_stands := by
  intro m
  induction m with
  | zero =>
    intro k n hk hn h
    obtain ⟨n, rfl⟩ : ∃ k, n = k + 1 := ⟨n - 1, by omega⟩
    rw [wY_commit_10]
    exact pk_le 48 k (fun _ => nm_e K) (fun h => by omega)
  | succ m ih =>
    intro k n hk hn h
    obtain ⟨n, rfl⟩ : ∃ k, n = k + 1 := ⟨n - 1, by omega⟩
    have G := ih (k + 1) n (by omega) (by omega) (by
      rcases h with h | h
      · exact Or.inl h
      · exact Or.inr (Int32.le_trans h (nI_le (by omega) (by omega))))
    rw [wY_commit_10]
    refine pk_le 48 k (fun h => by omega) (fun _ => ?_)
    refine y_first (r := 0) (L := L) H (by omega) rfl hs hL hLw hp (fun _ => br_c (fun _ => nm_r (nI_1 k) G) (fun _ => br_t (by decide) (nm_r (nI_1 k) G))) (fun w l e => ?_)
    rcases h with h | h
    · rw [h] at e; exact absurd e (by simp)
    · exact br_t h (nm_r (nI_1 k) G)
theorem y_cma {nr nw : Nat} {P : Nat → gh_W} {ck : Nat → Nat} {R : List Nat} {v : Int32} {post : Int32 → SY → Prop} (H : gh_ok nr nw P ck) (hs : cy_a nw P a_origin a_stamp a_kind a_cellOf a_valueOf) :
    ∀ (C : List Nat) (ord : Nat → Nat) (d k n : Nat) (od sd : Nat → Int32), k + C.length ≤ 48 → 48 < n + k → d + C.length ≤ 48 → (∀ i, i < C.length → ¬ v ≤ nI (k + i)) → (R = [] ∨ v ≤ nI (k + C.length)) →
      (C ++ R).Pairwise (gh_lt P) → (∀ w, w ∈ C ++ R → w < nw) → (∀ w, w < nw → ((¬ a_knows (0 * 48 + w) = 0 ∧ sd w = 0) ↔ w ∈ C ++ R)) → (∀ i, i < d → od i = nI (ord i)) →
      (∀ od' sd', (∀ i, i < d + C.length → od' i = nI (cm_o ord d C i)) → post (nI (k + C.length)) (f_replicas, nI nw, nI (d + C.length), a_origin, a_stamp, a_kind, a_cellOf, a_valueOf, a_knows, od', upd a_m 0 (nI (d + C.length)), a_clock, a_trimmed, a_store, sd')) →
      wY_commit_10 post v f_replicas (nI nw) n (nI k) (nI k) (nI d) a_origin a_stamp a_kind a_cellOf a_valueOf a_knows od a_m a_clock a_trimmed a_store sd := by
  intro C
  induction C with
  | nil =>
    intro ord d k n od sd hk hn hd h1 h2 hp hw hL ho K
    exact y_cmi (L := R) H hs hL hw hp (K od sd ho) (48 - k) k n (by rw [List.length_nil] at hk; omega) (by rw [List.length_nil] at hk; omega) h2
  | cons w C ih =>
    intro ord d k n od sd hk hn hd h1 h2 hp hw hL ho K
    rw [List.length_cons] at hk hd h2
    obtain ⟨n, rfl⟩ : ∃ k, n = k + 1 := ⟨n - 1, by omega⟩
    have hww : w < nw := hw w List.mem_cons_self
    have h48 := hs.1
    have hnd := List.nodup_cons.mp (so_nd hp)
    rw [wY_commit_10]
    refine pk_le 48 k (fun h => by omega) (fun _ => ?_)
    refine y_first (r := 0) (L := w :: (C ++ R)) H (by omega) rfl hs hL hw hp (fun e => absurd e (by simp)) (fun w' l e => ?_)
    have ew : w' = w := (List.cons.inj e).1.symm
    subst ew
    rw [nI_clamp (n := d) (by omega), nI_clamp (n := w') (by omega)]
    refine br_f (h1 0 (Nat.succ_pos _)) (br_f (nI_pos (by omega)) (br_f (nI_ge (b := 48) (by omega) (by omega)) ⟨vp_in_nI (by omega) (by omega), nm_e ⟨vp_in_nI (by omega) (by omega), nm_e (nm_r (nI_1 d) (nm_r (nI_1 k) (nm_r (nI_1 k) ?_)))⟩⟩))
    refine ih (gh_u ord d w') (d + 1) (k + 1) n _ _ (by omega) (by omega) (by omega) (fun i hi => ?_) ?_ (List.pairwise_cons.mp hp).2 (fun x hx => hw x (List.mem_cons_of_mem _ hx)) (fun x hx => ?_) (fun i hi => ?_) (fun od' sd' g => ?_)
    · have := h1 (i + 1) (by rw [List.length_cons]; omega)
      rw [show k + 1 + i = k + (i + 1) by omega]; exact this
    · rw [show k + 1 + C.length = k + (C.length + 1) by omega]; exact h2
    · by_cases ex : x = w'
      · subst ex
        rw [pk_us]
        exact ⟨fun z => absurd z.2 (by decide), fun z => absurd z hnd.1⟩
      · rw [pk_un ex]
        refine (hL x hx).trans ⟨fun z => ?_, fun z => List.mem_cons_of_mem _ z⟩
        rcases List.mem_cons.mp z with c | c
        · exact absurd c ex
        · exact c
    · by_cases ei : i = d
      · subst ei
        rw [pk_us, gh_us]
      · rw [pk_un ei, gh_un ei]; exact ho i (by omega)
    · have e1 : d + 1 + C.length = d + (w' :: C).length := by rw [List.length_cons]; omega
      have e2 : k + 1 + C.length = k + (w' :: C).length := by rw [List.length_cons]; omega
      rw [e1, e2]
      rw [e1] at g
      exact K od' sd' g
theorem y_br31 {nw f t kf kt df dt : Nat} {P : Nat → gh_W} {sf st : Nat → Nat} {post : Int32 → SY → Prop} (hft : f ≠ t) (hf : f < 4) (ht : t < 4) (hnw : nw ≤ 48) (hkf : ∀ w, w < 48 → a_knows (f * 48 + w) = kb_n P nw sf w) (hkt : ∀ w, w < 48 → a_knows (t * 48 + w) = kb_n P nw st w)
    (mf : a_m f = nI df) (mt : a_m t = nI dt) (cf : a_clock f = nI kf) (ct : a_clock t = nI kt) (bdf : df ≤ 48) (bdt : dt ≤ 48) (bkf : kf ≤ 48) (bkt : kt ≤ 48)
    (K : ∀ kn mm ca, fr_ag 48 t a_knows kn → (∀ w, w < 48 → kn (t * 48 + w) = kb_n P nw (fun o => gb_x (st o) (sf o)) w) → fr_ag 1 t a_m mm → mm t = nI (gb_x dt df) → fr_ag 1 t a_clock ca → ca t = nI (gb_x kt kf) → post (nI (kn_n P st sf nw)) (f_replicas, nI nw, f_committed, a_origin, a_stamp, a_kind, a_cellOf, a_valueOf, kn, a_order, mm, ca, a_trimmed, a_store, a_stands)) :
    ∀ m i n kn, i + m = nw → m < n → fr_ag 48 t a_knows kn → (∀ w, w < i → kn (t * 48 + w) = kb_n P nw (fun o => gb_x (st o) (sf o)) w) → (∀ w, i ≤ w → w < 48 → kn (t * 48 + w) = a_knows (t * 48 + w)) →
      wY_bring_31 post (nI f) (nI t) f_replicas (nI nw) f_committed n (nI (kn_n P st sf i)) (nI i) a_origin a_stamp a_kind a_cellOf a_valueOf kn a_order a_m a_clock a_trimmed a_store a_stands := by
  have i4 : vp_in (nI t) 4 := vp_in_nI ht (by omega)
  have i5 : vp_in (nI f) 4 := vp_in_nI hf (by omega)
  intro m
  induction m with
  | zero =>
    intro i n kn hi hn hfr h1 h2
    obtain ⟨n, rfl⟩ : ∃ k, n = k + 1 := ⟨n - 1, by omega⟩
    have e : i = nw := by omega
    subst e
    have hk : ∀ w, w < 48 → kn (t * 48 + w) = kb_n P i (fun o => gb_x (st o) (sf o)) w := by
      intro w hw
      by_cases c : w < i
      · exact h1 w c
      · rw [h2 w (by omega) hw, hkt w hw, kb_0.mpr (fun z => c z.1), kb_0.mpr (fun z => c z.1)]
    -- the clock
    have C : ∀ mm, fr_ag 1 t a_m mm → mm t = nI (gb_x dt df) → wY_bring_119 post (nI f) (nI t) (nI (kn_n P st sf i)) f_replicas (nI i) f_committed a_origin a_stamp a_kind a_cellOf a_valueOf kn a_order mm a_clock a_trimmed a_store a_stands := by
      intro mm g1 g2
      unfold wY_bring_119
      rw [nI_clamp (n := f) (by omega), nI_clamp (n := t) (by omega), cf, ct]
      refine ⟨i5, i4, pk_le kf kt (fun h => ?_) (fun h => ⟨i5, i4, nm_e ?_⟩)⟩
      · refine K kn mm a_clock hfr hk g1 g2 fr_ag_r ?_
        rw [ct]; unfold gb_x; rw [if_neg (by omega)]
      · refine K kn mm _ hfr hk g1 g2 fr_ag_1 ?_
        rw [pk_us]; unfold gb_x; rw [if_pos h]
    rw [wY_bring_31]
    dsimp only
    rw [nI_clamp (n := f) (by omega), nI_clamp (n := t) (by omega), mf, mt]
    refine br_t (nI_le (Nat.le_refl _) (by omega)) ⟨i5, i4, pk_le df dt (fun h => ?_) (fun h => ⟨i5, i4, nm_e ?_⟩)⟩
    · refine C a_m fr_ag_r ?_
      rw [mt]; unfold gb_x; rw [if_neg (by omega)]
    · refine C _ fr_ag_1 ?_
      rw [pk_us]; unfold gb_x; rw [if_pos h]
  | succ m ih =>
    intro i n kn hi hn hfr h1 h2
    obtain ⟨n, rfl⟩ : ∃ k, n = k + 1 := ⟨n - 1, by omega⟩
    have e1 : kn (f * 48 + i) = kb_n P nw sf i := (fr_at48 hfr hft (by omega)).trans (hkf i (by omega))
    have e2 : kn (t * 48 + i) = kb_n P nw st i := (h2 i (Nat.le_refl _) (by omega)).trans (hkt i (by omega))
    have hin : i < nw := by omega
    have es : kn_n P st sf (i + 1) = kn_n P st sf i + (if st (gh_og (P i)) ≤ gh_tn (P i) ∧ gh_tn (P i) < sf (gh_og (P i)) then 1 else 0) := rfl
    have ii1 : vp_in (nI (f * 48 + i)) 192 := vp_in_nI (by omega) (by omega)
    have ii2 : vp_in (nI (t * 48 + i)) 192 := vp_in_nI (by omega) (by omega)
    have keep : kb_n P nw st i = kb_n P nw (fun o => gb_x (st o) (sf o)) i → kn_n P st sf (i + 1) = kn_n P st sf i → ∀ x4 : Int32, x4 = nI i + 1 → wY_bring_31 post (nI f) (nI t) f_replicas (nI nw) f_committed n (nI (kn_n P st sf i)) x4 a_origin a_stamp a_kind a_cellOf a_valueOf kn a_order a_m a_clock a_trimmed a_store a_stands := by
      intro g1 g2
      refine nm_r (nI_1 i) ?_
      rw [← g2]
      refine ih (i + 1) n kn (by omega) (by omega) hfr (fun w hw => ?_) (fun w hw hw2 => h2 w (by omega) hw2)
      by_cases ew : w = i
      · rw [ew, e2, g1]
      · exact h1 w (by omega)
    rw [wY_bring_31]
    dsimp only
    rw [ix_48, ix_48, nI_clamp (n := f * 48 + i) (by omega), nI_clamp (n := t * 48 + i) (by omega), e1, e2]
    refine br_f (nI_ge hin (by omega)) ⟨ii1, br_c (fun z => keep ?_ ?_) (fun z => ⟨ii2, br_c (fun y => ⟨ii2, nm_e (nm_r (nI_1 _) (nm_r (nI_1 i) ?_))⟩) (fun y => keep ?_ ?_)⟩)⟩
    · rw [kb_0] at z
      unfold kb_n
      by_cases c : gh_tn (P i) < st (gh_og (P i))
      · rw [if_pos ⟨hin, c⟩, if_pos ⟨hin, gb_x4.mpr (Or.inl c)⟩]
      · rw [if_neg (fun q => c q.2), if_neg (fun q => (gb_x4.mp q.2).elim c (fun q2 => z ⟨hin, q2⟩))]
    · rw [kb_0] at z
      rw [es, if_neg (fun q => z ⟨hin, q.2⟩)]; rfl
    · rw [kb_0] at y
      rw [kb_0, Decidable.not_not] at z
      have g2 : kn_n P st sf (i + 1) = kn_n P st sf i + 1 := by
        rw [es, if_pos ⟨Nat.le_of_not_lt (fun q => y ⟨hin, q⟩), z.2⟩]
      rw [← g2]
      refine ih (i + 1) n _ (by omega) (by omega) (fr_ag_t hfr (fr_ag_u (by omega))) (fun w hw => ?_) (fun w hw hw2 => ?_)
      · by_cases ew : w = i
        · rw [ew, pk_us]
          have g3 : kb_n P nw (fun o => gb_x (st o) (sf o)) i = 1 := if_pos ⟨hin, gb_x4.mpr (Or.inr z.2)⟩
          rw [g3]; decide
        · rw [pk_un (by omega)]; exact h1 w (by omega)
      · rw [pk_un (by omega)]; exact h2 w (by omega) hw2
    · rw [kb_0, Decidable.not_not] at y
      unfold kb_n
      rw [if_pos y, if_pos ⟨hin, gb_x4.mpr (Or.inl y.2)⟩]
    · rw [kb_0, Decidable.not_not] at y
      rw [es, if_neg (fun q => by have := q.1; have := y.2; omega)]; rfl
end yop
end
section
/-! X: the errors, trim, the questions -/
theorem x_wr_e1 {post : Int32 → SX → Prop} {u : SX} {nr : Nat} {x v2 v3 v4 : Int32} (h4 : nr ≤ 4) (hr : sx_replicas u = nI nr) (h : x < 0 ∨ nI nr ≤ x) (hp : post (-1) u) : wpX_write post u x v2 v3 v4 := by
  obtain ⟨f_replicas, f_writes, a_origin, a_turn, a_stamp, a_kindOf, a_cellOf, a_valueOf, a_clock, a_seen, a_fixed, a_done, a_heldFrom, a_trimmed, a_log, a_stableCell, a_nowCell, a_waiting, a_applied, a_tent, a_outcome, a_oldCellA, a_oldValA, a_oldCellB, a_oldValB, a_work⟩ := u
  unfold wpX_write
  dsimp only
  exact x_bad1 h4 hr h (br_f (by decide) hp)
theorem x_wr_e2 {post : Int32 → SX → Prop} {u : SX} {nr r : Nat} {v2 v3 v4 : Int32} (h4 : nr ≤ 4) (hr : sx_replicas u = nI nr) (h : r < nr) (h2 : v2 < 0 ∨ ¬ v2 ≤ 5) (hp : post (-2) u) : wpX_write post u (nI r) v2 v3 v4 := by
  obtain ⟨f_replicas, f_writes, a_origin, a_turn, a_stamp, a_kindOf, a_cellOf, a_valueOf, a_clock, a_seen, a_fixed, a_done, a_heldFrom, a_trimmed, a_log, a_stableCell, a_nowCell, a_waiting, a_applied, a_tent, a_outcome, a_oldCellA, a_oldValA, a_oldCellB, a_oldValB, a_work⟩ := u
  unfold wpX_write
  dsimp only
  refine x_bad0 h4 hr h (br_t rfl ?_)
  rcases h2 with h2 | h2
  · exact br_t h2 hp
  · exact br_c (fun _ => hp) (fun _ => br_f h2 hp)
theorem x_wr_e3 {post : Int32 → SX → Prop} {u : SX} {nr r kd : Nat} {v3 v4 : Int32} (h4 : nr ≤ 4) (hr : sx_replicas u = nI nr) (h : r < nr) (hk : kd ≤ 5) (h3 : v3 < 0 ∨ ¬ v3 ≤ 7) (hp : post (-3) u) : wpX_write post u (nI r) (nI kd) v3 v4 := by
  obtain ⟨f_replicas, f_writes, a_origin, a_turn, a_stamp, a_kindOf, a_cellOf, a_valueOf, a_clock, a_seen, a_fixed, a_done, a_heldFrom, a_trimmed, a_log, a_stableCell, a_nowCell, a_waiting, a_applied, a_tent, a_outcome, a_oldCellA, a_oldValA, a_oldCellB, a_oldValB, a_work⟩ := u
  unfold wpX_write
  dsimp only
  refine x_bad0 h4 hr h (br_t rfl (br_f (nI_pos (by omega)) (br_t (nI_le (b := 5) hk (by omega)) ?_)))
  rcases h3 with h3 | h3
  · exact br_t h3 hp
  · exact br_c (fun _ => hp) (fun _ => br_f h3 hp)
theorem x_wr_e4 {post : Int32 → SX → Prop} {u : SX} {nr nw r kd ce : Nat} {v4 : Int32} (h4 : nr ≤ 4) (hr : sx_replicas u = nI nr) (h : r < nr) (hk : kd ≤ 5) (hc : ce < 8) (hw : sx_writes u = nI nw) (hnw : nw = 48) (hp : post (-4) u) : wpX_write post u (nI r) (nI kd) (nI ce) v4 := by
  obtain ⟨f_replicas, f_writes, a_origin, a_turn, a_stamp, a_kindOf, a_cellOf, a_valueOf, a_clock, a_seen, a_fixed, a_done, a_heldFrom, a_trimmed, a_log, a_stableCell, a_nowCell, a_waiting, a_applied, a_tent, a_outcome, a_oldCellA, a_oldValA, a_oldCellB, a_oldValB, a_work⟩ := u
  change f_writes = nI nw at hw
  unfold wpX_write
  dsimp only
  refine x_bad0 h4 hr h (br_t rfl (br_f (nI_pos (by omega)) (br_t (nI_le (b := 5) hk (by omega)) (br_f (nI_pos (by omega)) (br_t (nI_le (b := 7) (by omega) (by omega)) (br_f ?_ hp))))))
  rw [hw, hnw]; decide
theorem x_br_e1 {post : Int32 → SX → Prop} {u : SX} {nr : Nat} {x v2 : Int32} (h4 : nr ≤ 4) (hr : sx_replicas u = nI nr) (h : x < 0 ∨ nI nr ≤ x) (hp : post (-1) u) : wpX_bring post u x v2 := by
  obtain ⟨f_replicas, f_writes, a_origin, a_turn, a_stamp, a_kindOf, a_cellOf, a_valueOf, a_clock, a_seen, a_fixed, a_done, a_heldFrom, a_trimmed, a_log, a_stableCell, a_nowCell, a_waiting, a_applied, a_tent, a_outcome, a_oldCellA, a_oldValA, a_oldCellB, a_oldValB, a_work⟩ := u
  unfold wpX_bring
  dsimp only
  exact x_bad1 h4 hr h (br_f (by decide) hp)
theorem x_br_e2 {post : Int32 → SX → Prop} {u : SX} {nr r : Nat} {x : Int32} (h4 : nr ≤ 4) (hr : sx_replicas u = nI nr) (hl : r < nr) (h : x < 0 ∨ nI nr ≤ x) (hp : post (-1) u) : wpX_bring post u (nI r) x := by
  obtain ⟨f_replicas, f_writes, a_origin, a_turn, a_stamp, a_kindOf, a_cellOf, a_valueOf, a_clock, a_seen, a_fixed, a_done, a_heldFrom, a_trimmed, a_log, a_stableCell, a_nowCell, a_waiting, a_applied, a_tent, a_outcome, a_oldCellA, a_oldValA, a_oldCellB, a_oldValB, a_work⟩ := u
  unfold wpX_bring
  dsimp only
  exact x_bad0 h4 hr hl (br_t rfl (x_bad1 h4 hr h (br_f (by decide) hp)))
theorem x_br_e3 {post : Int32 → SX → Prop} {u : SX} {nr r : Nat} (h4 : nr ≤ 4) (hr : sx_replicas u = nI nr) (hl : r < nr) (hp : post (-5) u) : wpX_bring post u (nI r) (nI r) := by
  obtain ⟨f_replicas, f_writes, a_origin, a_turn, a_stamp, a_kindOf, a_cellOf, a_valueOf, a_clock, a_seen, a_fixed, a_done, a_heldFrom, a_trimmed, a_log, a_stableCell, a_nowCell, a_waiting, a_applied, a_tent, a_outcome, a_oldCellA, a_oldValA, a_oldCellB, a_oldValB, a_work⟩ := u
  unfold wpX_bring
  dsimp only
  exact x_bad0 h4 hr hl (br_t rfl (x_bad0 h4 hr hl (br_t rfl (br_t rfl hp))))
theorem x_br_go {post : Int32 → SX → Prop} {u : SX} {nr f t : Nat} (h4 : nr ≤ 4) (hr : sx_replicas u = nI nr) (hf : f < nr) (ht : t < nr) (hne : f ≠ t) (hp : ∃ n31 : Nat, ux_bring_31 post (nI f) (nI t) n31 0 0 u) : wpX_bring post u (nI f) (nI t) := by
  obtain ⟨f_replicas, f_writes, a_origin, a_turn, a_stamp, a_kindOf, a_cellOf, a_valueOf, a_clock, a_seen, a_fixed, a_done, a_heldFrom, a_trimmed, a_log, a_stableCell, a_nowCell, a_waiting, a_applied, a_tent, a_outcome, a_oldCellA, a_oldValA, a_oldCellB, a_oldValB, a_work⟩ := u
  unfold wpX_bring
  dsimp only
  exact x_bad0 h4 hr hf (br_t rfl (x_bad0 h4 hr ht (br_t rfl (br_f (fun e => hne ((nI_eq (by omega) (by omega)).mp e)) hp))))
section xtr
variable {f_replicas f_writes : Int32} {a_origin a_turn a_stamp a_kindOf a_cellOf a_valueOf a_clock a_seen a_fixed a_done a_heldFrom a_trimmed a_log a_stableCell a_nowCell a_waiting a_applied a_tent a_outcome a_oldCellA a_oldValA a_oldCellB a_oldValB a_work : Nat → Int32}
theorem x_tr37 {nr nw : Nat} {P : Nat → gh_W} {ord : Nat → Nat} {T : Nat → List Nat} {sn : Nat → Nat → Nat} {dn ck tr : Nat → Nat} {r k : Nat} {post : Int32 → SX → Prop} (X : rx_X nr nw P ord T sn dn ck tr (f_replicas, f_writes, a_origin, a_turn, a_stamp, a_kindOf, a_cellOf, a_valueOf, a_clock, a_seen, a_fixed, a_done, a_heldFrom, a_trimmed, a_log, a_stableCell, a_nowCell, a_waiting, a_applied, a_tent, a_outcome, a_oldCellA, a_oldValA, a_oldCellB, a_oldValB, a_work)) (h4 : nr ≤ 4) (hr : r < nr) (hk : k ≤ dn r)
    (K : ∀ u', rx_X nr nw P ord T sn dn ck (gh_u tr r (gb_x (tr r) k)) u' → post (nI (gb_x (tr r) k)) u') : wX_trim_37 post (nI r) (nI k) f_replicas f_writes a_origin a_turn a_stamp a_kindOf a_cellOf a_valueOf a_clock a_seen a_fixed a_done a_heldFrom a_trimmed a_log a_stableCell a_nowCell a_waiting a_applied a_tent a_outcome a_oldCellA a_oldValA a_oldCellB a_oldValB a_work := by
  obtain ⟨x1, x2, x3, x4⟩ := X
  have hR := x4 r hr
  change f_replicas = nI nr at x1
  change f_writes = nI nw at x2
  change cx_a nw P a_origin a_turn a_stamp a_kindOf a_cellOf a_valueOf at x3
  obtain ⟨hT, hA, hC, hS, hN, hF, hL, hK⟩ := hR
  change rp_T _ _ a_waiting a_tent at hT
  change rp_A _ _ a_applied at hA
  change rp_C _ _ _ _ _ a_nowCell a_outcome a_oldCellA a_oldValA a_oldCellB a_oldValB at hC
  change rp_S _ _ _ _ a_stableCell at hS
  change rp_n _ _ a_seen at hN
  change rp_f _ _ _ _ a_fixed at hF
  change rp_L _ _ _ a_done a_heldFrom a_log at hL
  change rp_K _ _ _ a_clock a_trimmed at hK
  obtain ⟨l1, l2, hh, l3, l4, l5⟩ := hL
  obtain ⟨k1, k2, k3, k4⟩ := hK
  have i4 : vp_in (nI r) 4 := vp_in_nI (by omega) (by omega)
  -- heldFrom
  have G : ∀ ta, fr_ag 1 r a_trimmed ta → ta r = nI (gb_x (tr r) k) → wX_trim_54 post (nI r) (nI k) f_replicas f_writes a_origin a_turn a_stamp a_kindOf a_cellOf a_valueOf a_clock a_seen a_fixed a_done a_heldFrom ta a_log a_stableCell a_nowCell a_waiting a_applied a_tent a_outcome a_oldCellA a_oldValA a_oldCellB a_oldValB a_work := by
    intro ta g1 g2
    have fin : ∀ hf', fr_ag 1 r a_heldFrom hf' → (∃ h', h' ≤ dn r ∧ hf' r = nI h' ∧ hh ≤ h') → post (ta r) (f_replicas, f_writes, a_origin, a_turn, a_stamp, a_kindOf, a_cellOf, a_valueOf, a_clock, a_seen, a_fixed, a_done, hf', ta, a_log, a_stableCell, a_nowCell, a_waiting, a_applied, a_tent, a_outcome, a_oldCellA, a_oldValA, a_oldCellB, a_oldValB, a_work) := by
      rintro hf' f1 ⟨h', f2, f3, f4⟩
      rw [g2]
      have hfr : fr_X r (f_replicas, f_writes, a_origin, a_turn, a_stamp, a_kindOf, a_cellOf, a_valueOf, a_clock, a_seen, a_fixed, a_done, a_heldFrom, a_trimmed, a_log, a_stableCell, a_nowCell, a_waiting, a_applied, a_tent, a_outcome, a_oldCellA, a_oldValA, a_oldCellB, a_oldValB, a_work) (f_replicas, f_writes, a_origin, a_turn, a_stamp, a_kindOf, a_cellOf, a_valueOf, a_clock, a_seen, a_fixed, a_done, hf', ta, a_log, a_stableCell, a_nowCell, a_waiting, a_applied, a_tent, a_outcome, a_oldCellA, a_oldValA, a_oldCellB, a_oldValB, a_work) := ⟨@rfl _ f_replicas, @rfl _ f_writes, @rfl _ a_origin, @rfl _ a_turn, @rfl _ a_stamp, @rfl _ a_kindOf, @rfl _ a_cellOf, @rfl _ a_valueOf, @fr_ag_r _ _ a_clock, @fr_ag_r _ _ a_seen, @fr_ag_r _ _ a_fixed, @fr_ag_r _ _ a_done, f1, g1, @fr_ag_r _ _ a_log, @fr_ag_r _ _ a_stableCell, @fr_ag_r _ _ a_nowCell, @fr_ag_r _ _ a_waiting, @fr_ag_r _ _ a_applied, @fr_ag_r _ _ a_tent, @fr_ag_r _ _ a_outcome, @fr_ag_r _ _ a_oldCellA, @fr_ag_r _ _ a_oldValA, @fr_ag_r _ _ a_oldCellB, @fr_ag_r _ _ a_oldValB⟩
      refine K _ ⟨x1, x2, x3, fun r' hr' => ?_⟩
      by_cases e : r' = r
      · subst e
        rw [gh_us]
        exact ⟨hT, hA, hC, hS, hN, hF, ⟨l1, l2, h', f2, f3, fun i h1 h2 => l5 i (by omega) h2⟩, ⟨k1, k2, g2, gb_48 k4 (by omega)⟩⟩
      · rw [gh_un e]
        exact rp_fr hfr e (x4 r' hr')
    unfold wX_trim_54
    rw [nI_clamp (n := r) (by omega), l4]
    refine ⟨i4, pk_le k hh (fun h => ⟨i4, ?_⟩) (fun h => ⟨i4, nm_e ⟨i4, ?_⟩⟩)⟩
    · exact fin a_heldFrom fr_ag_r ⟨hh, l3, l4, Nat.le_refl _⟩
    · exact fin _ fr_ag_1 ⟨k, hk, pk_us, by omega⟩
  unfold wX_trim_37
  rw [nI_clamp (n := r) (by omega), k3]
  refine ⟨i4, pk_le k (tr r) (fun h => ?_) (fun h => ⟨i4, nm_e ?_⟩)⟩
  · refine G a_trimmed fr_ag_r ?_
    rw [k3]; unfold gb_x; rw [if_neg (by omega)]
  · refine G _ fr_ag_1 ?_
    rw [pk_us]; unfold gb_x; rw [if_pos h]
end xtr
theorem x_tr_e1 {post : Int32 → SX → Prop} {u : SX} {nr : Nat} {x v2 : Int32} (h4 : nr ≤ 4) (hr : sx_replicas u = nI nr) (h : x < 0 ∨ nI nr ≤ x) (hp : post (-1) u) : wpX_trim post u x v2 := by
  obtain ⟨f_replicas, f_writes, a_origin, a_turn, a_stamp, a_kindOf, a_cellOf, a_valueOf, a_clock, a_seen, a_fixed, a_done, a_heldFrom, a_trimmed, a_log, a_stableCell, a_nowCell, a_waiting, a_applied, a_tent, a_outcome, a_oldCellA, a_oldValA, a_oldCellB, a_oldValB, a_work⟩ := u
  unfold wpX_trim
  dsimp only
  exact x_bad1 h4 hr h (br_f (by decide) hp)
/-- j: the amount asked for, none if negative -/
theorem x_trim {nr nw : Nat} {P : Nat → gh_W} {ord : Nat → Nat} {T : Nat → List Nat} {sn : Nat → Nat → Nat} {dn ck tr : Nat → Nat} {u : SX} {r j : Nat} {v : Int32} {post : Int32 → SX → Prop} (X : rx_X nr nw P ord T sn dn ck tr u) (h4 : nr ≤ 4) (hr : r < nr) (hj : (v < 0 ∧ j = 0) ∨ (v = nI j ∧ j < 2 ^ 31))
    (K : ∀ u', rx_X nr nw P ord T sn dn ck (gh_u tr r (gb_x (tr r) (min j (dn r)))) u' → post (nI (gb_x (tr r) (min j (dn r)))) u') : wpX_trim post u (nI r) v := by
  obtain ⟨f_replicas, f_writes, a_origin, a_turn, a_stamp, a_kindOf, a_cellOf, a_valueOf, a_clock, a_seen, a_fixed, a_done, a_heldFrom, a_trimmed, a_log, a_stableCell, a_nowCell, a_waiting, a_applied, a_tent, a_outcome, a_oldCellA, a_oldValA, a_oldCellB, a_oldValB, a_work⟩ := u
  have x1 := X.1
  have hL := (X.2.2.2 r hr).2.2.2.2.2.2.1
  have l1 : a_done r = nI (dn r) := hL.1
  have l2 := hL.2.1
  have j31 : j < 2 ^ 31 := by omega
  have G : wX_trim_19 post (nI r) (nI j) f_replicas f_writes a_origin a_turn a_stamp a_kindOf a_cellOf a_valueOf a_clock a_seen a_fixed a_done a_heldFrom a_trimmed a_log a_stableCell a_nowCell a_waiting a_applied a_tent a_outcome a_oldCellA a_oldValA a_oldCellB a_oldValB a_work := by
    unfold wX_trim_19
    have i4 : vp_in (nI r) 4 := vp_in_nI (by omega) (by omega)
    rw [nI_clamp (n := r) (by omega), l1]
    refine ⟨i4, pk_le j (dn r) (fun h => ?_) (fun h => ⟨i4, nm_e ?_⟩)⟩
    · rw [Nat.min_eq_left h] at K
      exact x_tr37 X h4 hr h K
    · rw [Nat.min_eq_right (by omega)] at K
      exact x_tr37 X h4 hr (Nat.le_refl _) K
  unfold wpX_trim
  dsimp only
  refine x_bad0 h4 x1 hr (br_t rfl ?_)
  rcases hj with ⟨h, e⟩ | ⟨h, e⟩
  · subst e
    exact br_f (Int32.not_le.mpr h) G
  · rw [h]
    exact br_t (nI_pos' e) G
theorem x_ce_e1 {post : Int32 → Prop} {u : SX} {nr : Nat} {x v2 : Int32} (h4 : nr ≤ 4) (hr : sx_replicas u = nI nr) (h : x < 0 ∨ nI nr ≤ x) (hp : post 0) : wpX_cell post u x v2 := by
  obtain ⟨f_replicas, f_writes, a_origin, a_turn, a_stamp, a_kindOf, a_cellOf, a_valueOf, a_clock, a_seen, a_fixed, a_done, a_heldFrom, a_trimmed, a_log, a_stableCell, a_nowCell, a_waiting, a_applied, a_tent, a_outcome, a_oldCellA, a_oldValA, a_oldCellB, a_oldValB, a_work⟩ := u
  unfold wpX_cell
  dsimp only
  exact x_bad1 h4 hr h (br_f (by decide) hp)
theorem x_ce_e2 {post : Int32 → Prop} {u : SX} {nr r : Nat} {v2 : Int32} (h4 : nr ≤ 4) (hr : sx_replicas u = nI nr) (hl : r < nr) (h : v2 < 0 ∨ ¬ v2 ≤ 7) (hp : post 0) : wpX_cell post u (nI r) v2 := by
  obtain ⟨f_replicas, f_writes, a_origin, a_turn, a_stamp, a_kindOf, a_cellOf, a_valueOf, a_clock, a_seen, a_fixed, a_done, a_heldFrom, a_trimmed, a_log, a_stableCell, a_nowCell, a_waiting, a_applied, a_tent, a_outcome, a_oldCellA, a_oldValA, a_oldCellB, a_oldValB, a_work⟩ := u
  unfold wpX_cell
  dsimp only
  refine x_bad0 h4 hr hl (br_t rfl ?_)
  rcases h with h | h
  · exact br_t h hp
  · exact br_c (fun _ => hp) (fun _ => br_f h hp)
theorem x_cell {nr nw : Nat} {P : Nat → gh_W} {ord : Nat → Nat} {T : Nat → List Nat} {sn : Nat → Nat → Nat} {dn ck tr : Nat → Nat} {u : SX} {r c : Nat} {post : Int32 → Prop} (X : rx_X nr nw P ord T sn dn ck tr u) (h4 : nr ≤ 4) (hr : r < nr) (hc : c < 8)
    (hp : post (rn_l P (ro_s P ord (dn r)) (T r) c)) : wpX_cell post u (nI r) (nI c) := by
  have h := (X.2.2.2 r hr).2.2.1.2.1 c hc
  have x1 := X.1
  rw [List.take_length] at h
  obtain ⟨f_replicas, f_writes, a_origin, a_turn, a_stamp, a_kindOf, a_cellOf, a_valueOf, a_clock, a_seen, a_fixed, a_done, a_heldFrom, a_trimmed, a_log, a_stableCell, a_nowCell, a_waiting, a_applied, a_tent, a_outcome, a_oldCellA, a_oldValA, a_oldCellB, a_oldValB, a_work⟩ := u
  change a_nowCell (r * 8 + c) = _ at h
  unfold wpX_cell
  dsimp only
  refine x_bad0 h4 x1 hr (br_t rfl (br_f (nI_pos (by omega)) (br_t (nI_le (b := 7) (by omega) (by omega)) ?_)))
  rw [ix_8, nI_clamp (by omega), h]
  exact ⟨vp_in_nI (by omega) (by omega), hp⟩
theorem x_sb_e1 {post : Int32 → Prop} {u : SX} {nr : Nat} {x v2 : Int32} (h4 : nr ≤ 4) (hr : sx_replicas u = nI nr) (h : x < 0 ∨ nI nr ≤ x) (hp : post 0) : wpX_stable post u x v2 := by
  obtain ⟨f_replicas, f_writes, a_origin, a_turn, a_stamp, a_kindOf, a_cellOf, a_valueOf, a_clock, a_seen, a_fixed, a_done, a_heldFrom, a_trimmed, a_log, a_stableCell, a_nowCell, a_waiting, a_applied, a_tent, a_outcome, a_oldCellA, a_oldValA, a_oldCellB, a_oldValB, a_work⟩ := u
  unfold wpX_stable
  dsimp only
  exact x_bad1 h4 hr h (br_f (by decide) hp)
theorem x_sb_e2 {post : Int32 → Prop} {u : SX} {nr r : Nat} {v2 : Int32} (h4 : nr ≤ 4) (hr : sx_replicas u = nI nr) (hl : r < nr) (h : v2 < 0 ∨ ¬ v2 ≤ 7) (hp : post 0) : wpX_stable post u (nI r) v2 := by
  obtain ⟨f_replicas, f_writes, a_origin, a_turn, a_stamp, a_kindOf, a_cellOf, a_valueOf, a_clock, a_seen, a_fixed, a_done, a_heldFrom, a_trimmed, a_log, a_stableCell, a_nowCell, a_waiting, a_applied, a_tent, a_outcome, a_oldCellA, a_oldValA, a_oldCellB, a_oldValB, a_work⟩ := u
  unfold wpX_stable
  dsimp only
  refine x_bad0 h4 hr hl (br_t rfl ?_)
  rcases h with h | h
  · exact br_t h hp
  · exact br_c (fun _ => hp) (fun _ => br_f h hp)
theorem x_stable {nr nw : Nat} {P : Nat → gh_W} {ord : Nat → Nat} {T : Nat → List Nat} {sn : Nat → Nat → Nat} {dn ck tr : Nat → Nat} {u : SX} {r c : Nat} {post : Int32 → Prop} (X : rx_X nr nw P ord T sn dn ck tr u) (h4 : nr ≤ 4) (hr : r < nr) (hc : c < 8)
    (hp : post (ro_s P ord (dn r) c)) : wpX_stable post u (nI r) (nI c) := by
  have h := (X.2.2.2 r hr).2.2.2.1 c hc
  have x1 := X.1
  obtain ⟨f_replicas, f_writes, a_origin, a_turn, a_stamp, a_kindOf, a_cellOf, a_valueOf, a_clock, a_seen, a_fixed, a_done, a_heldFrom, a_trimmed, a_log, a_stableCell, a_nowCell, a_waiting, a_applied, a_tent, a_outcome, a_oldCellA, a_oldValA, a_oldCellB, a_oldValB, a_work⟩ := u
  change a_stableCell (r * 8 + c) = _ at h
  unfold wpX_stable
  dsimp only
  refine x_bad0 h4 x1 hr (br_t rfl (br_f (nI_pos (by omega)) (br_t (nI_le (b := 7) (by omega) (by omega)) ?_)))
  rw [ix_8, nI_clamp (by omega), h]
  exact ⟨vp_in_nI (by omega) (by omega), hp⟩
theorem x_kn_e1 {post : Int32 → Prop} {u : SX} {nr : Nat} {x : Int32} (h4 : nr ≤ 4) (hr : sx_replicas u = nI nr) (h : x < 0 ∨ nI nr ≤ x) (hp : post (-1)) : wpX_known post u x := by
  obtain ⟨f_replicas, f_writes, a_origin, a_turn, a_stamp, a_kindOf, a_cellOf, a_valueOf, a_clock, a_seen, a_fixed, a_done, a_heldFrom, a_trimmed, a_log, a_stableCell, a_nowCell, a_waiting, a_applied, a_tent, a_outcome, a_oldCellA, a_oldValA, a_oldCellB, a_oldValB, a_work⟩ := u
  unfold wpX_known
  dsimp only
  exact x_bad1 h4 hr h (br_f (by decide) hp)
section xkn
variable {f_replicas f_writes : Int32} {a_origin a_turn a_stamp a_kindOf a_cellOf a_valueOf a_clock a_seen a_fixed a_done a_heldFrom a_trimmed a_log a_stableCell a_nowCell a_waiting a_applied a_tent a_outcome a_oldCellA a_oldValA a_oldCellB a_oldValB a_work : Nat → Int32}
theorem x_kn14 {r : Nat} {sn : Nat → Nat} {post : Int32 → Prop} (hr : r < 4) (hN : rp_n r sn a_seen) (hp : post (nI (lr_n (fun _ => 0) sn 4))) :
    ∀ m i n, i + m = 4 → m < n → wX_known_14 post (nI r) f_replicas f_writes a_origin a_turn a_stamp a_kindOf a_cellOf a_valueOf a_clock a_seen a_fixed a_done a_heldFrom a_trimmed a_log a_stableCell a_nowCell a_waiting a_applied a_tent a_outcome a_oldCellA a_oldValA a_oldCellB a_oldValB a_work n (nI (lr_n (fun _ => 0) sn i)) (nI i) := by
  intro m
  induction m with
  | zero =>
    intro i n hi hn
    obtain ⟨n, rfl⟩ : ∃ k, n = k + 1 := ⟨n - 1, by omega⟩
    have e : i = 4 := by omega
    subst e
    rw [wX_known_14]
    exact pk_le 4 4 (fun _ => hp) (fun h => by omega)
  | succ m ih =>
    intro i n hi hn
    obtain ⟨n, rfl⟩ : ∃ k, n = k + 1 := ⟨n - 1, by omega⟩
    rw [wX_known_14]
    dsimp only
    rw [ix_4, nI_clamp (by omega), (hN i (by omega)).1]
    exact pk_le 4 i (fun h => by omega) (fun _ => ⟨vp_in_nI (by omega) (by omega), nm_r (nI_add _ _) (nm_r (nI_1 i) (ih (i + 1) n (by omega) (by omega)))⟩)
end xkn
theorem x_known {nr nw : Nat} {P : Nat → gh_W} {ord : Nat → Nat} {T : Nat → List Nat} {sn : Nat → Nat → Nat} {dn ck tr : Nat → Nat} {u : SX} {r : Nat} {post : Int32 → Prop} (X : rx_X nr nw P ord T sn dn ck tr u) (h4 : nr ≤ 4) (hr : r < nr)
    (hp : post (nI (lr_n (fun _ => 0) (sn r) 4))) : wpX_known post u (nI r) := by
  have h := (X.2.2.2 r hr).2.2.2.2.1
  have x1 := X.1
  obtain ⟨f_replicas, f_writes, a_origin, a_turn, a_stamp, a_kindOf, a_cellOf, a_valueOf, a_clock, a_seen, a_fixed, a_done, a_heldFrom, a_trimmed, a_log, a_stableCell, a_nowCell, a_waiting, a_applied, a_tent, a_outcome, a_oldCellA, a_oldValA, a_oldCellB, a_oldValB, a_work⟩ := u
  unfold wpX_known
  dsimp only
  exact x_bad0 h4 x1 hr (br_t rfl ⟨5, x_kn14 (by omega) h hp 4 0 5 rfl (by omega)⟩)
theorem x_cd_e1 {post : Int32 → Prop} {u : SX} {nr : Nat} {x : Int32} (h4 : nr ≤ 4) (hr : sx_replicas u = nI nr) (h : x < 0 ∨ nI nr ≤ x) (hp : post (-1)) : wpX_committed post u x := by
  obtain ⟨f_replicas, f_writes, a_origin, a_turn, a_stamp, a_kindOf, a_cellOf, a_valueOf, a_clock, a_seen, a_fixed, a_done, a_heldFrom, a_trimmed, a_log, a_stableCell, a_nowCell, a_waiting, a_applied, a_tent, a_outcome, a_oldCellA, a_oldValA, a_oldCellB, a_oldValB, a_work⟩ := u
  unfold wpX_committed
  dsimp only
  exact x_bad1 h4 hr h (br_f (by decide) hp)
theorem x_cd {nr nw : Nat} {P : Nat → gh_W} {ord : Nat → Nat} {T : Nat → List Nat} {sn : Nat → Nat → Nat} {dn ck tr : Nat → Nat} {u : SX} {r : Nat} {post : Int32 → Prop} (X : rx_X nr nw P ord T sn dn ck tr u) (h4 : nr ≤ 4) (hr : r < nr)
    (hp : post (nI (dn r))) : wpX_committed post u (nI r) := by
  have h := (X.2.2.2 r hr).2.2.2.2.2.2.1.1
  have x1 := X.1
  obtain ⟨f_replicas, f_writes, a_origin, a_turn, a_stamp, a_kindOf, a_cellOf, a_valueOf, a_clock, a_seen, a_fixed, a_done, a_heldFrom, a_trimmed, a_log, a_stableCell, a_nowCell, a_waiting, a_applied, a_tent, a_outcome, a_oldCellA, a_oldValA, a_oldCellB, a_oldValB, a_work⟩ := u
  change a_done r = nI (dn r) at h
  unfold wpX_committed
  dsimp only
  refine x_bad0 h4 x1 hr (br_t rfl ?_)
  rw [nI_clamp (by omega), h]
  exact ⟨vp_in_nI (by omega) (by omega), hp⟩
theorem x_sd_e1 {post : Int32 → Prop} {u : SX} {nr : Nat} {x v2 : Int32} (h4 : nr ≤ 4) (hr : sx_replicas u = nI nr) (h : x < 0 ∨ nI nr ≤ x) (hp : post (-1)) : wpX_standing post u x v2 := by
  obtain ⟨f_replicas, f_writes, a_origin, a_turn, a_stamp, a_kindOf, a_cellOf, a_valueOf, a_clock, a_seen, a_fixed, a_done, a_heldFrom, a_trimmed, a_log, a_stableCell, a_nowCell, a_waiting, a_applied, a_tent, a_outcome, a_oldCellA, a_oldValA, a_oldCellB, a_oldValB, a_work⟩ := u
  unfold wpX_standing
  dsimp only
  exact x_bad1 h4 hr h (br_f (by decide) hp)
theorem x_sd_e2 {post : Int32 → Prop} {u : SX} {nr nw r : Nat} {v2 : Int32} (h4 : nr ≤ 4) (hr : sx_replicas u = nI nr) (hw : sx_writes u = nI nw) (hl : r < nr) (h : v2 < 0 ∨ nI nw ≤ v2) (hp : post 0) : wpX_standing post u (nI r) v2 := by
  obtain ⟨f_replicas, f_writes, a_origin, a_turn, a_stamp, a_kindOf, a_cellOf, a_valueOf, a_clock, a_seen, a_fixed, a_done, a_heldFrom, a_trimmed, a_log, a_stableCell, a_nowCell, a_waiting, a_applied, a_tent, a_outcome, a_oldCellA, a_oldValA, a_oldCellB, a_oldValB, a_work⟩ := u
  change f_writes = nI nw at hw
  subst hw
  unfold wpX_standing
  dsimp only
  refine x_bad0 h4 hr hl (br_t rfl ?_)
  rcases h with h | h
  · exact br_t h hp
  · exact br_c (fun _ => hp) (fun _ => br_f (Int32.not_lt.mpr h) hp)
section xsd
variable {f_replicas f_writes : Int32} {a_origin a_turn a_stamp a_kindOf a_cellOf a_valueOf a_clock a_seen a_fixed a_done a_heldFrom a_trimmed a_log a_stableCell a_nowCell a_waiting a_applied a_tent a_outcome a_oldCellA a_oldValA a_oldCellB a_oldValB a_work : Nat → Int32}
theorem x_sd72 {r w p : Nat} {T : List Nat} {post : Int32 → Prop} (hr : r < 4) (hw : w < 48) (hT : rp_T r T a_waiting a_tent) (hp : T[p]? = some w) (hq : ∀ j, j < p → ¬ T[j]? = some w) (hpost : post (a_outcome (r * 48 + p))) :
    ∀ m i n, i + m = p → m < n → wX_standing_72 post (nI r) (nI w) f_replicas f_writes a_origin a_turn a_stamp a_kindOf a_cellOf a_valueOf a_clock a_seen a_fixed a_done a_heldFrom a_trimmed a_log a_stableCell a_nowCell a_waiting a_applied a_tent a_outcome a_oldCellA a_oldValA a_oldCellB a_oldValB a_work n (nI i) := by
  obtain ⟨t1, t2, t3, t4⟩ := hT
  have hpl := li_lt hp
  have i4 : vp_in (nI r) 4 := vp_in_nI hr (by omega)
  intro m
  induction m with
  | zero =>
    intro i n hi hn
    obtain ⟨n, rfl⟩ : ∃ k, n = k + 1 := ⟨n - 1, by omega⟩
    have e : i = p := by omega
    subst e
    have ii : vp_in (nI (r * 48 + i)) 192 := vp_in_nI (by omega) (by omega)
    rw [wX_standing_72]
    dsimp only
    rw [nI_clamp (n := r) (by omega), t1, ix_48, nI_clamp (n := r * 48 + i) (by omega), t4 i w hp]
    exact ⟨i4, br_f (nI_ge hpl (by omega)) ⟨ii, br_t rfl ⟨ii, hpost⟩⟩⟩
  | succ m ih =>
    intro i n hi hn
    obtain ⟨n, rfl⟩ : ∃ k, n = k + 1 := ⟨n - 1, by omega⟩
    have hil : i < T.length := by omega
    have hx : T[i]? = some (T[i]'hil) := List.getElem?_eq_getElem hil
    generalize T[i]'hil = x at hx
    have hx48 := t3 x (List.mem_of_getElem? hx)
    have hne : x ≠ w := fun e => hq i (by omega) (by rw [hx, e])
    rw [wX_standing_72]
    dsimp only
    rw [nI_clamp (n := r) (by omega), t1, ix_48, nI_clamp (n := r * 48 + i) (by omega), t4 i x hx]
    exact ⟨i4, br_f (nI_ge hil (by omega)) ⟨vp_in_nI (by omega) (by omega), br_f (fun e => hne ((nI_eq (by omega) (by omega)).mp e)) (nm_r (nI_1 i) (ih (i + 1) n (by omega) (by omega)))⟩⟩
end xsd
theorem x_standing {nr nw : Nat} {P : Nat → gh_W} {ord : Nat → Nat} {T : Nat → List Nat} {sn : Nat → Nat → Nat} {dn ck tr : Nat → Nat} {u : SX} {r w : Nat} {post : Int32 → Prop} (I : gh_inv nr nw P ord T sn dn ck tr) (X : rx_X nr nw P ord T sn dn ck tr u) (hr : r < nr) (hw : w < nw)
    (K0 : sn r (gh_og (P w)) ≤ gh_tn (P w) → post 0) (K1 : gh_tn (P w) < ct_n (gh_q P ord) (gh_og (P w)) (dn r) → post 1)
    (K2 : ∀ p, (T r)[p]? = some w → post (ca_do (P w) (rn_l P (ro_s P ord (dn r)) ((T r).take p))).1) : wpX_standing post u (nI r) (nI w) := by
  obtain ⟨H, O, R⟩ := I
  have h4 := H.2.1
  obtain ⟨b1, b2, b3, b4⟩ := R r hr
  obtain ⟨x1, x2, x3, x4⟩ := X
  have hR := x4 r hr
  obtain ⟨f_replicas, f_writes, a_origin, a_turn, a_stamp, a_kindOf, a_cellOf, a_valueOf, a_clock, a_seen, a_fixed, a_done, a_heldFrom, a_trimmed, a_log, a_stableCell, a_nowCell, a_waiting, a_applied, a_tent, a_outcome, a_oldCellA, a_oldValA, a_oldCellB, a_oldValB, a_work⟩ := u
  change f_writes = nI nw at x2
  change cx_a nw P a_origin a_turn a_stamp a_kindOf a_cellOf a_valueOf at x3
  obtain ⟨hT, hA, hC, hS, hN, hF, hL, hK⟩ := hR
  change rp_T _ _ a_waiting a_tent at hT
  change rp_A _ _ a_applied at hA
  change rp_C _ _ _ _ _ a_nowCell a_outcome a_oldCellA a_oldValA a_oldCellB a_oldValB at hC
  change rp_S _ _ _ _ a_stableCell at hS
  change rp_n _ _ a_seen at hN
  change rp_f _ _ _ _ a_fixed at hF
  change rp_L _ _ _ a_done a_heldFrom a_log at hL
  change rp_K _ _ _ a_clock a_trimmed at hK
  subst x2
  obtain ⟨h48, hws⟩ := x3
  obtain ⟨⟨o4, t48, _⟩, eo, et, _⟩ := hws w hw
  obtain ⟨s1, s2⟩ := hN _ o4
  have f1 := hF _ o4
  have f2 := ct_le48 (P := P) (ord := ord) (o := gh_og (P w)) hL.2.1
  have iw : vp_in (nI w) 48 := vp_in_nI (by omega) (by omega)
  have io : vp_in (nI (r * 4 + gh_og (P w))) 16 := vp_in_nI (by omega) (by omega)
  unfold wpX_standing
  dsimp only
  refine x_bad0 h4 x1 hr (br_t rfl (br_f (nI_pos (by omega)) (br_t (nI_lt hw (by omega)) ?_)))
  rw [nI_clamp (n := w) (by omega), eo, et, ix_4]
  refine ⟨iw, nm_e ?_⟩
  rw [nI_clamp (n := r * 4 + gh_og (P w)) (by omega), s1, f1]
  refine ⟨iw, io, pk_lt _ _ (fun h => ⟨iw, io, pk_le _ _ (fun h2 => ?_) (fun h2 => K1 h2)⟩) (fun h => K0 h)⟩
  have hm : w ∈ T r := (b2.2.2.2 w).mpr ⟨hw, h2, h⟩
  obtain ⟨p, hp⟩ := List.mem_iff_getElem?.mp hm
  have hpl := li_lt hp
  have ho := (hC.2.2 p w hpl hp).1
  refine ⟨p + 1, x_sd72 (by omega) (by omega) hT hp (fun j hj hjw => ?_) ?_ p 0 (p + 1) (by omega) (by omega)⟩
  · have := (List.getElem?_inj (li_lt hjw) (so_nd b2.2.2.1)).mp (hjw.trans hp.symm)
    omega
  · rw [ho]; exact K2 p hp
end
section
/-! Y: the errors, write, bring, commit, trim, the questions -/
theorem y_bad1 {post : Int32 → Prop} {v : SY} {nr : Nat} {x : Int32} (h4 : nr ≤ 4) (hr : sy_replicas v = nI nr) (h : x < 0 ∨ nI nr ≤ x) (hp : post 1) : wpY_bad post v x := by
  obtain ⟨f_replicas, f_writes, f_committed, a_origin, a_stamp, a_kind, a_cellOf, a_valueOf, a_knows, a_order, a_m, a_clock, a_trimmed, a_store, a_stands⟩ := v
  change f_replicas = nI nr at hr
  unfold wpY_bad
  dsimp only
  rw [hr]
  rcases h with h | h
  · exact br_t h hp
  · exact br_c (fun _ => hp) (fun _ => br_f (Int32.not_lt.mpr h) hp)
theorem y_bad0 {post : Int32 → Prop} {v : SY} {nr r : Nat} (h4 : nr ≤ 4) (hr : sy_replicas v = nI nr) (h : r < nr) (hp : post 0) : wpY_bad post v (nI r) := by
  obtain ⟨f_replicas, f_writes, f_committed, a_origin, a_stamp, a_kind, a_cellOf, a_valueOf, a_knows, a_order, a_m, a_clock, a_trimmed, a_store, a_stands⟩ := v
  change f_replicas = nI nr at hr
  unfold wpY_bad
  dsimp only
  rw [hr]
  exact br_f (nI_pos (by omega)) (br_t (nI_lt h (by omega)) hp)
theorem y_wr_e1 {post : Int32 → SY → Prop} {v : SY} {nr : Nat} {x v2 v3 v4 : Int32} (h4 : nr ≤ 4) (hr : sy_replicas v = nI nr) (h : x < 0 ∨ nI nr ≤ x) (hp : post (-1) v) : wpY_write post v x v2 v3 v4 := by
  obtain ⟨f_replicas, f_writes, f_committed, a_origin, a_stamp, a_kind, a_cellOf, a_valueOf, a_knows, a_order, a_m, a_clock, a_trimmed, a_store, a_stands⟩ := v
  unfold wpY_write
  dsimp only
  exact y_bad1 h4 hr h (br_f (by decide) hp)
theorem y_wr_e2 {post : Int32 → SY → Prop} {v : SY} {nr r : Nat} {v2 v3 v4 : Int32} (h4 : nr ≤ 4) (hr : sy_replicas v = nI nr) (h : r < nr) (h2 : v2 < 0 ∨ ¬ v2 ≤ 5) (hp : post (-2) v) : wpY_write post v (nI r) v2 v3 v4 := by
  obtain ⟨f_replicas, f_writes, f_committed, a_origin, a_stamp, a_kind, a_cellOf, a_valueOf, a_knows, a_order, a_m, a_clock, a_trimmed, a_store, a_stands⟩ := v
  unfold wpY_write
  dsimp only
  refine y_bad0 h4 hr h (br_t rfl ?_)
  rcases h2 with h2 | h2
  · exact br_t h2 hp
  · exact br_c (fun _ => hp) (fun _ => br_f h2 hp)
theorem y_wr_e3 {post : Int32 → SY → Prop} {v : SY} {nr r kd : Nat} {v3 v4 : Int32} (h4 : nr ≤ 4) (hr : sy_replicas v = nI nr) (h : r < nr) (hk : kd ≤ 5) (h3 : v3 < 0 ∨ ¬ v3 ≤ 7) (hp : post (-3) v) : wpY_write post v (nI r) (nI kd) v3 v4 := by
  obtain ⟨f_replicas, f_writes, f_committed, a_origin, a_stamp, a_kind, a_cellOf, a_valueOf, a_knows, a_order, a_m, a_clock, a_trimmed, a_store, a_stands⟩ := v
  unfold wpY_write
  dsimp only
  refine y_bad0 h4 hr h (br_t rfl (br_f (nI_pos (by omega)) (br_t (nI_le (b := 5) hk (by omega)) ?_)))
  rcases h3 with h3 | h3
  · exact br_t h3 hp
  · exact br_c (fun _ => hp) (fun _ => br_f h3 hp)
theorem y_wr_e4 {post : Int32 → SY → Prop} {v : SY} {nr nw r kd ce : Nat} {v4 : Int32} (h4 : nr ≤ 4) (hr : sy_replicas v = nI nr) (h : r < nr) (hk : kd ≤ 5) (hc : ce < 8) (hw : sy_writes v = nI nw) (hnw : nw = 48) (hp : post (-4) v) : wpY_write post v (nI r) (nI kd) (nI ce) v4 := by
  obtain ⟨f_replicas, f_writes, f_committed, a_origin, a_stamp, a_kind, a_cellOf, a_valueOf, a_knows, a_order, a_m, a_clock, a_trimmed, a_store, a_stands⟩ := v
  change f_writes = nI nw at hw
  unfold wpY_write
  dsimp only
  refine y_bad0 h4 hr h (br_t rfl (br_f (nI_pos (by omega)) (br_t (nI_le (b := 5) hk (by omega)) (br_f (nI_pos (by omega)) (br_t (nI_le (b := 7) (by omega) (by omega)) (br_f ?_ hp))))))
  rw [hw, hnw]; decide
theorem y_write {nr nw : Nat} {P : Nat → gh_W} {ord : Nat → Nat} {T : Nat → List Nat} {sn : Nat → Nat → Nat} {dn ck tr : Nat → Nat} {v : SY} {r kd ce : Nat} {x : Int32} {post : Int32 → SY → Prop}
    (I : gh_inv nr nw P ord T sn dn ck tr) (Y : ry_Y nr nw P ord sn dn ck tr v) (hr : r < nr) (hnw : nw < 48) (hkd : kd ≤ 5) (hce : ce < 8)
    (K : ∀ v', ry_Y nr (nw + 1) (gh_u P nw (wr_p P ck r nw kd ce x)) ord (gh_u sn r (gh_u (sn r) r (sn r r + 1))) dn (gh_u ck r (ck r + 1)) tr v' → post (nI nw) v') :
    wpY_write post v (nI r) (nI kd) (nI ce) x := by
  obtain ⟨H, O, R⟩ := I
  have h4 := H.2.1
  obtain ⟨ar1, ar2, ar3, ar4⟩ := R r hr
  have hckr := H.2.2.2.2.2 r hr
  obtain ⟨f_replicas, f_writes, f_committed, a_origin, a_stamp, a_kind, a_cellOf, a_valueOf, a_knows, a_order, a_m, a_clock, a_trimmed, a_store, a_stands⟩ := v
  change ry_a nr nw P ord sn dn ck tr f_replicas f_writes f_committed a_origin a_stamp a_kind a_cellOf a_valueOf a_knows a_order a_m a_clock a_trimmed at Y
  obtain ⟨y1, y2, y3, y4, y5, y6, y7⟩ := Y
  subst y2
  have i4 : vp_in (nI r) 4 := vp_in_nI (by omega) (by omega)
  have i5 : vp_in (nI nw) 48 := vp_in_nI (by omega) (by omega)
  have i6 : vp_in (nI (r * 48 + nw)) 192 := vp_in_nI (by omega) (by omega)
  unfold wpY_write
  dsimp only
  refine y_bad0 (nr := nr) h4 y1 hr (br_t rfl (br_f (nI_pos (by omega)) (br_t (nI_le (b := 5) hkd (by omega)) (br_f (nI_pos (by omega)) (br_t (nI_le (b := 7) (by omega) (by omega)) (br_t (nI_lt (b := 48) hnw (by omega)) ?_))))))
  rw [ix_48, nI_clamp (n := r) (by omega), nI_clamp (n := nw) (by omega), nI_clamp (n := r * 48 + nw) (by omega), (y7 r hr).2.1, nI_1, nI_1]
  refine nm_e ⟨i4, i4, nm_e ⟨i5, nm_e ⟨i4, i5, nm_r (e' := upd a_stamp nw (nI (ck r + 1))) (by rw [pk_us]) ⟨i5, nm_e ⟨i5, nm_e ⟨i5, nm_e ⟨i6, nm_r (e' := upd a_knows (r * 48 + nw) 1) (by rw [show vp_nar .boolean 1 = 1 by decide]) ?_⟩⟩⟩⟩⟩⟩⟩
  refine K _ ⟨y1, rfl, y3, ⟨by omega, fun w hw => ?_⟩, fun r' hr' w hw => ?_, y6, fun r' hr' => ?_⟩
  · show _ ∧ upd a_origin nw (nI r) w = _ ∧ upd a_stamp nw (nI (ck r + 1)) w = _ ∧ upd a_kind nw (nI kd) w = _ ∧ upd a_cellOf nw (nI ce) w = _ ∧ upd a_valueOf nw x w = _
    rcases Nat.lt_or_ge w nw with c | c
    · rw [gh_wP c, pk_un (by omega), pk_un (by omega), pk_un (by omega), pk_un (by omega), pk_un (by omega)]
      exact y4.2 w c
    · have e : w = nw := by omega
      subst e
      rw [gh_us, pk_us, pk_us, pk_us, pk_us, pk_us]
      have := ct_le P r w
      exact ⟨⟨by show r < 4; omega, by show ct_n P r w < 48; omega, by show ck r + 1 ≤ 48; omega, hkd, hce⟩, rfl, rfl, rfl, rfl, rfl⟩
  · show upd a_knows (r * 48 + nw) 1 (r' * 48 + w) = kb_n _ _ _ w
    have hP : ∀ w, w < nw → gh_u P nw (wr_p P ck r nw kd ce x) w = P w := fun w h => gh_wP h
    by_cases e : r' = r
    · subst e
      rw [gh_us]
      by_cases ew : w = nw
      · subst ew
        rw [pk_us]
        unfold kb_n
        rw [if_pos]
        rw [gh_us]
        refine ⟨by omega, ?_⟩
        show ct_n P r' w < gh_u (sn r') r' (sn r' r' + 1) r'
        rw [gh_us]; omega
      · rw [pk_un (by omega), y5 r' hr' w hw]
        unfold kb_n
        by_cases c : w < nw
        · rw [hP w c]
          have t1 := gh_tn_lt H c
          by_cases eo : gh_og (P w) = r'
          · rw [eo, gh_us]
            rw [eo] at t1
            rw [if_pos ⟨c, by omega⟩, if_pos ⟨by omega, by omega⟩]
          · rw [gh_un eo]
            by_cases c2 : gh_tn (P w) < sn r' (gh_og (P w))
            · rw [if_pos ⟨c, c2⟩, if_pos ⟨by omega, c2⟩]
            · rw [if_neg (fun z => c2 z.2), if_neg (fun z => c2 z.2)]
        · rw [if_neg (fun z => c z.1), if_neg (fun z => by have := z.1; omega)]
    · rw [gh_un e, pk_un (by omega), y5 r' hr' w hw]
      unfold kb_n
      by_cases c : w < nw
      · rw [hP w c]
        by_cases c2 : gh_tn (P w) < sn r' (gh_og (P w))
        · rw [if_pos ⟨c, c2⟩, if_pos ⟨by omega, c2⟩]
        · rw [if_neg (fun z => c2 z.2), if_neg (fun z => c2 z.2)]
      · rw [if_neg (fun z => c z.1), if_neg]
        rintro ⟨z1, z2⟩
        have ew : w = nw := by omega
        subst ew
        rw [gh_us] at z2
        have z3 : ct_n P r w < sn r' r := z2
        have := (R r' hr').2.1.1 r
        omega
  · obtain ⟨m1, m2, m3⟩ := y7 r' hr'
    refine ⟨m1, ?_, m3⟩
    show upd a_clock r (nI (ck r + 1)) r' = _
    by_cases e : r' = r
    · subst e; rw [pk_us, gh_us]
    · rw [pk_un e, gh_un e]; exact m2
theorem y_br_e1 {post : Int32 → SY → Prop} {v : SY} {nr : Nat} {x v2 : Int32} (h4 : nr ≤ 4) (hr : sy_replicas v = nI nr) (h : x < 0 ∨ nI nr ≤ x) (hp : post (-1) v) : wpY_bring post v x v2 := by
  obtain ⟨f_replicas, f_writes, f_committed, a_origin, a_stamp, a_kind, a_cellOf, a_valueOf, a_knows, a_order, a_m, a_clock, a_trimmed, a_store, a_stands⟩ := v
  unfold wpY_bring
  dsimp only
  exact y_bad1 h4 hr h (br_f (by decide) hp)
theorem y_br_e2 {post : Int32 → SY → Prop} {v : SY} {nr r : Nat} {x : Int32} (h4 : nr ≤ 4) (hr : sy_replicas v = nI nr) (hl : r < nr) (h : x < 0 ∨ nI nr ≤ x) (hp : post (-1) v) : wpY_bring post v (nI r) x := by
  obtain ⟨f_replicas, f_writes, f_committed, a_origin, a_stamp, a_kind, a_cellOf, a_valueOf, a_knows, a_order, a_m, a_clock, a_trimmed, a_store, a_stands⟩ := v
  unfold wpY_bring
  dsimp only
  exact y_bad0 h4 hr hl (br_t rfl (y_bad1 h4 hr h (br_f (by decide) hp)))
theorem y_br_e3 {post : Int32 → SY → Prop} {v : SY} {nr r : Nat} (h4 : nr ≤ 4) (hr : sy_replicas v = nI nr) (hl : r < nr) (hp : post (-5) v) : wpY_bring post v (nI r) (nI r) := by
  obtain ⟨f_replicas, f_writes, f_committed, a_origin, a_stamp, a_kind, a_cellOf, a_valueOf, a_knows, a_order, a_m, a_clock, a_trimmed, a_store, a_stands⟩ := v
  unfold wpY_bring
  dsimp only
  exact y_bad0 h4 hr hl (br_t rfl (y_bad0 h4 hr hl (br_t rfl (br_t rfl hp))))
theorem y_bring {nr nw : Nat} {P : Nat → gh_W} {ord : Nat → Nat} {T : Nat → List Nat} {sn : Nat → Nat → Nat} {dn ck tr : Nat → Nat} {v : SY} {f t : Nat} {post : Int32 → SY → Prop}
    (I : gh_inv nr nw P ord T sn dn ck tr) (Y : ry_Y nr nw P ord sn dn ck tr v) (hf : f < nr) (ht : t < nr) (hft : f ≠ t)
    (K : ∀ v', ry_Y nr nw P ord (gh_u sn t (fun o => gb_x (sn t o) (sn f o))) (gh_u dn t (gb_x (dn t) (dn f))) (gh_u ck t (gb_x (ck t) (ck f))) tr v' → post (nI (kn_n P (sn t) (sn f) nw)) v') : wpY_bring post v (nI f) (nI t) := by
  obtain ⟨H, O, R⟩ := I
  have h4 := H.2.1
  have h48 := H.2.2.1
  obtain ⟨af1, af2, af3, af4⟩ := R f hf
  obtain ⟨at1, at2, at3, at4⟩ := R t ht
  have bf := gh_Dle H O af1 af2
  have bt := gh_Dle H O at1 at2
  have cf := H.2.2.2.2.2 f hf
  have ct := H.2.2.2.2.2 t ht
  obtain ⟨f_replicas, f_writes, f_committed, a_origin, a_stamp, a_kind, a_cellOf, a_valueOf, a_knows, a_order, a_m, a_clock, a_trimmed, a_store, a_stands⟩ := v
  change ry_a nr nw P ord sn dn ck tr f_replicas f_writes f_committed a_origin a_stamp a_kind a_cellOf a_valueOf a_knows a_order a_m a_clock a_trimmed at Y
  obtain ⟨y1, y2, y3, y4, y5, y6, y7⟩ := Y
  subst y2
  have hd0 : gh_u dn t (gb_x (dn t) (dn f)) 0 = dn 0 := by
    by_cases z : 0 = t
    · subst z
      rw [gh_us]
      unfold gb_x
      rw [if_neg (by omega)]
    · rw [gh_un z]
  unfold wpY_bring
  dsimp only
  refine y_bad0 h4 y1 hf (br_t rfl (y_bad0 h4 y1 ht (br_t rfl (br_f (fun e => hft ((nI_eq (by omega) (by omega)).mp e)) ⟨nw + 1, ?_⟩))))
  refine y_br31 hft (by omega) (by omega) h48 (y5 f hf) (y5 t ht) (y7 f hf).1 (y7 t ht).1 (y7 f hf).2.1 (y7 t ht).2.1 (by omega) (by omega) (by omega) (by omega) (fun kn mm ca g1 g2 g3 g4 g5 g6 => ?_) nw 0 (nw + 1) a_knows (by omega) (by omega) fr_ag_r (fun w hw => by omega) (fun w _ _ => rfl)
  refine K _ ⟨y1, rfl, by rw [hd0]; exact y3, y4, fun r' hr' w hw => ?_, by rw [hd0]; exact y6, fun r' hr' => ?_⟩
  · show kn (r' * 48 + w) = _
    by_cases e : r' = t
    · subst e; rw [gh_us]; exact g2 w hw
    · rw [gh_un e]; exact (fr_at48 g1 e hw).trans (y5 r' hr' w hw)
  · obtain ⟨m1, m2, m3⟩ := y7 r' hr'
    refine ⟨?_, ?_, m3⟩
    · show mm r' = _
      by_cases e : r' = t
      · subst e; rw [gh_us]; exact g4
      · rw [gh_un e]; exact (fr_at1 g3 e).trans m1
    · show ca r' = _
      by_cases e : r' = t
      · subst e; rw [gh_us]; exact g6
      · rw [gh_un e]; exact (fr_at1 g5 e).trans m2
theorem y_commit {nr nw : Nat} {P : Nat → gh_W} {ord : Nat → Nat} {T : Nat → List Nat} {sn : Nat → Nat → Nat} {dn ck tr : Nat → Nat} {v : SY} {x : Int32} {C R : List Nat} {post : Int32 → SY → Prop}
    (I : gh_inv nr nw P ord T sn dn ck tr) (Y : ry_Y nr nw P ord sn dn ck tr v) (hT : T 0 = C ++ R) (h1 : ∀ i, i < C.length → ¬ x ≤ nI i) (h2 : R = [] ∨ x ≤ nI C.length) (hle : dn 0 + C.length ≤ 48)
    (K : ∀ v', ry_Y nr nw P (cm_o ord (dn 0) C) sn (gh_u dn 0 (dn 0 + C.length)) ck tr v' → post (nI C.length) v') : wpY_commit post v x := by
  have h0 : 0 < nr := by have := I.1.1; omega
  obtain ⟨f_replicas, f_writes, f_committed, a_origin, a_stamp, a_kind, a_cellOf, a_valueOf, a_knows, a_order, a_m, a_clock, a_trimmed, a_store, a_stands⟩ := v
  change ry_a nr nw P ord sn dn ck tr f_replicas f_writes f_committed a_origin a_stamp a_kind a_cellOf a_valueOf a_knows a_order a_m a_clock a_trimmed at Y
  have Y' := Y
  obtain ⟨y1, y2, y3, y4, y5, y6, y7⟩ := Y'
  obtain ⟨b1, b2, b3, b4⟩ := I.2.2 0 h0
  unfold wpY_commit
  dsimp only
  refine y_rep0 (r := 0) I Y h0 (fun so sd g1 g2 => ?_)
  dsimp only
  refine ⟨49, ?_⟩
  subst y2 y3
  have hw : ∀ w, w ∈ C ++ R → w < nw := fun w hw => gh_Tlt b2 (by rw [hT]; exact hw)
  have hp : (C ++ R).Pairwise (gh_lt P) := by rw [← hT]; exact b2.2.2.1
  have hk0 : ∀ i, i < C.length → ¬ x ≤ nI (0 + i) := fun i hi => by rw [Nat.zero_add]; exact h1 i hi
  have hL : ∀ w, w < nw → ((¬ a_knows (0 * 48 + w) = 0 ∧ sd w = 0) ↔ w ∈ C ++ R) := fun w hw => by
    rw [← hT]
    have h48 := I.1.2.2.1
    exact yl_T I.1 I.2.1 b1 b2 (y5 0 h0 w (by omega)) g2 hw
  refine y_cma (R := R) I.1 y4 C ord (dn 0) 0 49 a_order sd (by omega) (by omega) hle hk0 (by rw [Nat.zero_add]; exact h2) hp hw hL y6 (fun od' sd' g => ?_)
  rw [Nat.zero_add]
  refine K _ ⟨y1, rfl, by rw [gh_us]; rfl, y4, y5, by rw [gh_us]; exact g, fun r' hr' => ?_⟩
  obtain ⟨m1, m2, m3⟩ := y7 r' hr'
  refine ⟨?_, m2, m3⟩
  show upd a_m 0 (nI (dn 0 + C.length)) r' = _
  by_cases e : r' = 0
  · subst e; rw [pk_us, gh_us]
  · rw [pk_un e, gh_un e]; exact m1
theorem y_tr_e1 {post : Int32 → SY → Prop} {v : SY} {nr : Nat} {x v2 : Int32} (h4 : nr ≤ 4) (hr : sy_replicas v = nI nr) (h : x < 0 ∨ nI nr ≤ x) (hp : post (-1) v) : wpY_trim post v x v2 := by
  obtain ⟨f_replicas, f_writes, f_committed, a_origin, a_stamp, a_kind, a_cellOf, a_valueOf, a_knows, a_order, a_m, a_clock, a_trimmed, a_store, a_stands⟩ := v
  unfold wpY_trim
  dsimp only
  exact y_bad1 h4 hr h (br_f (by decide) hp)
section ytr
variable {f_replicas f_writes f_committed : Int32} {a_origin a_stamp a_kind a_cellOf a_valueOf a_knows a_order a_m a_clock a_trimmed a_store a_stands : Nat → Int32}
theorem y_tr29 {nr nw : Nat} {P : Nat → gh_W} {ord : Nat → Nat} {sn : Nat → Nat → Nat} {dn ck tr : Nat → Nat} {r k : Nat} {post : Int32 → SY → Prop}
    (Y : ry_a nr nw P ord sn dn ck tr f_replicas f_writes f_committed a_origin a_stamp a_kind a_cellOf a_valueOf a_knows a_order a_m a_clock a_trimmed) (h4 : nr ≤ 4) (hr : r < nr) (hk : k < 2 ^ 31) (htr : tr r ≤ 48)
    (K : ∀ v', ry_Y nr nw P ord sn dn ck (gh_u tr r (gb_x (tr r) k)) v' → post (nI (gb_x (tr r) k)) v') : wY_trim_29 post (nI r) (nI k) f_replicas f_writes f_committed a_origin a_stamp a_kind a_cellOf a_valueOf a_knows a_order a_m a_clock a_trimmed a_store a_stands := by
  obtain ⟨y1, y2, y3, y4, y5, y6, y7⟩ := Y
  have i4 : vp_in (nI r) 4 := vp_in_nI (by omega) (by omega)
  unfold wY_trim_29
  rw [nI_clamp (n := r) (by omega), (y7 r hr).2.2]
  have fin : ∀ ta, fr_ag 1 r a_trimmed ta → ta r = nI (gb_x (tr r) k) → post (nI (gb_x (tr r) k)) (f_replicas, f_writes, f_committed, a_origin, a_stamp, a_kind, a_cellOf, a_valueOf, a_knows, a_order, a_m, a_clock, ta, a_store, a_stands) := by
    intro ta g1 g2
    refine K _ ⟨y1, y2, y3, y4, y5, y6, fun r' hr' => ?_⟩
    obtain ⟨m1, m2, m3⟩ := y7 r' hr'
    refine ⟨m1, m2, ?_⟩
    show ta r' = _
    by_cases e : r' = r
    · subst e; rw [gh_us]; exact g2
    · rw [gh_un e]; exact (fr_at1 g1 e).trans m3
  refine ⟨i4, pk_le k (tr r) (fun h => ⟨i4, ?_⟩) (fun h => ⟨i4, nm_e ⟨i4, ?_⟩⟩)⟩
  · have e : gb_x (tr r) k = tr r := by unfold gb_x; rw [if_neg (by omega)]
    have G := fin a_trimmed fr_ag_r (by rw [e]; exact (y7 r hr).2.2)
    rw [e] at G
    exact G
  · have e : gb_x (tr r) k = k := by unfold gb_x; rw [if_pos h]
    have G := fin _ (fr_ag_1 (x := nI k)) (by rw [e]; exact pk_us)
    rw [e] at G
    rw [pk_us]
    exact G
end ytr
theorem y_trim {nr nw : Nat} {P : Nat → gh_W} {ord : Nat → Nat} {T : Nat → List Nat} {sn : Nat → Nat → Nat} {dn ck tr : Nat → Nat} {v : SY} {r j : Nat} {x : Int32} {post : Int32 → SY → Prop} (I : gh_inv nr nw P ord T sn dn ck tr) (Y : ry_Y nr nw P ord sn dn ck tr v) (hr : r < nr) (hj : (x < 0 ∧ j = 0) ∨ (x = nI j ∧ j < 2 ^ 31))
    (K : ∀ v', ry_Y nr nw P ord sn dn ck (gh_u tr r (gb_x (tr r) (min j (dn r)))) v' → post (nI (gb_x (tr r) (min j (dn r)))) v') : wpY_trim post v (nI r) x := by
  obtain ⟨H, O, R⟩ := I
  have h4 := H.2.1
  have h48 := H.2.2.1
  obtain ⟨b1, b2, b3, b4⟩ := R r hr
  have bd := gh_Dle H O b1 b2
  obtain ⟨f_replicas, f_writes, f_committed, a_origin, a_stamp, a_kind, a_cellOf, a_valueOf, a_knows, a_order, a_m, a_clock, a_trimmed, a_store, a_stands⟩ := v
  change ry_a nr nw P ord sn dn ck tr f_replicas f_writes f_committed a_origin a_stamp a_kind a_cellOf a_valueOf a_knows a_order a_m a_clock a_trimmed at Y
  have Y' := Y
  obtain ⟨y1, y2, y3, y4, y5, y6, y7⟩ := Y'
  have i4 : vp_in (nI r) 4 := vp_in_nI (by omega) (by omega)
  unfold wpY_trim
  dsimp only
  refine y_bad0 h4 y1 hr (br_t rfl ?_)
  rw [nI_clamp (n := r) (by omega), (y7 r hr).1]
  refine ⟨i4, ?_⟩
  rcases hj with ⟨h, e⟩ | ⟨h, e⟩
  · subst e
    have e0 : gb_x (tr r) (min 0 (dn r)) = tr r := by
      rw [Nat.zero_min]; unfold gb_x; rw [if_neg (by omega)]
    rw [e0, gh_ui rfl] at K
    have hle : ∀ n, n ≤ 48 → x ≤ nI n := fun n hn => Int32.le_of_lt (Int32.lt_of_lt_of_le h (nI_pos' (by omega)))
    refine br_t (hle _ (by omega)) ?_
    unfold wY_trim_29
    rw [nI_clamp (n := r) (by omega), (y7 r hr).2.2]
    exact ⟨i4, br_t (hle _ b4) ⟨i4, K _ Y⟩⟩
  · rw [h]
    refine pk_le j (dn r) (fun hl => ?_) (fun hl => ⟨i4, nm_e ?_⟩)
    · rw [Nat.min_eq_left hl] at K
      exact y_tr29 Y h4 hr e b4 K
    · rw [Nat.min_eq_right (by omega)] at K
      exact y_tr29 Y h4 hr (by omega) b4 K
theorem y_ce_e1 {post : Int32 → SY → Prop} {v : SY} {nr : Nat} {x v2 : Int32} (h4 : nr ≤ 4) (hr : sy_replicas v = nI nr) (h : x < 0 ∨ nI nr ≤ x) (hp : post 0 v) : wpY_cell post v x v2 := by
  obtain ⟨f_replicas, f_writes, f_committed, a_origin, a_stamp, a_kind, a_cellOf, a_valueOf, a_knows, a_order, a_m, a_clock, a_trimmed, a_store, a_stands⟩ := v
  unfold wpY_cell
  dsimp only
  exact y_bad1 h4 hr h (br_f (by decide) hp)
theorem y_ce_e2 {post : Int32 → SY → Prop} {v : SY} {nr r : Nat} {v2 : Int32} (h4 : nr ≤ 4) (hr : sy_replicas v = nI nr) (hl : r < nr) (h : v2 < 0 ∨ ¬ v2 ≤ 7) (hp : post 0 v) : wpY_cell post v (nI r) v2 := by
  obtain ⟨f_replicas, f_writes, f_committed, a_origin, a_stamp, a_kind, a_cellOf, a_valueOf, a_knows, a_order, a_m, a_clock, a_trimmed, a_store, a_stands⟩ := v
  unfold wpY_cell
  dsimp only
  refine y_bad0 h4 hr hl (br_t rfl ?_)
  rcases h with h | h
  · exact br_t h hp
  · exact br_c (fun _ => hp) (fun _ => br_f h hp)
theorem y_cell {nr nw : Nat} {P : Nat → gh_W} {ord : Nat → Nat} {T : Nat → List Nat} {sn : Nat → Nat → Nat} {dn ck tr : Nat → Nat} {v : SY} {r c : Nat} {post : Int32 → SY → Prop} (I : gh_inv nr nw P ord T sn dn ck tr) (Y : ry_Y nr nw P ord sn dn ck tr v) (hr : r < nr) (hc : c < 8)
    (K : ∀ v', ry_Y nr nw P ord sn dn ck tr v' → post (rn_l P (ro_s P ord (dn r)) (T r) c) v') : wpY_cell post v (nI r) (nI c) := by
  have h4 := I.1.2.1
  obtain ⟨f_replicas, f_writes, f_committed, a_origin, a_stamp, a_kind, a_cellOf, a_valueOf, a_knows, a_order, a_m, a_clock, a_trimmed, a_store, a_stands⟩ := v
  change ry_a nr nw P ord sn dn ck tr f_replicas f_writes f_committed a_origin a_stamp a_kind a_cellOf a_valueOf a_knows a_order a_m a_clock a_trimmed at Y
  have y1 := Y.1
  unfold wpY_cell
  dsimp only
  refine y_bad0 h4 y1 hr (br_t rfl (br_f (nI_pos (by omega)) (br_t (nI_le (b := 7) (by omega) (by omega)) ?_)))
  refine y_rep1 I Y hr (fun so s0 sd g1 g2 g3 => ?_)
  dsimp only
  rw [nI_clamp (n := c) (by omega), g1 c hc]
  exact ⟨vp_in_nI hc (by omega), K _ Y⟩
theorem y_sb_e1 {post : Int32 → SY → Prop} {v : SY} {nr : Nat} {x v2 : Int32} (h4 : nr ≤ 4) (hr : sy_replicas v = nI nr) (h : x < 0 ∨ nI nr ≤ x) (hp : post 0 v) : wpY_stable post v x v2 := by
  obtain ⟨f_replicas, f_writes, f_committed, a_origin, a_stamp, a_kind, a_cellOf, a_valueOf, a_knows, a_order, a_m, a_clock, a_trimmed, a_store, a_stands⟩ := v
  unfold wpY_stable
  dsimp only
  exact y_bad1 h4 hr h (br_f (by decide) hp)
theorem y_sb_e2 {post : Int32 → SY → Prop} {v : SY} {nr r : Nat} {v2 : Int32} (h4 : nr ≤ 4) (hr : sy_replicas v = nI nr) (hl : r < nr) (h : v2 < 0 ∨ ¬ v2 ≤ 7) (hp : post 0 v) : wpY_stable post v (nI r) v2 := by
  obtain ⟨f_replicas, f_writes, f_committed, a_origin, a_stamp, a_kind, a_cellOf, a_valueOf, a_knows, a_order, a_m, a_clock, a_trimmed, a_store, a_stands⟩ := v
  unfold wpY_stable
  dsimp only
  refine y_bad0 h4 hr hl (br_t rfl ?_)
  rcases h with h | h
  · exact br_t h hp
  · exact br_c (fun _ => hp) (fun _ => br_f h hp)
theorem y_stable {nr nw : Nat} {P : Nat → gh_W} {ord : Nat → Nat} {T : Nat → List Nat} {sn : Nat → Nat → Nat} {dn ck tr : Nat → Nat} {v : SY} {r c : Nat} {post : Int32 → SY → Prop} (I : gh_inv nr nw P ord T sn dn ck tr) (Y : ry_Y nr nw P ord sn dn ck tr v) (hr : r < nr) (hc : c < 8)
    (K : ∀ v', ry_Y nr nw P ord sn dn ck tr v' → post (ro_s P ord (dn r) c) v') : wpY_stable post v (nI r) (nI c) := by
  have h4 := I.1.2.1
  obtain ⟨f_replicas, f_writes, f_committed, a_origin, a_stamp, a_kind, a_cellOf, a_valueOf, a_knows, a_order, a_m, a_clock, a_trimmed, a_store, a_stands⟩ := v
  change ry_a nr nw P ord sn dn ck tr f_replicas f_writes f_committed a_origin a_stamp a_kind a_cellOf a_valueOf a_knows a_order a_m a_clock a_trimmed at Y
  have y1 := Y.1
  unfold wpY_stable
  dsimp only
  refine y_bad0 h4 y1 hr (br_t rfl (br_f (nI_pos (by omega)) (br_t (nI_le (b := 7) (by omega) (by omega)) ?_)))
  refine y_rep0 I Y hr (fun so sd g1 g2 => ?_)
  dsimp only
  rw [nI_clamp (n := c) (by omega), g1 c hc]
  exact ⟨vp_in_nI hc (by omega), K _ Y⟩
theorem y_kn_e1 {post : Int32 → Prop} {v : SY} {nr : Nat} {x : Int32} (h4 : nr ≤ 4) (hr : sy_replicas v = nI nr) (h : x < 0 ∨ nI nr ≤ x) (hp : post (-1)) : wpY_known post v x := by
  obtain ⟨f_replicas, f_writes, f_committed, a_origin, a_stamp, a_kind, a_cellOf, a_valueOf, a_knows, a_order, a_m, a_clock, a_trimmed, a_store, a_stands⟩ := v
  unfold wpY_known
  dsimp only
  exact y_bad1 h4 hr h (br_f (by decide) hp)
section ykn
variable {f_replicas f_writes f_committed : Int32} {a_origin a_stamp a_kind a_cellOf a_valueOf a_knows a_order a_m a_clock a_trimmed a_store a_stands : Nat → Int32}
theorem y_kn14 {nw r : Nat} {P : Nat → gh_W} {sn : Nat → Nat} {post : Int32 → Prop} (hr : r < 4) (hnw : nw ≤ 48) (hk : ∀ w, w < 48 → a_knows (r * 48 + w) = kb_n P nw sn w) (hp : post (nI (kn_n P (fun _ => 0) sn nw))) :
    ∀ m i n, i + m = nw → m < n → wY_known_14 post (nI r) f_replicas (nI nw) f_committed a_origin a_stamp a_kind a_cellOf a_valueOf a_knows a_order a_m a_clock a_trimmed a_store a_stands n (nI (kn_n P (fun _ => 0) sn i)) (nI i) := by
  intro m
  induction m with
  | zero =>
    intro i n hi hn
    obtain ⟨n, rfl⟩ : ∃ k, n = k + 1 := ⟨n - 1, by omega⟩
    have e : i = nw := by omega
    subst e
    rw [wY_known_14]
    exact br_t (nI_le (Nat.le_refl _) (by omega)) hp
  | succ m ih =>
    intro i n hi hn
    obtain ⟨n, rfl⟩ : ∃ k, n = k + 1 := ⟨n - 1, by omega⟩
    have hin : i < nw := by omega
    have es : kn_n P (fun _ => 0) sn (i + 1) = kn_n P (fun _ => 0) sn i + (if 0 ≤ gh_tn (P i) ∧ gh_tn (P i) < sn (gh_og (P i)) then 1 else 0) := rfl
    have G := ih (i + 1) n (by omega) (by omega)
    rw [wY_known_14]
    dsimp only
    rw [ix_48, nI_clamp (by omega), hk i (by omega)]
    refine br_f (nI_ge hin (by omega)) ⟨vp_in_nI (by omega) (by omega), br_c (fun z => nm_r (nI_1 i) ?_) (fun z => nm_r (nI_1 _) (nm_r (nI_1 i) ?_))⟩
    · rw [kb_0] at z
      rw [es, if_neg (fun q => z ⟨hin, q.2⟩)] at G
      exact G
    · rw [kb_0, Decidable.not_not] at z
      rw [es, if_pos ⟨Nat.zero_le _, z.2⟩] at G
      exact G
end ykn
theorem y_known {nr nw : Nat} {P : Nat → gh_W} {ord : Nat → Nat} {sn : Nat → Nat → Nat} {dn ck tr : Nat → Nat} {v : SY} {r : Nat} {post : Int32 → Prop} (Y : ry_Y nr nw P ord sn dn ck tr v) (h4 : nr ≤ 4) (hr : r < nr)
    (hp : post (nI (kn_n P (fun _ => 0) (sn r) nw))) : wpY_known post v (nI r) := by
  obtain ⟨f_replicas, f_writes, f_committed, a_origin, a_stamp, a_kind, a_cellOf, a_valueOf, a_knows, a_order, a_m, a_clock, a_trimmed, a_store, a_stands⟩ := v
  change ry_a nr nw P ord sn dn ck tr f_replicas f_writes f_committed a_origin a_stamp a_kind a_cellOf a_valueOf a_knows a_order a_m a_clock a_trimmed at Y
  obtain ⟨y1, y2, y3, y4, y5, y6, y7⟩ := Y
  subst y2
  unfold wpY_known
  dsimp only
  exact y_bad0 h4 y1 hr (br_t rfl ⟨nw + 1, y_kn14 (by omega) y4.1 (y5 r hr) hp nw 0 (nw + 1) (by omega) (by omega)⟩)
theorem y_cd_e1 {post : Int32 → Prop} {v : SY} {nr : Nat} {x : Int32} (h4 : nr ≤ 4) (hr : sy_replicas v = nI nr) (h : x < 0 ∨ nI nr ≤ x) (hp : post (-1)) : wpY_committed post v x := by
  obtain ⟨f_replicas, f_writes, f_committed, a_origin, a_stamp, a_kind, a_cellOf, a_valueOf, a_knows, a_order, a_m, a_clock, a_trimmed, a_store, a_stands⟩ := v
  unfold wpY_committed
  dsimp only
  exact y_bad1 h4 hr h (br_f (by decide) hp)
theorem y_cd {nr nw : Nat} {P : Nat → gh_W} {ord : Nat → Nat} {sn : Nat → Nat → Nat} {dn ck tr : Nat → Nat} {v : SY} {r : Nat} {post : Int32 → Prop} (Y : ry_Y nr nw P ord sn dn ck tr v) (h4 : nr ≤ 4) (hr : r < nr)
    (hp : post (nI (dn r))) : wpY_committed post v (nI r) := by
  obtain ⟨f_replicas, f_writes, f_committed, a_origin, a_stamp, a_kind, a_cellOf, a_valueOf, a_knows, a_order, a_m, a_clock, a_trimmed, a_store, a_stands⟩ := v
  change ry_a nr nw P ord sn dn ck tr f_replicas f_writes f_committed a_origin a_stamp a_kind a_cellOf a_valueOf a_knows a_order a_m a_clock a_trimmed at Y
  obtain ⟨y1, y2, y3, y4, y5, y6, y7⟩ := Y
  unfold wpY_committed
  dsimp only
  refine y_bad0 h4 y1 hr (br_t rfl ?_)
  rw [nI_clamp (by omega), (y7 r hr).1]
  exact ⟨vp_in_nI (by omega) (by omega), hp⟩
theorem y_sd_e1 {post : Int32 → SY → Prop} {v : SY} {nr : Nat} {x v2 : Int32} (h4 : nr ≤ 4) (hr : sy_replicas v = nI nr) (h : x < 0 ∨ nI nr ≤ x) (hp : post (-1) v) : wpY_standing post v x v2 := by
  obtain ⟨f_replicas, f_writes, f_committed, a_origin, a_stamp, a_kind, a_cellOf, a_valueOf, a_knows, a_order, a_m, a_clock, a_trimmed, a_store, a_stands⟩ := v
  unfold wpY_standing
  dsimp only
  exact y_bad1 h4 hr h (br_f (by decide) hp)
theorem y_sd_e2 {post : Int32 → SY → Prop} {v : SY} {nr nw r : Nat} {v2 : Int32} (h4 : nr ≤ 4) (hr : sy_replicas v = nI nr) (hw : sy_writes v = nI nw) (hl : r < nr) (h : v2 < 0 ∨ nI nw ≤ v2) (hp : post 0 v) : wpY_standing post v (nI r) v2 := by
  obtain ⟨f_replicas, f_writes, f_committed, a_origin, a_stamp, a_kind, a_cellOf, a_valueOf, a_knows, a_order, a_m, a_clock, a_trimmed, a_store, a_stands⟩ := v
  change f_writes = nI nw at hw
  subst hw
  unfold wpY_standing
  dsimp only
  refine y_bad0 h4 hr hl (br_t rfl ?_)
  rcases h with h | h
  · exact br_t h hp
  · exact br_c (fun _ => hp) (fun _ => br_t h hp)
theorem y_standing {nr nw : Nat} {P : Nat → gh_W} {ord : Nat → Nat} {T : Nat → List Nat} {sn : Nat → Nat → Nat} {dn ck tr : Nat → Nat} {v : SY} {r w : Nat} {z : Int32} {post : Int32 → SY → Prop} (I : gh_inv nr nw P ord T sn dn ck tr) (Y : ry_Y nr nw P ord sn dn ck tr v) (hr : r < nr) (hw : w < nw)
    (hz : (sn r (gh_og (P w)) ≤ gh_tn (P w) ∧ z = 0) ∨ (gh_tn (P w) < ct_n (gh_q P ord) (gh_og (P w)) (dn r) ∧ z = 1) ∨ (∃ p, (T r)[p]? = some w ∧ z = (ca_do (P w) (rn_l P (ro_s P ord (dn r)) ((T r).take p))).1))
    (K : ∀ v', ry_Y nr nw P ord sn dn ck tr v' → post z v') : wpY_standing post v (nI r) (nI w) := by
  have h4 := I.1.2.1
  have h48 := I.1.2.2.1
  obtain ⟨b1, b2, b3, b4⟩ := I.2.2 r hr
  have hc := gh_com I.1 I.2.1 b1 hw
  obtain ⟨f_replicas, f_writes, f_committed, a_origin, a_stamp, a_kind, a_cellOf, a_valueOf, a_knows, a_order, a_m, a_clock, a_trimmed, a_store, a_stands⟩ := v
  change ry_a nr nw P ord sn dn ck tr f_replicas f_writes f_committed a_origin a_stamp a_kind a_cellOf a_valueOf a_knows a_order a_m a_clock a_trimmed at Y
  have Y' := Y
  obtain ⟨y1, y2, y3, y4, y5, y6, y7⟩ := Y'
  subst y2
  unfold wpY_standing
  dsimp only
  refine y_bad0 h4 y1 hr (br_t rfl (br_f (nI_pos (by omega)) (br_f (nI_ge hw (by omega)) ?_)))
  rw [ix_48, nI_clamp (n := r * 48 + w) (by omega), y5 r hr w (by omega)]
  refine ⟨vp_in_nI (by omega) (by omega), br_c (fun k0 => ?_) (fun k1 => ?_)⟩
  · rw [kb_0] at k0
    have hn : sn r (gh_og (P w)) ≤ gh_tn (P w) := Nat.le_of_not_lt (fun q => k0 ⟨hw, q⟩)
    have ez : z = 0 := by
      rcases hz with ⟨_, e⟩ | ⟨h, _⟩ | ⟨p, h, _⟩
      · exact e
      · have := b2.2.1 (gh_og (P w)); omega
      · have := ((b2.2.2.2 w).mp (List.mem_of_getElem? h)).2.2; omega
    rw [← ez]
    exact K _ Y
  · rw [kb_0, Decidable.not_not] at k1
    refine y_rep1 I Y hr (fun so s0 sd g1 g2 g3 => ?_)
    dsimp only
    rw [nI_clamp (n := w) (by omega)]
    refine ⟨vp_in_nI (by omega) (by omega), ?_⟩
    have ez : sd w = z := by
      rcases hz with ⟨h, _⟩ | ⟨h, e⟩ | ⟨p, h, e⟩
      · omega
      · rw [e]
        have hn : ¬ w ∈ T r := fun hm => by have := ((b2.2.2.2 w).mp hm).2.1; omega
        rw [g3.2 w (by rw [List.take_length]; exact hn)]
        obtain ⟨j, hj, ej⟩ := hc.mpr h
        rw [← ej]; exact g2.1 j hj
      · rw [e]; exact g3.1 p w (li_lt h) h
    rw [ez]
    exact K _ Y
end
section
/-! what is owed -/
/-- some ghosts for both: the pure invariant, X's arrays and Y's arrays hold them -/
def i_Rel (k : Nat) (u : SX) (v : SY) : Prop :=
  ∃ (nr nw : Nat) (P : Nat → gh_W) (ord : Nat → Nat) (T : Nat → List Nat) (sn : Nat → Nat → Nat) (dn ck tr : Nat → Nat),
    gh_inv nr nw P ord T sn dn ck tr ∧ rx_X nr nw P ord T sn dn ck tr u ∧ ry_Y nr nw P ord sn dn ck tr v
theorem i_up {k : Nat} {u : SX} {v : SY} (h : i_Rel k u v) : i_Rel (k + 5) u v := h
theorem ow_0 (nr : Nat) (h2 : 2 ≤ nr) (h4 : nr ≤ 4) : i_Rel 1 (nI nr, 0, (fun _ => 0), (fun _ => 0), (fun _ => 0), (fun _ => 0), (fun _ => 0), (fun _ => 0), (fun _ => 0), (fun _ => 0), (fun _ => 0), (fun _ => 0), (fun _ => 0), (fun _ => 0), (fun _ => 0), (fun _ => 0), (fun _ => 0), (fun _ => 0), (fun _ => 0), (fun _ => 0), (fun _ => 0), (fun _ => 0), (fun _ => 0), (fun _ => 0), (fun _ => 0), (fun _ => 0))
    (nI nr, 0, 0, (fun _ => 0), (fun _ => 0), (fun _ => 0), (fun _ => 0), (fun _ => 0), (fun _ => 0), (fun _ => 0), (fun _ => 0), (fun _ => 0), (fun _ => 0), (fun _ => 0), (fun _ => 0)) := by
  refine ⟨nr, 0, fun _ => (0, 0, 0, 0, 0, 0), fun _ => 0, fun _ => [], fun _ _ => 0, fun _ => 0, fun _ => 0, fun _ => 0, ?_, ?_, ?_⟩
  · refine ⟨⟨h2, h4, by omega, fun w hw => by omega, fun w w' _ hw => by omega, fun r hr => Nat.le_refl _⟩, fun i hi => absurd hi (Nat.not_lt_zero i), fun r hr => ⟨Nat.le_refl _, ⟨fun o => Nat.le_refl _, fun o => Nat.le_refl _, List.Pairwise.nil, fun w => ⟨fun h => absurd h List.not_mem_nil, fun h => absurd h.1 (Nat.not_lt_zero w)⟩⟩, rfl, Nat.zero_le 48⟩⟩
  · refine ⟨rfl, rfl, ⟨by omega, fun w hw => absurd hw (Nat.not_lt_zero w)⟩, fun r hr => ⟨⟨rfl, Nat.zero_le 48, fun x hx => absurd hx List.not_mem_nil, fun i x hx => by simp at hx⟩, ⟨rfl, Nat.zero_le 48⟩, ⟨Nat.le_refl _, fun c hc => rfl, fun i x hi => absurd hi (Nat.not_lt_zero i)⟩, fun c hc => rfl, fun o ho => ⟨rfl, Nat.zero_le 48⟩, fun o ho => rfl, ⟨rfl, Nat.zero_le 48, 0, Nat.le_refl _, rfl, fun i _ hi => absurd hi (Nat.not_lt_zero i)⟩, ⟨rfl, Nat.zero_le 48, rfl, Nat.zero_le 48⟩⟩⟩
  · refine ⟨rfl, rfl, rfl, ⟨by omega, fun w hw => absurd hw (Nat.not_lt_zero w)⟩, fun r hr w hw => ?_, fun i hi => absurd hi (Nat.not_lt_zero i), fun r hr => ⟨rfl, rfl, rfl⟩⟩
    exact (kb_0.mpr (fun z => Nat.not_lt_zero _ z.1)).symm
theorem i_vc0 (k0 : Int32) : wpX_init (fun u => wpY_init (fun v => i_Rel 1 u v) k0) k0 := by
  by_cases h2 : 2 ≤ k0
  · by_cases h4 : k0 ≤ 4
    · obtain ⟨j, hj, e⟩ := nI_of2 (x := k0) (M := 4) (n := 4) (by decide) (Int32.not_lt.mpr (Int32.le_trans (by decide) h2)) h4
      subst e
      have hj2 : 2 ≤ j := (nI_leI (a := 2) (by omega) (by omega)).mp h2
      exact br_t h2 (br_t h4 (br_t h2 (br_t h4 (ow_0 j hj2 hj))))
    · exact br_t h2 (br_f h4 (br_t h2 (br_f h4 (ow_0 4 (by omega) (by omega)))))
  · exact br_f h2 (br_t (by decide) (br_f h2 (br_t (by decide) (ow_0 2 (by omega) (by omega)))))
theorem ow_w {nr nw : Nat} {P : Nat → gh_W} {ord : Nat → Nat} {T : Nat → List Nat} {sn : Nat → Nat → Nat} {dn ck tr : Nat → Nat} {r kd ce : Nat} {v : Int32} {T' : List Nat} (I : gh_inv nr nw P ord T sn dn ck tr) (hr : r < nr) (hnw : nw < 48) (hkd : kd ≤ 5) (hce : ce < 8)
    (hp : T'.Pairwise (gh_lt (gh_u P nw (wr_p P ck r nw kd ce v)))) (hm : ∀ x, x ∈ T' ↔ x = nw ∨ x ∈ T r) :
    gh_inv nr (nw + 1) (gh_u P nw (wr_p P ck r nw kd ce v)) ord (gh_u T r T') (gh_u sn r (gh_u (sn r) r (sn r r + 1))) dn (gh_u ck r (ck r + 1)) tr := by
  obtain ⟨H, O, R⟩ := I
  refine ⟨gh_w_ok H hnw hr rfl rfl rfl hkd hce, gh_w_or O, fun r' hr' => ?_⟩
  obtain ⟨a1, a2, a3, a4⟩ := R r' hr'
  by_cases e : r' = r
  · subst e
    rw [gh_us, gh_us]
    refine ⟨a1, gh_w_rp1 H O a1 a2 rfl rfl a3 hp hm, ?_, a4⟩
    rw [gh_us, gh_w_sn (r := r') rfl, if_pos rfl, a3]
  · rw [gh_un e, gh_un e]
    refine ⟨a1, gh_w_rp0 O a1 a2 (r := r) rfl rfl, ?_, a4⟩
    rw [gh_w_sn (r := r) rfl, if_neg e, a3]
theorem i_vc_write {k : Nat} {u : SX} {v : SY} (I : i_Rel k u v) (hk : k + 5 ≤ 2561) (v1 : Int32) (v2 : Int32) (v3 : Int32) (v4 : Int32) : wpX_write (fun r u' => wpY_write (fun r' v' => r' = r ∧ i_Rel (k + 5) u' v') v v1 v2 v3 v4) u v1 v2 v3 v4 := by
  have I0 := I
  obtain ⟨nr, nw, P, ord, T, sn, dn, ck, tr, I, X, Y⟩ := I
  have h4 := I.1.2.1
  have h48 := I.1.2.2.1
  rcases pk_ix v1 (n := nr) (by omega) with h | h | ⟨r, hr, rfl⟩
  · exact x_wr_e1 h4 X.1 (Or.inl h) (y_wr_e1 h4 Y.1 (Or.inl h) ⟨rfl, I0⟩)
  · exact x_wr_e1 h4 X.1 (Or.inr h) (y_wr_e1 h4 Y.1 (Or.inr h) ⟨rfl, I0⟩)
  by_cases a : v2 < 0
  · exact x_wr_e2 h4 X.1 hr (Or.inl a) (y_wr_e2 h4 Y.1 hr (Or.inl a) ⟨rfl, I0⟩)
  by_cases b : v2 ≤ 5
  case neg => exact x_wr_e2 h4 X.1 hr (Or.inr b) (y_wr_e2 h4 Y.1 hr (Or.inr b) ⟨rfl, I0⟩)
  obtain ⟨kd, hkd, rfl⟩ := nI_of2 (x := v2) (M := 5) (n := 5) (by decide) a b
  by_cases c : v3 < 0
  · exact x_wr_e3 h4 X.1 hr hkd (Or.inl c) (y_wr_e3 h4 Y.1 hr hkd (Or.inl c) ⟨rfl, I0⟩)
  by_cases d : v3 ≤ 7
  case neg => exact x_wr_e3 h4 X.1 hr hkd (Or.inr d) (y_wr_e3 h4 Y.1 hr hkd (Or.inr d) ⟨rfl, I0⟩)
  obtain ⟨ce, hce, rfl⟩ := nI_of2 (x := v3) (M := 7) (n := 7) (by decide) c d
  by_cases hnw : nw < 48
  · exact x_write I X hr hnw hkd (by omega) (fun T' u' hp hm X' => y_write I Y hr hnw hkd (by omega) (fun v' Y' => ⟨rfl, nr, nw + 1, _, ord, _, _, dn, _, tr, ow_w I hr hnw hkd (by omega) hp hm, X', Y'⟩))
  · exact x_wr_e4 h4 X.1 hr hkd (by omega) X.2.1 (by omega) (y_wr_e4 h4 Y.1 hr hkd (by omega) Y.2.1 (by omega) ⟨rfl, I0⟩)
theorem ow_l {nr nw : Nat} {P : Nat → gh_W} {ck : Nat → Nat} {a b : Nat → Nat} (H : gh_ok nr nw P ck) (ha : ∀ o, a o ≤ ct_n P o nw) (hb : ∀ o, b o ≤ ct_n P o nw) : kn_n P a b nw = lr_n a b 4 := by
  have h4 := H.2.1
  rw [kn_eq nw (fun w hw => ⟨by have := (H.2.2.2.1 w hw).1; omega, (H.2.2.2.1 w hw).2.1⟩)]
  have e : lr_n a b 4 = 0 + (b 0 - a 0) + (b 1 - a 1) + (b 2 - a 2) + (b 3 - a 3) := rfl
  rw [e]
  rw [Nat.min_eq_left (ha 0), Nat.min_eq_left (ha 1), Nat.min_eq_left (ha 2), Nat.min_eq_left (ha 3), Nat.min_eq_left (hb 0), Nat.min_eq_left (hb 1), Nat.min_eq_left (hb 2), Nat.min_eq_left (hb 3)]
  omega
theorem i_vc_bring {k : Nat} {u : SX} {v : SY} (I : i_Rel k u v) (hk : k + 5 ≤ 2561) (v1 : Int32) (v2 : Int32) : wpX_bring (fun r u' => wpY_bring (fun r' v' => r' = r ∧ i_Rel (k + 5) u' v') v v1 v2) u v1 v2 := by
  have I0 := I
  obtain ⟨nr, nw, P, ord, T, sn, dn, ck, tr, I, X, Y⟩ := I
  have h4 := I.1.2.1
  rcases pk_ix v1 (n := nr) (by omega) with h | h | ⟨f, hf, rfl⟩
  · exact x_br_e1 h4 X.1 (Or.inl h) (y_br_e1 h4 Y.1 (Or.inl h) ⟨rfl, I0⟩)
  · exact x_br_e1 h4 X.1 (Or.inr h) (y_br_e1 h4 Y.1 (Or.inr h) ⟨rfl, I0⟩)
  rcases pk_ix v2 (n := nr) (by omega) with h | h | ⟨t, ht, rfl⟩
  · exact x_br_e2 h4 X.1 hf (Or.inl h) (y_br_e2 h4 Y.1 hf (Or.inl h) ⟨rfl, I0⟩)
  · exact x_br_e2 h4 X.1 hf (Or.inr h) (y_br_e2 h4 Y.1 hf (Or.inr h) ⟨rfl, I0⟩)
  by_cases hft : f = t
  · subst hft
    exact x_br_e3 h4 X.1 hf (y_br_e3 h4 Y.1 hf ⟨rfl, I0⟩)
  refine x_br_go h4 X.1 hf ht hft (x_bring (d := gb_x (dn t) (dn f)) I X hf ht hft rfl (fun T1 T2 u' hs1 hm1 hs2 hm2 X' => ?_))
  refine y_bring I Y hf ht hft (fun v' Y' => ⟨?_, nr, nw, P, ord, _, _, _, _, tr, gb_inv I hf ht rfl hs1 hm1 hs2 hm2, X', Y'⟩)
  rw [ow_l I.1 (I.2.2 t ht).2.1.1 (I.2.2 f hf).2.1.1]
/-- which of the tentative writes a commit of n takes -/
theorem ow_c (x : Int32) : ∀ (L : List Nat) (j : Nat), ∃ C R, L = C ++ R ∧ (∀ i, i < C.length → ¬ x ≤ nI (j + i)) ∧ (R = [] ∨ x ≤ nI (j + C.length)) := by
  intro L
  induction L with
  | nil => intro j; exact ⟨[], [], rfl, fun i hi => absurd hi (Nat.not_lt_zero i), Or.inl rfl⟩
  | cons w L ih =>
    intro j
    by_cases h : x ≤ nI j
    · exact ⟨[], w :: L, rfl, fun i hi => absurd hi (Nat.not_lt_zero i), Or.inr h⟩
    · obtain ⟨C, R, e, h1, h2⟩ := ih (j + 1)
      refine ⟨w :: C, R, by rw [e]; rfl, fun i hi => ?_, ?_⟩
      · rw [List.length_cons] at hi
        rcases Nat.eq_zero_or_pos i with z | z
        · rw [z]; exact h
        · have := h1 (i - 1) (by omega)
          rw [show j + 1 + (i - 1) = j + i by omega] at this
          exact this
      · rw [List.length_cons, show j + (C.length + 1) = j + 1 + C.length by omega]
        exact h2
theorem ow_ci {nr nw : Nat} {P : Nat → gh_W} {sn : Nat → Nat → Nat} {ck tr : Nat → Nat} {R : List Nat} : ∀ (C : List Nat) (ord : Nat → Nat) (T : Nat → List Nat) (dn : Nat → Nat), gh_inv nr nw P ord T sn dn ck tr → T 0 = C ++ R →
    gh_inv nr nw P (cm_o ord (dn 0) C) (gh_u T 0 R) sn (gh_u dn 0 (dn 0 + C.length)) ck tr := by
  intro C
  induction C with
  | nil =>
    intro ord T dn I hT
    rw [gh_ui (show T 0 = R from hT), gh_ui (show dn 0 = dn 0 + ([] : List Nat).length from rfl)]
    exact I
  | cons w C ih =>
    intro ord T dn I hT
    have G := ih _ _ _ (gh_c_inv I hT) gh_us
    rw [gh_us, gh_uu, gh_uu, show dn 0 + 1 + C.length = dn 0 + (w :: C).length by rw [List.length_cons]; omega] at G
    exact G
theorem i_vc_commit {k : Nat} {u : SX} {v : SY} (I : i_Rel k u v) (hk : k + 5 ≤ 2561) (v1 : Int32) : wpX_commit (fun r u' => wpY_commit (fun r' v' => r' = r ∧ i_Rel (k + 5) u' v') v v1) u v1 := by
  obtain ⟨nr, nw, P, ord, T, sn, dn, ck, tr, I, X, Y⟩ := I
  obtain ⟨C, R, hT, h1, h2⟩ := ow_c v1 (T 0) 0
  have I' := ow_ci C ord T dn I hT
  have h0 : 0 < nr := by have := I.1.1; omega
  have b := I'.2.2 0 h0
  have hd := gh_Dle I'.1 I'.2.1 b.1 b.2.1
  rw [gh_us] at hd
  have h48 := I.1.2.2.1
  have L := x_com (post := fun r u' => wpY_commit (fun r' v' => r' = r ∧ i_Rel (k + 5) u' v') v v1) C ord T dn 0 u I X hT h1 h2 (fun u' X' => by
    rw [Nat.zero_add]
    exact y_commit I Y hT (fun i hi => by have := h1 i hi; rw [Nat.zero_add] at this; exact this) (by rw [Nat.zero_add] at h2; exact h2) (by omega) (fun v' Y' => ⟨rfl, nr, nw, P, _, _, sn, _, ck, tr, I', X', Y'⟩))
  obtain ⟨f_replicas, f_writes, a_origin, a_turn, a_stamp, a_kindOf, a_cellOf, a_valueOf, a_clock, a_seen, a_fixed, a_done, a_heldFrom, a_trimmed, a_log, a_stableCell, a_nowCell, a_waiting, a_applied, a_tent, a_outcome, a_oldCellA, a_oldValA, a_oldCellB, a_oldValB, a_work⟩ := u
  exact ⟨_, L⟩
theorem ow_t {nr nw : Nat} {P : Nat → gh_W} {ord : Nat → Nat} {T : Nat → List Nat} {sn : Nat → Nat → Nat} {dn ck tr : Nat → Nat} {r j : Nat} (I : gh_inv nr nw P ord T sn dn ck tr) : gh_inv nr nw P ord T sn dn ck (gh_u tr r (gb_x (tr r) (min j (dn r)))) := by
  obtain ⟨H, O, R⟩ := I
  refine ⟨H, O, fun r' hr' => ?_⟩
  obtain ⟨a1, a2, a3, a4⟩ := R r' hr'
  refine ⟨a1, a2, a3, ?_⟩
  by_cases e : r' = r
  · subst e
    rw [gh_us]
    have := gh_Dle H O a1 a2
    have := H.2.2.1
    exact gb_48 a4 (by omega)
  · rw [gh_un e]; exact a4
theorem i_vc_trim {k : Nat} {u : SX} {v : SY} (I : i_Rel k u v) (hk : k + 5 ≤ 2561) (v1 : Int32) (v2 : Int32) : wpX_trim (fun r u' => wpY_trim (fun r' v' => r' = r ∧ i_Rel (k + 5) u' v') v v1 v2) u v1 v2 := by
  have I0 := I
  obtain ⟨nr, nw, P, ord, T, sn, dn, ck, tr, I, X, Y⟩ := I
  have h4 := I.1.2.1
  rcases pk_ix v1 (n := nr) (by omega) with h | h | ⟨r, hr, rfl⟩
  · exact x_tr_e1 h4 X.1 (Or.inl h) (y_tr_e1 h4 Y.1 (Or.inl h) ⟨rfl, I0⟩)
  · exact x_tr_e1 h4 X.1 (Or.inr h) (y_tr_e1 h4 Y.1 (Or.inr h) ⟨rfl, I0⟩)
  obtain ⟨j, hj⟩ : ∃ j, (v2 < 0 ∧ j = 0) ∨ (v2 = nI j ∧ j < 2 ^ 31) := by
    by_cases a : v2 < 0
    · exact ⟨0, Or.inl ⟨a, rfl⟩⟩
    · obtain ⟨j, h1, h2⟩ := nI_of a
      exact ⟨j, Or.inr ⟨h2, h1⟩⟩
  exact x_trim X h4 hr hj (fun u' X' => y_trim I Y hr hj (fun v' Y' => ⟨rfl, nr, nw, P, ord, T, sn, dn, ck, _, ow_t I, X', Y'⟩))
theorem i_vc_cell {k : Nat} {u : SX} {v : SY} (I : i_Rel k u v) (hk : k + 5 ≤ 2561) (v1 : Int32) (v2 : Int32) : wpX_cell (fun r => wpY_cell (fun r' v' => r' = r ∧ i_Rel (k + 5) u v') v v1 v2) u v1 v2 := by
  have I0 := I
  obtain ⟨nr, nw, P, ord, T, sn, dn, ck, tr, I, X, Y⟩ := I
  have h4 := I.1.2.1
  rcases pk_ix v1 (n := nr) (by omega) with h | h | ⟨r, hr, rfl⟩
  · exact x_ce_e1 h4 X.1 (Or.inl h) (y_ce_e1 h4 Y.1 (Or.inl h) ⟨rfl, I0⟩)
  · exact x_ce_e1 h4 X.1 (Or.inr h) (y_ce_e1 h4 Y.1 (Or.inr h) ⟨rfl, I0⟩)
  by_cases a : v2 < 0
  · exact x_ce_e2 h4 X.1 hr (Or.inl a) (y_ce_e2 h4 Y.1 hr (Or.inl a) ⟨rfl, I0⟩)
  by_cases b : v2 ≤ 7
  case neg => exact x_ce_e2 h4 X.1 hr (Or.inr b) (y_ce_e2 h4 Y.1 hr (Or.inr b) ⟨rfl, I0⟩)
  obtain ⟨c, hc, rfl⟩ := nI_of2 (x := v2) (M := 7) (n := 7) (by decide) a b
  exact x_cell X h4 hr (by omega) (y_cell I Y hr (by omega) (fun v' Y' => ⟨rfl, nr, nw, P, ord, T, sn, dn, ck, tr, I, X, Y'⟩))
theorem i_vc_stable {k : Nat} {u : SX} {v : SY} (I : i_Rel k u v) (hk : k + 5 ≤ 2561) (v1 : Int32) (v2 : Int32) : wpX_stable (fun r => wpY_stable (fun r' v' => r' = r ∧ i_Rel (k + 5) u v') v v1 v2) u v1 v2 := by
  have I0 := I
  obtain ⟨nr, nw, P, ord, T, sn, dn, ck, tr, I, X, Y⟩ := I
  have h4 := I.1.2.1
  rcases pk_ix v1 (n := nr) (by omega) with h | h | ⟨r, hr, rfl⟩
  · exact x_sb_e1 h4 X.1 (Or.inl h) (y_sb_e1 h4 Y.1 (Or.inl h) ⟨rfl, I0⟩)
  · exact x_sb_e1 h4 X.1 (Or.inr h) (y_sb_e1 h4 Y.1 (Or.inr h) ⟨rfl, I0⟩)
  by_cases a : v2 < 0
  · exact x_sb_e2 h4 X.1 hr (Or.inl a) (y_sb_e2 h4 Y.1 hr (Or.inl a) ⟨rfl, I0⟩)
  by_cases b : v2 ≤ 7
  case neg => exact x_sb_e2 h4 X.1 hr (Or.inr b) (y_sb_e2 h4 Y.1 hr (Or.inr b) ⟨rfl, I0⟩)
  obtain ⟨c, hc, rfl⟩ := nI_of2 (x := v2) (M := 7) (n := 7) (by decide) a b
  exact x_stable X h4 hr (by omega) (y_stable I Y hr (by omega) (fun v' Y' => ⟨rfl, nr, nw, P, ord, T, sn, dn, ck, tr, I, X, Y'⟩))
theorem i_vc_known {k : Nat} {u : SX} {v : SY} (I : i_Rel k u v) (hk : k + 5 ≤ 2561) (v1 : Int32) : wpX_known (fun r => wpY_known (fun r' => r' = r ∧ i_Rel (k + 5) u v) v v1) u v1 := by
  have I0 := I
  obtain ⟨nr, nw, P, ord, T, sn, dn, ck, tr, I, X, Y⟩ := I
  have h4 := I.1.2.1
  rcases pk_ix v1 (n := nr) (by omega) with h | h | ⟨r, hr, rfl⟩
  · exact x_kn_e1 h4 X.1 (Or.inl h) (y_kn_e1 h4 Y.1 (Or.inl h) ⟨rfl, I0⟩)
  · exact x_kn_e1 h4 X.1 (Or.inr h) (y_kn_e1 h4 Y.1 (Or.inr h) ⟨rfl, I0⟩)
  refine x_known X h4 hr (y_known Y h4 hr ⟨?_, I0⟩)
  rw [ow_l I.1 (fun o => Nat.zero_le _) (I.2.2 r hr).2.1.1]
theorem i_vc_committed {k : Nat} {u : SX} {v : SY} (I : i_Rel k u v) (hk : k + 5 ≤ 2561) (v1 : Int32) : wpX_committed (fun r => wpY_committed (fun r' => r' = r ∧ i_Rel (k + 5) u v) v v1) u v1 := by
  have I0 := I
  obtain ⟨nr, nw, P, ord, T, sn, dn, ck, tr, I, X, Y⟩ := I
  have h4 := I.1.2.1
  rcases pk_ix v1 (n := nr) (by omega) with h | h | ⟨r, hr, rfl⟩
  · exact x_cd_e1 h4 X.1 (Or.inl h) (y_cd_e1 h4 Y.1 (Or.inl h) ⟨rfl, I0⟩)
  · exact x_cd_e1 h4 X.1 (Or.inr h) (y_cd_e1 h4 Y.1 (Or.inr h) ⟨rfl, I0⟩)
  exact x_cd X h4 hr (y_cd Y h4 hr ⟨rfl, I0⟩)
theorem i_vc_standing {k : Nat} {u : SX} {v : SY} (I : i_Rel k u v) (hk : k + 5 ≤ 2561) (v1 : Int32) (v2 : Int32) : wpX_standing (fun r => wpY_standing (fun r' v' => r' = r ∧ i_Rel (k + 5) u v') v v1 v2) u v1 v2 := by
  have I0 := I
  obtain ⟨nr, nw, P, ord, T, sn, dn, ck, tr, I, X, Y⟩ := I
  have h4 := I.1.2.1
  have h48 := I.1.2.2.1
  rcases pk_ix v1 (n := nr) (by omega) with h | h | ⟨r, hr, rfl⟩
  · exact x_sd_e1 h4 X.1 (Or.inl h) (y_sd_e1 h4 Y.1 (Or.inl h) ⟨rfl, I0⟩)
  · exact x_sd_e1 h4 X.1 (Or.inr h) (y_sd_e1 h4 Y.1 (Or.inr h) ⟨rfl, I0⟩)
  rcases pk_ix v2 (n := nw) (by omega) with h | h | ⟨w, hw, rfl⟩
  · exact x_sd_e2 h4 X.1 X.2.1 hr (Or.inl h) (y_sd_e2 h4 Y.1 Y.2.1 hr (Or.inl h) ⟨rfl, I0⟩)
  · exact x_sd_e2 h4 X.1 X.2.1 hr (Or.inr h) (y_sd_e2 h4 Y.1 Y.2.1 hr (Or.inr h) ⟨rfl, I0⟩)
  exact x_standing I X hr hw
    (fun a => y_standing I Y hr hw (Or.inl ⟨a, rfl⟩) (fun v' Y' => ⟨rfl, nr, nw, P, ord, T, sn, dn, ck, tr, I, X, Y'⟩))
    (fun a => y_standing I Y hr hw (Or.inr (Or.inl ⟨a, rfl⟩)) (fun v' Y' => ⟨rfl, nr, nw, P, ord, T, sn, dn, ck, tr, I, X, Y'⟩))
    (fun p a => y_standing I Y hr hw (Or.inr (Or.inr ⟨p, a, rfl⟩)) (fun v' Y' => ⟨rfl, nr, nw, P, ord, T, sn, dn, ck, tr, I, X, Y'⟩))
end
