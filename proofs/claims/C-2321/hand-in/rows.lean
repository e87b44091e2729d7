section
theorem pk_us {f : Nat → Int32} {k : Nat} {x : Int32} : upd f k x k = x := if_pos rfl
theorem pk_un {f : Nat → Int32} {k j : Nat} {x : Int32} (h : j ≠ k) : upd f k x j = f j := if_neg h
theorem pk_sub {a b : Nat} (h : b ≤ a) : nI a - nI b = nI (a - b) := by
  obtain ⟨c, rfl⟩ : ∃ c, a = c + b := ⟨a - b, by omega⟩
  rw [← nI_add, Int32.add_sub_cancel, Nat.add_sub_cancel]
theorem pk_m1 (n : Nat) : nI (n + 1) + (-1) = nI n := by
  rw [← nI_1, Int32.add_assoc, show (1 : Int32) + (-1) = 0 from rfl, Int32.add_zero]
theorem pk_mul (a b : Nat) : nI a * nI b = nI (a * b) := (Int32.ofNat_mul a b).symm
theorem pk_ix (x : Int32) {n : Nat} (hn : n < 2 ^ 31) : x < 0 ∨ nI n ≤ x ∨ ∃ j : Nat, j < n ∧ x = nI j := by
  by_cases h : x < 0
  · exact Or.inl h
  · obtain ⟨j, hj, rfl⟩ := nI_of h
    by_cases h2 : j < n
    · exact Or.inr (Or.inr ⟨j, h2, rfl⟩)
    · exact Or.inr (Or.inl (nI_le (by omega) hj))
theorem pk_le {x y : Int32} {A B : Prop} (a b : Nat) (f : a ≤ b → A) (g : b < a → B) (hx : x = nI a := by rfl) (hy : y = nI b := by rfl) (ha : a < 2 ^ 31 := by omega) (hb : b < 2 ^ 31 := by omega) : (x ≤ y → A) ∧ (¬ x ≤ y → B) := by
  subst hx hy
  rw [nI_leI ha hb]
  exact ⟨f, fun z => g (by omega)⟩
theorem pk_lt {x y : Int32} {A B : Prop} (a b : Nat) (f : a < b → A) (g : b ≤ a → B) (hx : x = nI a := by rfl) (hy : y = nI b := by rfl) (ha : a < 2 ^ 31 := by omega) (hb : b < 2 ^ 31 := by omega) : (x < y → A) ∧ (¬ x < y → B) := by
  subst hx hy
  rw [nI_ltI ha hb]
  exact ⟨f, fun z => g (by omega)⟩
theorem pk_eq {x y : Int32} {A B : Prop} (a b : Nat) (f : a = b → A) (g : a ≠ b → B) (hx : x = nI a := by rfl) (hy : y = nI b := by rfl) (ha : a < 2 ^ 31 := by omega) (hb : b < 2 ^ 31 := by omega) : (x = y → A) ∧ (¬ x = y → B) := by
  subst hx hy
  rw [nI_eq ha hb]
  exact ⟨f, g⟩
theorem pk_in {x : Int32} (n N : Nat) (h : n < N) (hx : x = nI n := by rfl) (hN : N < 2 ^ 31 := by omega) : vp_in x N := by
  subst hx
  exact vp_in_nI h hN
theorem pk_cl {x : Int32} (n : Nat) (hx : x = nI n := by rfl) (h : n < 2 ^ 31 := by omega) : x.toNatClampNeg = n := by
  subst hx
  exact nI_clamp h
theorem pk_tn {n : Nat} (h : n < 2 ^ 32) : (nI n).toBitVec.toNat = n := Nat.mod_eq_of_lt h
theorem pk_and (x : Int32) {m : Int32} (k : Nat) (hm : m.toBitVec.toNat = 2 ^ k - 1) : x &&& m = nI (x.toBitVec.toNat % 2 ^ k) := by
  apply Int32.toBitVec_inj.mp
  apply BitVec.eq_of_toNat_eq
  rw [Int32.toBitVec_and, BitVec.toNat_and, hm, Nat.and_two_pow_sub_one_eq_mod]
  show _ = (BitVec.ofNat 32 _).toNat
  rw [BitVec.toNat_ofNat]
  exact (Nat.mod_eq_of_lt (Nat.lt_of_le_of_lt (Nat.mod_le _ _) x.toBitVec.isLt)).symm
theorem pk_andN {n : Nat} (h : n < 2 ^ 32) {m : Int32} (k : Nat) (hm : m.toBitVec.toNat = 2 ^ k - 1) : nI n &&& m = nI (n % 2 ^ k) := by
  rw [pk_and _ k hm, pk_tn h]
theorem pk_andE (x : Int32) {m : Int32} (k : Nat) (hm : m.toBitVec.toNat = 2 ^ k - 1) : ∃ j : Nat, j < 2 ^ k ∧ x &&& m = nI j := ⟨_, Nat.mod_lt _ (Nat.two_pow_pos k), pk_and x k hm⟩
theorem pk_shr (a s : Int32) (k : Nat) (hs : (s.toBitVec.smod 32).toNat = k) : (a >>> s).toInt = a.toInt >>> k := by
  show (a.toBitVec.sshiftRight (s.toBitVec.smod 32).toNat).toInt = _
  rw [hs, BitVec.toInt_sshiftRight]
  rfl
theorem pk_shrN {n : Nat} (h : n < 2 ^ 31) (s : Int32) (k : Nat) (hs : (s.toBitVec.smod 32).toNat = k) : nI n >>> s = nI (n / 2 ^ k) := by
  apply Int32.toInt_inj.mp
  have h2 : n / 2 ^ k ≤ n := Nat.div_le_self _ _
  rw [pk_shr _ _ k hs, nI_toInt h, nI_toInt (by omega), Int.shiftRight_eq_div_pow]
  rfl
theorem pk_vb (z : Int32) : vp_nar .byte z.toInt8.toInt32 = z.toInt8.toInt32 := by rw [vp_nar_byte]; simp
end
section
/-! the tree of versions: parents by number, ancestors, edges, families of rows -/
def zt_it (P : Nat → Nat) : Nat → Nat → Nat
  | 0, v => v
  | k + 1, v => zt_it P k (P v)
theorem zt_it_s (P : Nat → Nat) : ∀ k v, zt_it P (k + 1) v = P (zt_it P k v)
  | 0, _ => rfl
  | k + 1, v => zt_it_s P k (P v)
theorem zt_it_add (P : Nat → Nat) : ∀ a b v, zt_it P (a + b) v = zt_it P b (zt_it P a v)
  | 0, b, v => by rw [Nat.zero_add]; rfl
  | a + 1, b, v => by
    rw [show a + 1 + b = (a + b) + 1 from by omega]
    exact zt_it_add P a b (P v)
def zt_an (P : Nat → Nat) (v e : Nat) : Prop := ∃ k, zt_it P k v = e
theorem zt_an_r (P : Nat → Nat) (v : Nat) : zt_an P v v := ⟨0, rfl⟩
theorem zt_an_s {P : Nat → Nat} {v e : Nat} (h : zt_an P (P v) e) : zt_an P v e := by
  obtain ⟨k, hk⟩ := h
  exact ⟨k + 1, hk⟩
theorem zt_an_c {P : Nat → Nat} {v e : Nat} (h : zt_an P v e) : v = e ∨ zt_an P (P v) e := by
  obtain ⟨k, hk⟩ := h
  cases k with
  | zero => exact Or.inl hk
  | succ k => exact Or.inr ⟨k, hk⟩
theorem zt_an_u {P : Nat → Nat} {v e : Nat} (h : zt_an P v e) : zt_an P v (P e) := by
  obtain ⟨k, hk⟩ := h
  exact ⟨k + 1, by rw [zt_it_s, hk]⟩
theorem zt_an_t {P : Nat → Nat} {a b c : Nat} (h : zt_an P a b) (g : zt_an P b c) : zt_an P a c := by
  obtain ⟨k, hk⟩ := h
  obtain ⟨l, hl⟩ := g
  exact ⟨k + l, by rw [zt_it_add, hk, hl]⟩
theorem zt_an_tot {P : Nat → Nat} {v a b : Nat} (h : zt_an P v a) (g : zt_an P v b) : zt_an P a b ∨ zt_an P b a := by
  obtain ⟨k, hk⟩ := h
  obtain ⟨l, hl⟩ := g
  rcases Nat.le_total k l with z | z
  · refine Or.inl ⟨l - k, ?_⟩
    rw [← hk, ← zt_it_add, show k + (l - k) = l from by omega, hl]
  · refine Or.inr ⟨k - l, ?_⟩
    rw [← hl, ← zt_it_add, show l + (k - l) = k from by omega, hk]
/-- the shape of an edge: kind, columns x and z, the parent's and the child's numbers of columns -/
def zt_Es (k x z np nc : Nat) : Prop := k ≤ 5 ∧ 1 ≤ np ∧ np ≤ 5 ∧ 1 ≤ nc ∧ nc ≤ 5 ∧ (k = 0 → nc = np + 1) ∧ (k = 1 → np = nc + 1 ∧ x < np) ∧ (2 ≤ k → nc = np ∧ x < np) ∧ (4 ≤ k → z < np) ∧ (k = 5 → x ≠ z)
def zt_T (nv : Nat) (P K X Z C : Nat → Nat) : Prop := 1 ≤ nv ∧ nv ≤ 8 ∧ P 0 = 0 ∧ (∀ w, w < nv → 1 ≤ C w ∧ C w ≤ 5) ∧ ∀ w, 0 < w → w < nv → P w < w ∧ zt_Es (K w) (X w) (Z w) (C (P w)) (C w)
/-- the arrays hold these numbers -/
def zt_A (pa ki cx cz co : Nat → Int32) (P K X Z C : Nat → Nat) : Prop := ∀ w, pa w = nI (P w) ∧ ki w = nI (K w) ∧ cx w = nI (X w) ∧ cz w = nI (Z w) ∧ co w = nI (C w)
section
variable {nv : Nat} {P K X Z C : Nat → Nat}
theorem zt_P_le (T : zt_T nv P K X Z C) {w : Nat} (h : w < nv) : P w ≤ w := by
  rcases Nat.eq_zero_or_pos w with z | z
  · subst z; rw [T.2.2.1]; exact Nat.le_refl _
  · exact Nat.le_of_lt (T.2.2.2.2 w z h).1
theorem zt_P_lt (T : zt_T nv P K X Z C) {w : Nat} (h0 : 0 < w) (h : w < nv) : P w < w := (T.2.2.2.2 w h0 h).1
theorem zt_P_nv (T : zt_T nv P K X Z C) {w : Nat} (h : w < nv) : P w < nv := Nat.lt_of_le_of_lt (zt_P_le T h) h
theorem zt_E (T : zt_T nv P K X Z C) {w : Nat} (h0 : 0 < w) (h : w < nv) : zt_Es (K w) (X w) (Z w) (C (P w)) (C w) := (T.2.2.2.2 w h0 h).2
theorem zt_C (T : zt_T nv P K X Z C) {w : Nat} (h : w < nv) : 1 ≤ C w ∧ C w ≤ 5 := T.2.2.2.1 w h
theorem zt_nv (T : zt_T nv P K X Z C) : 1 ≤ nv ∧ nv ≤ 8 := ⟨T.1, T.2.1⟩
theorem zt_it_le (T : zt_T nv P K X Z C) : ∀ k v, v < nv → zt_it P k v ≤ v
  | 0, _, _ => Nat.le_refl _
  | k + 1, v, h => Nat.le_trans (zt_it_le T k (P v) (zt_P_nv T h)) (zt_P_le T h)
theorem zt_it_nv (T : zt_T nv P K X Z C) {k v : Nat} (h : v < nv) : zt_it P k v < nv := Nat.lt_of_le_of_lt (zt_it_le T k v h) h
theorem zt_an_le (T : zt_T nv P K X Z C) {v e : Nat} (hv : v < nv) (h : zt_an P v e) : e ≤ v := by
  obtain ⟨k, rfl⟩ := h
  exact zt_it_le T k v hv
/-- k steps from v lead down by at least k, unless to 0 -/
theorem zt_it_dn (T : zt_T nv P K X Z C) : ∀ k v, v < nv → zt_it P k v = 0 ∨ zt_it P k v + k ≤ v
  | 0, _, _ => Or.inr (Nat.le_refl _)
  | k + 1, v, h => by
    rcases Nat.eq_zero_or_pos v with z | z
    · have := zt_it_le T (k + 1) v h
      exact Or.inl (by omega)
    · have h1 := zt_P_lt T z h
      rcases zt_it_dn T k (P v) (zt_P_nv T h) with q | q
      · exact Or.inl q
      · refine Or.inr ?_
        show zt_it P k (P v) + (k + 1) ≤ v
        omega
theorem zt_an_0 (T : zt_T nv P K X Z C) {v : Nat} (h : v < nv) : zt_an P v 0 := by
  refine ⟨v + 1, ?_⟩
  rcases zt_it_dn T (v + 1) v h with q | q
  · exact q
  · omega
theorem zt_it_7 (T : zt_T nv P K X Z C) {v : Nat} (h : v < nv) : zt_it P 7 v = 0 := by
  rcases zt_it_dn T 7 v h with q | q
  · exact q
  · have := zt_nv T; omega
/-- a strict ancestor of v is one of v's parent -/
theorem zt_an_ne {v e : Nat} (h : zt_an P v e) (hn : v ≠ e) : zt_an P (P v) e := (zt_an_c h).resolve_left hn
/-- two children of one parent, both ancestors of v: the same -/
theorem zt_an_ch (T : zt_T nv P K X Z C) {v a b : Nat} (hv : v < nv) (ha : zt_an P v a) (hb : zt_an P v b) (a0 : 0 < a) (b0 : 0 < b) (e : P a = P b) : a = b := by
  have la := zt_an_le T hv ha
  have lb := zt_an_le T hv hb
  rcases zt_an_tot ha hb with q | q
  · rcases zt_an_c q with r | r
    · exact r
    · have h1 := zt_an_le T (zt_P_nv T (by omega)) r
      rw [e] at h1
      have h2 := zt_P_lt T b0 (by omega)
      omega
  · rcases zt_an_c q with r | r
    · exact r.symm
    · have h1 := zt_an_le T (zt_P_nv T (by omega)) r
      rw [← e] at h1
      have h2 := zt_P_lt T a0 (by omega)
      omega
end
/-- the values of a child's row f follow from the parent's p, and the other way -/
def zt_Ed (k x z : Nat) (y : Int32) (np nc : Nat) (p f : Nat → Int32) : Prop :=
  (k = 0 → ∀ c, c < np → f c = p c) ∧
  (k = 1 → ∀ c, c < nc → f c = p (if c < x then c else c + 1)) ∧
  (k = 2 → ∀ c, c < np → f c = if c = x then p c + y else p c) ∧
  (k = 3 → ∀ c, c < np → f c = p c) ∧
  (k = 4 → ∀ c, c < np → f c = if c = x then p z else if c = z then p x else p c) ∧
  (k = 5 → ∀ c, c < np → f c = if c = x then p x + p z else p c)
/-- a row's values in all versions fit together -/
def zt_Co (nv : Nat) (P K X Z C : Nat → Nat) (nu : Nat → Int32) (F : Nat → Nat → Int32) : Prop := ∀ w, 0 < w → w < nv → zt_Ed (K w) (X w) (Z w) (nu w) (C (P w)) (C w) (F (P w)) (F w)
/-- the free value of an edge: of one that adds, the new column at the child; of one that drops, the column at the parent -/
def zt_fr (P K X C : Nat → Nat) (F : Nat → Nat → Int32) (e : Nat) : Int32 := if K e = 0 then F e (C (P e)) else F (P e) (X e)
/-- a row in the form of version h does not tell the free value of edge e -/
def zt_nd (P K : Nat → Nat) (h e : Nat) : Prop := (K e = 0 ∧ ¬ zt_an P h e) ∨ (K e = 1 ∧ zt_an P h e)
/-- shown at v -/
def zt_Sh (P K X : Nat → Nat) (nu : Nat → Int32) (F : Nat → Nat → Int32) (v : Nat) : Prop := ∀ e, 0 < e → zt_an P v e → K e = 3 → nu e ≤ F e (X e)
def zt_Ag (n : Nat) (a b : Nat → Int32) : Prop := ∀ c, c < n → a c = b c
theorem zt_fr0 {P K X C : Nat → Nat} {F : Nat → Nat → Int32} {e : Nat} (h : K e = 0) : zt_fr P K X C F e = F e (C (P e)) := if_pos h
theorem zt_fr1 {P K X C : Nat → Nat} {F : Nat → Nat → Int32} {e : Nat} (h : K e = 1) : zt_fr P K X C F e = F (P e) (X e) := if_neg (by omega)
theorem zt_Sh_0 {nv : Nat} {P K X Z C : Nat → Nat} {nu : Nat → Int32} {F : Nat → Nat → Int32} (T : zt_T nv P K X Z C) : zt_Sh P K X nu F 0 := by
  intro e e0 h
  have := zt_an_le T (by have := T.1; omega) h
  omega
theorem zt_Sh_s {P K X : Nat → Nat} {nu : Nat → Int32} {F : Nat → Nat → Int32} {v : Nat} (h : K v = 3 → nu v ≤ F v (X v)) (g : zt_Sh P K X nu F (P v)) : zt_Sh P K X nu F v := by
  intro e e0 he k
  rcases zt_an_c he with q | q
  · subst q; exact h k
  · exact g e e0 q k
theorem zt_Sh_p {P K X : Nat → Nat} {nu : Nat → Int32} {F : Nat → Nat → Int32} {v : Nat} (h : zt_Sh P K X nu F v) : zt_Sh P K X nu F (P v) := fun e e0 he k => h e e0 (zt_an_s he) k
theorem zt_Sh_n {P K X : Nat → Nat} {nu : Nat → Int32} {F : Nat → Nat → Int32} {v : Nat} (v0 : 0 < v) (k : K v = 3) (h : ¬ nu v ≤ F v (X v)) : ¬ zt_Sh P K X nu F v := fun g => h (g v v0 (zt_an_r P v) k)
/-- what lies beside a row and on the way, before and after: only right values are written -/
def zt_Mo (m r : Nat) (fv : Nat → Int32) (bs la bs' la' : Nat → Int32) : Prop :=
  (m = 0 → bs' = bs) ∧ (m ≠ 0 → la' = la) ∧ (∀ j, (j < 8 * r ∨ 8 * r + 8 ≤ j) → bs' j = bs j) ∧ (∀ e, bs (8 * r + e) = fv e → bs' (8 * r + e) = fv e) ∧ (∀ e, la e = fv e → la' e = fv e)
theorem zt_Mo_r {m r : Nat} {fv bs la : Nat → Int32} : zt_Mo m r fv bs la bs la := ⟨fun _ => rfl, fun _ => rfl, fun _ _ => rfl, fun _ h => h, fun _ h => h⟩
theorem zt_Mo_t {m r : Nat} {fv bs la bs' la' bs'' la'' : Nat → Int32} (h : zt_Mo m r fv bs la bs' la') (g : zt_Mo m r fv bs' la' bs'' la'') : zt_Mo m r fv bs la bs'' la'' :=
  ⟨fun e => (g.1 e).trans (h.1 e), fun e => (g.2.1 e).trans (h.2.1 e), fun j hj => (g.2.2.1 j hj).trans (h.2.2.1 j hj), fun e q => g.2.2.2.1 e (h.2.2.2.1 e q), fun e q => g.2.2.2.2 e (h.2.2.2.2 e q)⟩
def zt_pk (m r : Nat) (bs la : Nat → Int32) (e : Nat) : Int32 := if m = 1 then la e else bs (8 * r + e)
def zt_ly (m r : Nat) (bs la : Nat → Int32) (e : Nat) : Int32 := if m = 0 then la e else bs (8 * r + e)
theorem zt_Mo_pk {m r : Nat} {fv bs la bs' la' : Nat → Int32} (h : zt_Mo m r fv bs la bs' la') {e : Nat} (g : zt_pk m r bs la e = fv e) : zt_pk m r bs' la' e = fv e := by
  unfold zt_pk at *
  by_cases q : m = 1
  · rw [if_pos q] at *; exact h.2.2.2.2 e g
  · rw [if_neg q] at *; exact h.2.2.2.1 e g
theorem zt_Mo_ly {m r : Nat} {fv bs la bs' la' : Nat → Int32} (h : zt_Mo m r fv bs la bs' la') {e : Nat} (g : zt_ly m r bs la e = fv e) : zt_ly m r bs' la' e = fv e := by
  unfold zt_ly at *
  by_cases q : m = 0
  · rw [if_pos q] at *; exact h.2.2.2.2 e g
  · rw [if_neg q] at *; exact h.2.2.2.1 e g
theorem zt_Mo_l {r : Nat} {fv bs la : Nat → Int32} {e : Nat} {y : Int32} (hy : y = fv e) : zt_Mo 0 r fv bs la bs (upd la e y) :=
  ⟨fun _ => rfl, fun h => absurd rfl h, fun _ _ => rfl, fun _ h => h, fun f h => by
    by_cases q : f = e
    · subst q; rw [pk_us]; exact hy
    · rw [pk_un q]; exact h⟩
theorem zt_Mo_b {m r : Nat} {fv bs la : Nat → Int32} {e : Nat} {y : Int32} (hm : m ≠ 0) (he : e < 8) (hy : y = fv e) : zt_Mo m r fv bs la (upd bs (8 * r + e) y) la :=
  ⟨fun h => absurd h hm, fun _ => rfl, fun j hj => pk_un (by omega), fun f h => by
    by_cases q : f = e
    · subst q; rw [pk_us]; exact hy
    · rw [pk_un (by omega)]; exact h, fun _ h => h⟩
end
section
/-! indices; the component's small methods -/
theorem zt_i5 (r c : Nat) : 5 * nI r + nI c = nI (5 * r + c) := by
  rw [show (5 : Int32) = nI 5 from rfl, pk_mul, nI_add]
theorem zt_i8 (r c : Nat) : 8 * nI r + nI c = nI (8 * r + c) := by
  rw [show (8 : Int32) = nI 8 from rfl, pk_mul, nI_add]
theorem zt_i40 (r w : Nat) : 40 * nI r + 5 * nI w = nI (40 * r + 5 * w) := by
  rw [show (40 : Int32) = nI 40 from rfl, show (5 : Int32) = nI 5 from rfl, pk_mul, pk_mul, nI_add]
theorem zt_i40k (r k : Nat) : 40 * nI r + nI k = nI (40 * r + k) := by
  rw [show (40 : Int32) = nI 40 from rfl, pk_mul, nI_add]
theorem zt_i480 (w : Nat) : 480 + 5 * nI w = nI (480 + 5 * w) := by
  rw [show (480 : Int32) = nI 480 from rfl, show (5 : Int32) = nI 5 from rfl, pk_mul, nI_add]
theorem zt_p1 {n : Nat} (h : 1 ≤ n) : nI n - 1 = nI (n - 1) := pk_sub (b := 1) h
theorem zt_m1 {n : Nat} (h : 1 ≤ n) : nI n + (-1) = nI (n - 1) := by
  obtain ⟨k, rfl⟩ : ∃ k, n = k + 1 := ⟨n - 1, by omega⟩
  exact pk_m1 k
theorem zt_byte : ∀ q : Nat, q < 128 → (nI q).toInt8.toInt32 = nI q := by decide +kernel
theorem zt_nb {q : Nat} (h : q < 128) : vp_nar .byte (nI q).toInt8.toInt32 = nI q := by rw [pk_vb, zt_byte q h]
theorem zt_nb' {q : Nat} (h : q < 128) : vp_nar .byte (nI q) = nI q := by rw [vp_nar_byte, zt_byte q h]
def zt_bad (n : Nat) (p : Int32) : Prop := p < 0 ∨ nI n ≤ p
theorem zt_bad_or {n : Nat} (h : n < 2 ^ 31) (p : Int32) : zt_bad n p ∨ ∃ j : Nat, j < n ∧ p = nI j := by
  rcases pk_ix p h with a | a | a
  · exact Or.inl (Or.inl a)
  · exact Or.inl (Or.inr a)
  · exact Or.inr a
theorem zt_bad_n {n j : Nat} (hn : n < 2 ^ 31) (h : j < n) : ¬ zt_bad n (nI j) := by
  rintro (a | a)
  · exact nI_pos (by omega) a
  · exact nI_ge h hn a
section
variable {nv : Nat} {P K X Z C : Nat → Nat}
variable {fv fh fr fw : Int32} {pa ki cx cz nu co xk xv bs dr ca la wy cl : Nat → Int32}
theorem zx_isv1 {post : Int32 → Prop} {v : Nat} (h : v < nv) (hn : nv ≤ 8) (j : post 1) : wpX_isVersion post (nI nv, fh, fr, fw, pa, ki, cx, cz, nu, co, xk, xv, bs, dr, ca, la, wy, cl) (nI v) :=
  br_f (nI_pos (by omega)) (br_f (nI_ge h (by omega)) j)
theorem zx_isv0 {post : Int32 → Prop} {p : Int32} (h : zt_bad nv p) (j : post 0) : wpX_isVersion post (nI nv, fh, fr, fw, pa, ki, cx, cz, nu, co, xk, xv, bs, dr, ca, la, wy, cl) p := by
  by_cases q : p < 0
  · exact br_t q j
  · exact br_f q (br_t (h.resolve_left q) j)
theorem zx_isc1 {post : Int32 → Prop} {v c : Nat} (hc : co v = nI (C v)) (hv : v < 8) (h : c < C v) (h5 : C v ≤ 5) (j : post 1) : wpX_isColumn post (fv, fh, fr, fw, pa, ki, cx, cz, nu, co, xk, xv, bs, dr, ca, la, wy, cl) (nI v) (nI c) := by
  refine br_f (nI_pos (by omega)) (And.intro (vp_in_nI hv (by omega)) ?_)
  rw [nI_clamp (by omega), hc]
  exact br_f (nI_ge h (by omega)) j
theorem zx_isc0 {post : Int32 → Prop} {v : Nat} {p : Int32} (hc : co v = nI (C v)) (hv : v < 8) (h : zt_bad (C v) p) (j : post 0) : wpX_isColumn post (fv, fh, fr, fw, pa, ki, cx, cz, nu, co, xk, xv, bs, dr, ca, la, wy, cl) (nI v) p := by
  by_cases q : p < 0
  · exact br_t q j
  · refine br_f q (And.intro (vp_in_nI hv (by omega)) ?_)
    rw [nI_clamp (by omega), hc]
    exact br_t (h.resolve_left q) j
theorem zx_cf2 (T : zt_T nv P K X Z C) (hA : ∀ w, pa w = nI (P w)) {post : Int32 → Prop} {e : Nat} (he : e < 8) : ∀ n v, v < n → v < nv → (zt_an P v e → post 1) → (¬ zt_an P v e → post 0) → wX_comesFrom_2 post (nI e) fv fh fr fw pa ki cx cz nu co xk xv bs dr ca la wy cl n (nI v) := by
  intro n
  induction n with
  | zero => intro v h; omega
  | succ n ih =>
    intro v hn hv h1 h0
    have hnv := zt_nv T
    refine pk_le v e (fun q => ?_) (fun q => ?_)
    · refine pk_eq v e (fun r => ?_) (fun r => ?_)
      · subst r; exact h1 (zt_an_r P v)
      · exact h0 (fun a => by have := zt_an_le T hv a; omega)
    · refine And.intro (vp_in_nI (by omega) (by omega)) (nm_r (e' := nI (P v)) (by rw [nI_clamp (by omega), hA]) ?_)
      have h2 := zt_P_lt T (by omega) hv
      exact ih (P v) (by omega) (by omega) (fun a => h1 (zt_an_s a)) (fun a => h0 (fun b => a (zt_an_ne b (by omega))))
theorem zx_cf (T : zt_T nv P K X Z C) (hA : ∀ w, pa w = nI (P w)) {post : Int32 → Prop} {v e : Nat} (hv : v < nv) (he : e < 8) (h1 : zt_an P v e → post 1) (h0 : ¬ zt_an P v e → post 0) : wpX_comesFrom post (fv, fh, fr, fw, pa, ki, cx, cz, nu, co, xk, xv, bs, dr, ca, la, wy, cl) (nI v) (nI e) :=
  ⟨v + 1, zx_cf2 T hA he (v + 1) v (by omega) hv h1 h0⟩
theorem zx_load15 {post : SX → Prop} {r : Nat} (hr : r < 12) (J : ∀ ca', (∀ c, c < 5 → ca' c = xv (5 * r + c)) → post (fv, fh, fr, fw, pa, ki, cx, cz, nu, co, xk, xv, bs, dr, ca', la, wy, cl)) : ∀ n i ca, i ≤ 5 → 5 - i < n → (∀ c, c < i → ca c = xv (5 * r + c)) → wX_load_15 post (nI r) fv fh fr fw n (nI i) pa ki cx cz nu co xk xv bs dr ca la wy cl := by
  intro n
  induction n with
  | zero => intro i ca h1 h2; omega
  | succ n ih =>
    intro i ca h1 h2 h3
    refine pk_le 5 i (fun q => ?_) (fun q => ?_)
    · exact J ca (fun c hc => h3 c (by omega))
    · rw [zt_i5]
      refine And.intro (vp_in_nI (by omega) (by omega)) (And.intro (vp_in_nI (by omega) (by omega)) (nm_e (nm_r (nI_1 i) ?_)))
      rw [nI_clamp (by omega), nI_clamp (by omega)]
      refine ih (i + 1) _ (by omega) (by omega) (fun c hc => ?_)
      by_cases z : c = i
      · subst z; rw [pk_us]
      · rw [pk_un z]; exact h3 c (by omega)
theorem zx_load {post : SX → Prop} {r h : Nat} (hr : r < 12) (hh : h < 8) (hc : co h = nI (C h)) (J : ∀ ca', (∀ c, c < 5 → ca' c = xv (5 * r + c)) → post (fv, nI h, fr, nI (C h), pa, ki, cx, cz, nu, co, xk, xv, bs, dr, ca', la, wy, cl)) : wpX_load post (fv, nI h, fr, fw, pa, ki, cx, cz, nu, co, xk, xv, bs, dr, ca, la, wy, cl) (nI r) := by
  refine And.intro (vp_in_nI hh (by omega)) (nm_r (e' := nI (C h)) (by rw [nI_clamp (by omega), hc]) ⟨6, ?_⟩)
  exact zx_load15 hr J 6 0 ca (by omega) (by omega) (fun c hc => by omega)
theorem zx_store2 {post : SX → Prop} {r : Nat} {xv0 : Nat → Int32} (hr : r < 12) (J : ∀ xv', (∀ c, c < 5 → xv' (5 * r + c) = ca c) → (∀ j, (j < 5 * r ∨ 5 * r + 5 ≤ j) → xv' j = xv0 j) → post (fv, fh, fr, fw, pa, ki, cx, cz, nu, co, xk, xv', bs, dr, ca, la, wy, cl)) : ∀ n i xv, i ≤ 5 → 5 - i < n → (∀ c, c < i → xv (5 * r + c) = ca c) → (∀ j, (j < 5 * r ∨ 5 * r + 5 ≤ j) → xv j = xv0 j) → wX_store_2 post (nI r) fv fh fr fw n (nI i) pa ki cx cz nu co xk xv bs dr ca la wy cl := by
  intro n
  induction n with
  | zero => intro i ca h1 h2; omega
  | succ n ih =>
    intro i xv h1 h2 h3 h4
    refine pk_le 5 i (fun q => ?_) (fun q => ?_)
    · exact J xv (fun c hc => h3 c (by omega)) h4
    · rw [zt_i5]
      refine And.intro (vp_in_nI (by omega) (by omega)) (And.intro (vp_in_nI (by omega) (by omega)) (nm_e (nm_r (nI_1 i) ?_)))
      rw [nI_clamp (by omega), nI_clamp (by omega)]
      refine ih (i + 1) _ (by omega) (by omega) (fun c hc => ?_) (fun j hj => ?_)
      · by_cases z : c = i
        · subst z; rw [pk_us]
        · rw [pk_un (by omega)]; exact h3 c (by omega)
      · rw [pk_un (by omega)]; exact h4 j hj
theorem zx_store {post : SX → Prop} {r : Nat} (hr : r < 12) (J : ∀ xv', (∀ c, c < 5 → xv' (5 * r + c) = ca c) → (∀ j, (j < 5 * r ∨ 5 * r + 5 ≤ j) → xv' j = xv j) → post (fv, fh, fr, fw, pa, ki, cx, cz, nu, co, xk, xv', bs, dr, ca, la, wy, cl)) : wpX_store post (fv, fh, fr, fw, pa, ki, cx, cz, nu, co, xk, xv, bs, dr, ca, la, wy, cl) (nI r) :=
  ⟨6, zx_store2 hr J 6 0 xv (by omega) (by omega) (fun c hc => by omega) (fun _ _ => rfl)⟩
theorem zx_pick {post : Int32 → Prop} {r e m : Nat} (hr : r < 12) (he : e < 8) (hm : m ≤ 2) (J : post (zt_pk m r bs la e)) : wpX_pick post (fv, fh, fr, fw, pa, ki, cx, cz, nu, co, xk, xv, bs, dr, ca, la, wy, cl) (nI r) (nI e) (nI m) := by
  unfold zt_pk at J
  refine pk_eq m 1 (fun q => ?_) (fun q => ?_)
  · refine And.intro (vp_in_nI he (by omega)) ?_
    rw [nI_clamp (by omega)]
    rw [if_pos q] at J
    exact J
  · rw [zt_i8]
    refine And.intro (vp_in_nI (by omega) (by omega)) ?_
    rw [nI_clamp (by omega)]
    rw [if_neg q] at J
    exact J
theorem zx_lay {post : SX → Prop} {r e m : Nat} {y : Int32} {f : Nat → Int32} (hr : r < 12) (he : e < 8) (hm : m ≤ 2) (hy : y = f e) (J : ∀ bs' la', zt_Mo m r f bs la bs' la' → zt_ly m r bs' la' e = f e → post (fv, fh, fr, fw, pa, ki, cx, cz, nu, co, xk, xv, bs', dr, ca, la', wy, cl)) : wpX_lay post (fv, fh, fr, fw, pa, ki, cx, cz, nu, co, xk, xv, bs, dr, ca, la, wy, cl) (nI r) (nI e) (nI m) y := by
  refine pk_eq m 0 (fun q => ?_) (fun q => ?_)
  · subst q
    refine And.intro (vp_in_nI he (by omega)) (nm_e ?_)
    rw [nI_clamp (by omega)]
    exact J _ _ (zt_Mo_l hy) (by unfold zt_ly; rw [if_pos rfl, pk_us]; exact hy)
  · rw [zt_i8]
    refine And.intro (vp_in_nI (by omega) (by omega)) (nm_e ?_)
    rw [nI_clamp (by omega)]
    exact J _ _ (zt_Mo_b q he hy) (by unfold zt_ly; rw [if_neg q, pk_us]; exact hy)
theorem zx_xcol {post : SX → Prop} {x z : Nat} (hx : x < 5) (hz : z < 5) (J : post (fv, fh, fr, fw, pa, ki, cx, cz, nu, co, xk, xv, bs, dr, upd (upd ca x (ca z)) z (ca x), la, wy, cl)) : wpX_exchangeColumns post (fv, fh, fr, fw, pa, ki, cx, cz, nu, co, xk, xv, bs, dr, ca, la, wy, cl) (nI x) (nI z) := by
  refine And.intro (vp_in_nI hx (by omega)) (nm_r (e' := ca x) (by rw [nI_clamp (by omega)]) (And.intro (vp_in_nI hz (by omega)) (And.intro (vp_in_nI hx (by omega)) (nm_e (And.intro (vp_in_nI hz (by omega)) (nm_e ?_))))))
  rw [nI_clamp (by omega), nI_clamp (by omega)]
  exact J
end
end
section
/-! one edge up or down: the plain laws, then climb and descend -/
theorem zt_sub {a b y : Int32} (h : a = b + y) : a - y = b := by rw [h, Int32.add_sub_cancel]
section
variable {x z np nc : Nat} {y : Int32} {p f ca ca' : Nat → Int32}
theorem zt_up0 (hE : zt_Ed 0 x z y np nc p f) (hn : nc = np + 1) (hc : zt_Ag nc ca f) : zt_Ag np ca p := fun c h => (hc c (by omega)).trans (hE.1 rfl c h)
theorem zt_up1 (hE : zt_Ed 1 x z y np nc p f) (hn : np = nc + 1) (hx : x < np) (hc : zt_Ag nc ca f) {q : Int32} (hq : q = p x) (h : ∀ c, c ≤ nc → ca' c = if c = x then q else if x < c then ca (c - 1) else ca c) : zt_Ag np ca' p := by
  intro c h1
  rw [h c (by omega)]
  by_cases h2 : c = x
  · rw [if_pos h2, hq, h2]
  · rw [if_neg h2]
    by_cases h3 : x < c
    · rw [if_pos h3, hc (c - 1) (by omega), hE.2.1 rfl (c - 1) (by omega), if_neg (by omega), show c - 1 + 1 = c from by omega]
    · rw [if_neg h3, hc c (by omega), hE.2.1 rfl c (by omega), if_pos (by omega)]
theorem zt_up2 (hE : zt_Ed 2 x z y np nc p f) (hn : nc = np) (hx : x < np) (hc : zt_Ag nc ca f) : zt_Ag np (upd ca x (ca x - y)) p := by
  intro c h1
  have h2 := hE.2.2.1 rfl c h1
  by_cases h3 : c = x
  · subst h3
    rw [pk_us, hc c (by omega)]
    rw [if_pos rfl] at h2
    exact zt_sub h2
  · rw [pk_un h3, hc c (by omega), h2, if_neg h3]
theorem zt_up3 (hE : zt_Ed 3 x z y np nc p f) (hn : nc = np) (hc : zt_Ag nc ca f) : zt_Ag np ca p := fun c h => (hc c (by omega)).trans (hE.2.2.2.1 rfl c h)
theorem zt_up4 (hE : zt_Ed 4 x z y np nc p f) (hn : nc = np) (hx : x < np) (hz : z < np) (hc : zt_Ag nc ca f) : zt_Ag np (upd (upd ca x (ca z)) z (ca x)) p := by
  intro c h1
  have hh := hE.2.2.2.2.1 rfl
  by_cases h3 : c = z
  · subst h3
    rw [pk_us, hc x (by omega), hh x hx, if_pos rfl]
  · rw [pk_un h3]
    by_cases h4 : c = x
    · subst h4
      rw [pk_us, hc z (by omega), hh z hz, if_neg (fun e => h3 e.symm), if_pos rfl]
    · rw [pk_un h4, hc c (by omega), hh c h1, if_neg h4, if_neg h3]
theorem zt_up5 (hE : zt_Ed 5 x z y np nc p f) (hn : nc = np) (hx : x < np) (hz : z < np) (hxz : x ≠ z) (hc : zt_Ag nc ca f) : zt_Ag np (upd ca x (ca x - ca z)) p := by
  intro c h1
  have hh := hE.2.2.2.2.2 rfl
  by_cases h3 : c = x
  · subst h3
    have a := hh c h1
    have b := hh z hz
    rw [if_pos rfl] at a
    rw [if_neg (fun e => hxz e.symm)] at b
    rw [pk_us, hc c (by omega), hc z (by omega), b]
    exact zt_sub a
  · rw [pk_un h3, hc c (by omega), hh c h1, if_neg h3]
theorem zt_dn0 (hE : zt_Ed 0 x z y np nc p f) (hn : nc = np + 1) (hc : zt_Ag np ca p) {q : Int32} (hq : q = f np) : zt_Ag nc (upd ca np q) f := by
  intro c h1
  by_cases h3 : c = np
  · subst h3; rw [pk_us, hq]
  · rw [pk_un h3, hc c (by omega), hE.1 rfl c (by omega)]
theorem zt_dn1 (hE : zt_Ed 1 x z y np nc p f) (hn : np = nc + 1) (hc : zt_Ag np ca p) (h : ∀ c, c < nc → ca' c = if c < x then ca c else ca (c + 1)) : zt_Ag nc ca' f := by
  intro c h1
  rw [h c h1, hE.2.1 rfl c h1]
  by_cases h2 : c < x
  · rw [if_pos h2, if_pos h2, hc c (by omega)]
  · rw [if_neg h2, if_neg h2, hc (c + 1) (by omega)]
theorem zt_dn2 (hE : zt_Ed 2 x z y np nc p f) (hn : nc = np) (hx : x < np) (hc : zt_Ag np ca p) : zt_Ag nc (upd ca x (ca x + y)) f := by
  intro c h1
  have h2 := hE.2.2.1 rfl c (by omega)
  by_cases h3 : c = x
  · subst h3
    rw [pk_us, hc c (by omega), h2, if_pos rfl]
  · rw [pk_un h3, hc c (by omega), h2, if_neg h3]
theorem zt_dn3 (hE : zt_Ed 3 x z y np nc p f) (hn : nc = np) (hc : zt_Ag np ca p) : zt_Ag nc ca f := fun c h => (hc c (by omega)).trans (hE.2.2.2.1 rfl c (by omega)).symm
theorem zt_dn4 (hE : zt_Ed 4 x z y np nc p f) (hn : nc = np) (hx : x < np) (hz : z < np) (hc : zt_Ag np ca p) : zt_Ag nc (upd (upd ca x (ca z)) z (ca x)) f := by
  intro c h1
  have hh := hE.2.2.2.2.1 rfl c (by omega)
  rw [hh]
  by_cases h3 : c = z
  · subst h3
    rw [pk_us, hc x hx]
    by_cases h4 : c = x
    · rw [if_pos h4, h4]
    · rw [if_neg h4, if_pos rfl]
  · rw [pk_un h3]
    by_cases h4 : c = x
    · subst h4
      rw [pk_us, hc z hz, if_pos rfl]
    · rw [pk_un h4, hc c (by omega), if_neg h4, if_neg h3]
theorem zt_dn5 (hE : zt_Ed 5 x z y np nc p f) (hn : nc = np) (hx : x < np) (hz : z < np) (hc : zt_Ag np ca p) : zt_Ag nc (upd ca x (ca x + ca z)) f := by
  intro c h1
  have hh := hE.2.2.2.2.2 rfl c (by omega)
  rw [hh]
  by_cases h3 : c = x
  · subst h3
    rw [pk_us, hc c (by omega), hc z (by omega), if_pos rfl]
  · rw [pk_un h3, hc c (by omega), if_neg h3]
end
theorem zt_k6 {k : Nat} (h : k ≤ 5) : k = 0 ∨ k = 1 ∨ k = 2 ∨ k = 3 ∨ k = 4 ∨ k = 5 := by omega
section
variable {nv : Nat} {P K X Z C : Nat → Nat}
variable {fv fh fr fw : Int32} {pa ki cx cz nu co xk xv bs dr ca la wy cl : Nat → Int32}
theorem zx_cl62 {post : SX → Prop} {r e m x nc : Nat} {ca0 : Nat → Int32} (hr : r < 12) (he : e < 8) (hm : m ≤ 2) (hx : x ≤ nc) (hnc : nc ≤ 4) (J : ∀ ca', (∀ c, c ≤ nc → ca' c = if c = x then zt_pk m r bs la e else if x < c then ca0 (c - 1) else ca0 c) → post (fv, fh, fr, nI (nc + 1), pa, ki, cx, cz, nu, co, xk, xv, bs, dr, ca', la, wy, cl)) : ∀ n i ca, x ≤ i → i ≤ nc → i - x < n → (∀ c, c ≤ nc → ca c = if i < c then ca0 (c - 1) else ca0 c) → wX_climb_62 post (nI r) (nI e) (nI m) (nI x) fv fh fr (nI nc) n (nI i) pa ki cx cz nu co xk xv bs dr ca la wy cl := by
  intro n
  induction n with
  | zero => intro i ca h1 h2 h3; omega
  | succ n ih =>
    intro i ca h1 h2 h3 h4
    refine pk_le i x (fun q => ?_) (fun q => ?_)
    · have e1 : i = x := by omega
      subst e1
      refine zx_pick hr he hm (And.intro (vp_in_nI (by omega) (by omega)) (nm_e (nm_r (nI_1 nc) ?_)))
      rw [nI_clamp (by omega)]
      refine J _ (fun c hc => ?_)
      by_cases z : c = i
      · subst z; rw [pk_us, if_pos rfl]
      · rw [pk_un z, if_neg z]; exact h4 c hc
    · rw [zt_p1 (by omega)]
      refine And.intro (vp_in_nI (by omega) (by omega)) (And.intro (vp_in_nI (by omega) (by omega)) (nm_e (nm_r (zt_m1 (by omega)) ?_)))
      rw [nI_clamp (by omega), nI_clamp (by omega)]
      refine ih (i - 1) _ (by omega) (by omega) (by omega) (fun c hc => ?_)
      by_cases z : c = i
      · subst z; rw [pk_us, if_pos (by omega), h4 (c - 1) (by omega), if_neg (by omega)]
      · rw [pk_un z, h4 c hc]
        by_cases w : i < c
        · rw [if_pos w, if_pos (by omega)]
        · rw [if_neg w, if_neg (by omega)]
theorem zx_ds84 {post : SX → Prop} {x nc : Nat} {ca0 : Nat → Int32} (hnc : nc ≤ 4) (J : ∀ ca', (∀ c, c < nc → ca' c = if c < x then ca0 c else ca0 (c + 1)) → post (fv, fh, fr, nI nc, pa, ki, cx, cz, nu, co, xk, xv, bs, dr, ca', la, wy, cl)) : ∀ n i ca, x ≤ i → i ≤ nc → nc - i < n → (∀ c, c < 5 → ca c = if c < x then ca0 c else if c < i then ca0 (c + 1) else ca0 c) → wX_descend_84 post fv fh fr (nI nc) n (nI i) pa ki cx cz nu co xk xv bs dr ca la wy cl := by
  intro n
  induction n with
  | zero => intro i ca h1 h2 h3; omega
  | succ n ih =>
    intro i ca h1 h2 h3 h4
    refine pk_le nc i (fun q => ?_) (fun q => ?_)
    · refine J _ (fun c hc => ?_)
      rw [h4 c (by omega)]
      by_cases z : c < x
      · rw [if_pos z, if_pos z]
      · rw [if_neg z, if_neg z, if_pos (by omega)]
    · rw [nI_1]
      refine And.intro (vp_in_nI (by omega) (by omega)) (And.intro (vp_in_nI (by omega) (by omega)) (nm_e (nm_e ?_)))
      rw [nI_clamp (by omega), nI_clamp (by omega)]
      refine ih (i + 1) _ (by omega) (by omega) (by omega) (fun c hc => ?_)
      by_cases z : c = i
      · subst z; rw [pk_us, h4 (c + 1) (by omega), if_neg (by omega), if_neg (by omega), if_neg (by omega), if_pos (by omega)]
      · rw [pk_un z, h4 c hc]
        by_cases w : c < x
        · rw [if_pos w, if_pos w]
        · rw [if_neg w, if_neg w]
          by_cases w2 : c < i
          · rw [if_pos w2, if_pos (by omega)]
          · rw [if_neg w2, if_neg (by omega)]
theorem zx_climb (T : zt_T nv P K X Z C) (A : zt_A pa ki cx cz co P K X Z C) {post : SX → Prop} {r e m : Nat} {F : Nat → Nat → Int32} (e0 : 0 < e) (he : e < nv) (hr : r < 12) (hm : m ≤ 2)
    (hE : zt_Ed (K e) (X e) (Z e) (nu e) (C (P e)) (C e) (F (P e)) (F e)) (hc : zt_Ag (C e) ca (F e)) (hp : K e = 1 → zt_pk m r bs la e = zt_fr P K X C F e)
    (J : ∀ ca' bs' la', zt_Ag (C (P e)) ca' (F (P e)) → zt_Mo m r (zt_fr P K X C F) bs la bs' la' → (K e = 0 → zt_ly m r bs' la' e = zt_fr P K X C F e) → post (fv, fh, fr, nI (C (P e)), pa, ki, cx, cz, nu, co, xk, xv, bs', dr, ca', la', wy, cl)) : wpX_climb post (fv, fh, fr, nI (C e), pa, ki, cx, cz, nu, co, xk, xv, bs, dr, ca, la, wy, cl) (nI r) (nI e) (nI m) := by
  have hnv := zt_nv T
  obtain ⟨k5, p1, p5, c1, c5, s0, s1, s2, s4, s5⟩ := zt_E T e0 he
  have h8 : vp_in (nI e) 8 := vp_in_nI (by omega) (by omega)
  have hk : ki (nI e).toNatClampNeg = nI (K e) := by rw [nI_clamp (by omega)]; exact (A e).2.1
  have hx : cx (nI e).toNatClampNeg = nI (X e) := by rw [nI_clamp (by omega)]; exact (A e).2.2.1
  have hz : cz (nI e).toNatClampNeg = nI (Z e) := by rw [nI_clamp (by omega)]; exact (A e).2.2.2.1
  refine And.intro h8 (nm_r hk (And.intro h8 (nm_r hx ?_)))
  rcases zt_k6 k5 with q | q | q | q | q | q <;> rw [q] at hE s0 s1 s2 s4 s5 hp J ⊢
  · refine br_t rfl (nm_r (e' := nI (C (P e))) (by rw [s0 rfl]; exact nI_pred _) (And.intro (vp_in_nI (by have := s0 rfl; omega) (by omega)) ?_))
    rw [nI_clamp (by omega)]
    refine zx_lay (f := zt_fr P K X C F) hr (by omega) hm (by rw [zt_fr0 q]; exact hc _ (by have := s0 rfl; omega)) (fun bs' la' hM hl => ?_)
    exact J ca bs' la' (zt_up0 hE (s0 rfl) hc) hM (fun _ => hl)
  · have s := s1 rfl
    refine br_f (by decide) (br_t rfl ⟨C e - X e + 1, ?_⟩)
    refine zx_cl62 (ca0 := ca) hr (by omega) hm (by omega) (by omega) (fun ca' hca => ?_) _ (C e) ca (by omega) (by omega) (by omega) (fun c hc => by rw [if_neg (by omega)])
    rw [← s.1]
    exact J ca' bs la (zt_up1 hE s.1 s.2 hc ((hp rfl).trans (zt_fr1 q)) hca) zt_Mo_r (fun w => absurd w (by decide))
  · have s := s2 (by decide)
    refine br_f (by decide) (br_f (by decide) (br_t rfl ?_))
    refine And.intro (vp_in_nI (by omega) (by omega)) (And.intro h8 (And.intro (vp_in_nI (by omega) (by omega)) (nm_e ?_)))
    rw [nI_clamp (by omega), nI_clamp (by omega), s.1]
    exact J _ bs la (zt_up2 hE s.1 s.2 hc) zt_Mo_r (fun w => absurd w (by decide))
  · have s := s2 (by decide)
    refine br_f (by decide) (br_f (by decide) (br_f (by decide) (br_f (by decide) (br_f (by decide) ?_))))
    rw [s.1]
    exact J _ bs la (zt_up3 hE s.1 hc) zt_Mo_r (fun w => absurd w (by decide))
  · have s := s2 (by decide)
    have s' := s4 (by decide)
    refine br_f (by decide) (br_f (by decide) (br_f (by decide) (br_t rfl (And.intro h8 ?_))))
    rw [hz]
    refine zx_xcol (by omega) (by omega) ?_
    rw [s.1]
    exact J _ bs la (zt_up4 hE s.1 s.2 s' hc) zt_Mo_r (fun w => absurd w (by decide))
  · have s := s2 (by decide)
    have s' := s4 (by decide)
    refine br_f (by decide) (br_f (by decide) (br_f (by decide) (br_f (by decide) (br_t rfl ?_))))
    rw [hz]
    refine And.intro (vp_in_nI (by omega) (by omega)) (And.intro h8 (And.intro (vp_in_nI (by omega) (by omega)) (And.intro (vp_in_nI (by omega) (by omega)) (nm_e ?_))))
    rw [nI_clamp (by omega), nI_clamp (by omega), s.1]
    exact J _ bs la (zt_up5 hE s.1 s.2 s' (s5 rfl) hc) zt_Mo_r (fun w => absurd w (by decide))
theorem zx_descend (T : zt_T nv P K X Z C) (A : zt_A pa ki cx cz co P K X Z C) {post : SX → Prop} {r e m : Nat} {F : Nat → Nat → Int32} (e0 : 0 < e) (he : e < nv) (hr : r < 12) (hm : m ≤ 2)
    (hE : zt_Ed (K e) (X e) (Z e) (nu e) (C (P e)) (C e) (F (P e)) (F e)) (hc : zt_Ag (C (P e)) ca (F (P e))) (hp : K e = 0 → zt_pk m r bs la e = zt_fr P K X C F e)
    (J : ∀ ca' bs' la', zt_Ag (C e) ca' (F e) → zt_Mo m r (zt_fr P K X C F) bs la bs' la' → (K e = 1 → zt_ly m r bs' la' e = zt_fr P K X C F e) → post (fv, fh, fr, nI (C e), pa, ki, cx, cz, nu, co, xk, xv, bs', dr, ca', la', wy, cl)) : wpX_descend post (fv, fh, fr, nI (C (P e)), pa, ki, cx, cz, nu, co, xk, xv, bs, dr, ca, la, wy, cl) (nI r) (nI e) (nI m) := by
  have hnv := zt_nv T
  obtain ⟨k5, p1, p5, c1, c5, s0, s1, s2, s4, s5⟩ := zt_E T e0 he
  have h8 : vp_in (nI e) 8 := vp_in_nI (by omega) (by omega)
  have hk : ki (nI e).toNatClampNeg = nI (K e) := by rw [nI_clamp (by omega)]; exact (A e).2.1
  have hx : cx (nI e).toNatClampNeg = nI (X e) := by rw [nI_clamp (by omega)]; exact (A e).2.2.1
  have hz : cz (nI e).toNatClampNeg = nI (Z e) := by rw [nI_clamp (by omega)]; exact (A e).2.2.2.1
  refine And.intro h8 (nm_r hk (And.intro h8 (nm_r hx ?_)))
  rcases zt_k6 k5 with q | q | q | q | q | q <;> rw [q] at hE s0 s1 s2 s4 s5 hp J ⊢
  · have s := s0 rfl
    refine br_t rfl (zx_pick hr (by omega) hm (And.intro (vp_in_nI (by omega) (by omega)) (nm_e (nm_r (nI_1 _) ?_))))
    rw [nI_clamp (by omega), ← s]
    exact J _ bs la (zt_dn0 hE s hc ((hp rfl).trans (zt_fr0 q))) zt_Mo_r (fun w => absurd w (by decide))
  · have s := s1 rfl
    refine br_f (by decide) (br_t rfl (And.intro (vp_in_nI (by omega) (by omega)) ?_))
    rw [nI_clamp (by omega)]
    refine zx_lay (f := zt_fr P K X C F) hr (by omega) hm (by rw [zt_fr1 q]; exact hc _ (by omega)) (fun bs' la' hM hl => ?_)
    refine nm_r (e' := nI (C e)) (by rw [s.1]; exact nI_pred _) ⟨C e - X e + 1, ?_⟩
    refine zx_ds84 (x := X e) (ca0 := ca) (by omega) (fun ca' hca => ?_) _ (X e) ca (by omega) (by omega) (by omega) (fun c hc => by
      by_cases z : c < X e
      · rw [if_pos z]
      · rw [if_neg z, if_neg z])
    exact J ca' bs' la' (zt_dn1 hE s.1 hc hca) hM (fun _ => hl)
  · have s := s2 (by decide)
    refine br_f (by decide) (br_f (by decide) (br_t rfl ?_))
    refine And.intro (vp_in_nI (by omega) (by omega)) (And.intro h8 (And.intro (vp_in_nI (by omega) (by omega)) (nm_e ?_)))
    rw [nI_clamp (by omega), nI_clamp (by omega), ← s.1]
    exact J _ bs la (zt_dn2 hE s.1 s.2 hc) zt_Mo_r (fun w => absurd w (by decide))
  · have s := s2 (by decide)
    refine br_f (by decide) (br_f (by decide) (br_f (by decide) (br_f (by decide) (br_f (by decide) ?_))))
    rw [← s.1]
    exact J _ bs la (zt_dn3 hE s.1 hc) zt_Mo_r (fun w => absurd w (by decide))
  · have s := s2 (by decide)
    have s' := s4 (by decide)
    refine br_f (by decide) (br_f (by decide) (br_f (by decide) (br_t rfl (And.intro h8 ?_))))
    rw [hz]
    refine zx_xcol (by omega) (by omega) ?_
    rw [← s.1]
    exact J _ bs la (zt_dn4 hE s.1 s.2 s' hc) zt_Mo_r (fun w => absurd w (by decide))
  · have s := s2 (by decide)
    have s' := s4 (by decide)
    refine br_f (by decide) (br_f (by decide) (br_f (by decide) (br_f (by decide) (br_t rfl ?_))))
    rw [hz]
    refine And.intro (vp_in_nI (by omega) (by omega)) (And.intro h8 (And.intro (vp_in_nI (by omega) (by omega)) (And.intro (vp_in_nI (by omega) (by omega)) (nm_e ?_))))
    rw [nI_clamp (by omega), nI_clamp (by omega), ← s.1]
    exact J _ bs la (zt_dn5 hE s.1 s.2 s' hc) zt_Mo_r (fun w => absurd w (by decide))
end
end
section
/-! a row's way from one version to another -/
section
variable {nv : Nat} {P K X Z C : Nat → Nat}
variable {fv fh fr fw : Int32} {pa ki cx cz nu co xk xv bs dr ca la wy cl : Nat → Int32}
theorem zt_0m1 : nI 0 - 1 < 0 := by decide
theorem zt_am1 (x : Int32) : x + (-1) = x - 1 := by rw [Int32.sub_eq_add_neg]
/-- down: j edges are left -/
theorem zx_ca78 (T : zt_T nv P K X Z C) (A : zt_A pa ki cx cz co P K X Z C) {post : SX → Prop} {r g t m : Nat} {F : Nat → Nat → Int32} (hr : r < 12) (hm : m ≤ 2) (hg : g < nv)
    (hF : zt_Co nv P K X Z C nu F) {bs0 la0 : Nat → Int32}
    (hp : ∀ e, 0 < e → e < nv → zt_an P g e → ¬ zt_an P t e → K e = 0 → zt_pk m r bs0 la0 e = zt_fr P K X C F e)
    (J : ∀ ca' bs' la', zt_Ag (C g) ca' (F g) → zt_Mo m r (zt_fr P K X C F) bs0 la0 bs' la' → (∀ e, 0 < e → e < nv → zt_an P g e → ¬ zt_an P t e → K e = 1 → zt_ly m r bs' la' e = zt_fr P K X C F e) → post (fv, fh, fr, nI (C g), pa, ki, cx, cz, nu, co, xk, xv, bs', dr, ca', la', wy, cl)) :
    ∀ j n ca bs la, j < n → (∀ i, i < j → wy i = nI (zt_it P i g) ∧ 0 < zt_it P i g ∧ ¬ zt_an P t (zt_it P i g)) → j ≤ 8 → zt_Ag (C (zt_it P j g)) ca (F (zt_it P j g)) → zt_Mo m r (zt_fr P K X C F) bs0 la0 bs la → (∀ e, 0 < e → e < nv → zt_an P (zt_it P j g) e → ¬ zt_an P t e → K e = 1 → zt_ly m r bs la e = zt_fr P K X C F e) → wX_carry_78 post (nI r) (nI m) n (nI j - 1) fv fh fr (nI (C (zt_it P j g))) pa ki cx cz nu co xk xv bs dr ca la wy cl := by
  intro j
  induction j with
  | zero =>
    intro n ca bs la hn hw h8 hc hM hl
    obtain ⟨n, rfl⟩ : ∃ k, n = k + 1 := ⟨n - 1, by omega⟩
    exact br_t zt_0m1 (J ca bs la hc hM hl)
  | succ j ih =>
    intro n ca bs la hn hw h8 hc hM hl
    obtain ⟨n, rfl⟩ : ∃ k, n = k + 1 := ⟨n - 1, by omega⟩
    obtain ⟨w1, w2, w3⟩ := hw j (by omega)
    have hv : zt_it P j g < nv := zt_it_nv T hg
    rw [nI_pred]
    refine br_f (nI_pos (by omega)) (And.intro (vp_in_nI (by omega) (by omega)) ?_)
    rw [nI_clamp (by omega), w1]
    rw [zt_it_s] at hc hl ⊢
    refine zx_descend T A w2 hv hr hm (hF _ w2 hv) hc (fun k => zt_Mo_pk hM (hp _ w2 hv ⟨j, rfl⟩ w3 k)) (fun ca' bs' la' h1 h2 h3 => ?_)
    refine nm_r (zt_am1 _) (ih n ca' bs' la' (by omega) (fun i hi => hw i (by omega)) (by omega) h1 (zt_Mo_t hM h2) (fun e e0 he ha hb k => ?_))
    rcases zt_an_c ha with q | q
    · subst q; exact h3 k
    · exact zt_Mo_ly h2 (hl e e0 he q hb k)
/-- the way down, written from the goal up to t -/
theorem zx_ca40 (T : zt_T nv P K X Z C) (A : zt_A pa ki cx cz co P K X Z C) {post : SX → Prop} {r g t m : Nat} {F : Nat → Nat → Int32} (hr : r < 12) (hm : m ≤ 2) (hg : g < nv) (ht : zt_an P g t)
    (hF : zt_Co nv P K X Z C nu F)
    (hp : ∀ e, 0 < e → e < nv → zt_an P g e → ¬ zt_an P t e → K e = 0 → zt_pk m r bs la e = zt_fr P K X C F e)
    (hc : zt_Ag (C t) ca (F t))
    (J : ∀ ca' bs' la' wy', zt_Ag (C g) ca' (F g) → zt_Mo m r (zt_fr P K X C F) bs la bs' la' → (∀ e, 0 < e → e < nv → zt_an P g e → ¬ zt_an P t e → K e = 1 → zt_ly m r bs' la' e = zt_fr P K X C F e) → post (fv, fh, fr, nI (C g), pa, ki, cx, cz, nu, co, xk, xv, bs', dr, ca', la', wy', cl)) :
    ∀ n i wy, zt_it P i g < n → zt_an P (zt_it P i g) t → (∀ k, k < i → wy k = nI (zt_it P k g) ∧ 0 < zt_it P k g ∧ ¬ zt_an P t (zt_it P k g)) → wX_carry_40 post (nI r) (nI m) (nI t) fv fh fr (nI (C t)) n (nI i) (nI (zt_it P i g)) pa ki cx cz nu co xk xv bs dr ca la wy cl := by
  have hnv := zt_nv T
  intro n
  induction n with
  | zero => intro i wy h; omega
  | succ n ih =>
    intro i wy hn ha hw
    have hv : zt_it P i g < nv := zt_it_nv T hg
    have hi : i ≤ 8 := by
      rcases Nat.eq_zero_or_pos i with z | z
      · omega
      · have h1 := hw (i - 1) (by omega)
        rcases zt_it_dn T (i - 1) g hg with q | q <;> omega
    have htg := zt_an_le T hg ht
    refine pk_eq (zt_it P i g) t (fun q => ?_) (fun q => ?_)
    · refine nm_e ⟨i + 1, ?_⟩
      subst q
      exact zx_ca78 T A hr hm hg hF hp (fun ca' bs' la' h1 h2 h3 => J ca' bs' la' wy h1 h2 h3) i (i + 1) ca bs la (by omega) hw hi hc zt_Mo_r (fun e e0 he h1 h2 => absurd h1 h2)
    · have htl := zt_an_le T hv ha
      have h0 : 0 < zt_it P i g := by omega
      have hi7 : i < 8 := by
        rcases zt_it_dn T i g hg with q | q <;> omega
      have h8 : vp_in (nI (zt_it P i g)) 8 := vp_in_nI (by omega) (by omega)
      refine And.intro (vp_in_nI hi7 (by omega)) (nm_r (e' := upd wy i (nI (zt_it P i g))) (by rw [nI_clamp (by omega), zt_nb (by omega)]) (nm_r (nI_1 i) (And.intro h8 (nm_r (e' := nI (zt_it P (i + 1) g)) (by rw [nI_clamp (by omega), (A _).1, zt_it_s]) ?_))))
      have hpl := zt_P_lt T h0 hv
      refine ih (i + 1) _ (by rw [zt_it_s]; omega) (by rw [zt_it_s]; exact zt_an_ne ha q) (fun k hk => ?_)
      by_cases z : k = i
      · subst z
        refine ⟨pk_us, h0, fun a => ?_⟩
        have := zt_an_le T (by omega) a
        omega
      · rw [pk_un z]; exact hw k (by omega)
theorem zx_ca3 (T : zt_T nv P K X Z C) (A : zt_A pa ki cx cz co P K X Z C) {post : SX → Prop} {r s g m : Nat} {F : Nat → Nat → Int32} (hr : r < 12) (hm : m ≤ 2) (hs : s < nv) (hg : g < nv)
    (hF : zt_Co nv P K X Z C nu F) {bs0 la0 : Nat → Int32}
    (hp : ∀ e, 0 < e → e < nv → zt_nd P K s e → ¬ zt_nd P K g e → zt_pk m r bs0 la0 e = zt_fr P K X C F e)
    (J : ∀ ca' bs' la' wy', zt_Ag (C g) ca' (F g) → zt_Mo m r (zt_fr P K X C F) bs0 la0 bs' la' → (∀ e, 0 < e → e < nv → zt_nd P K g e → ¬ zt_nd P K s e → zt_ly m r bs' la' e = zt_fr P K X C F e) → post (fv, fh, fr, nI (C g), pa, ki, cx, cz, nu, co, xk, xv, bs', dr, ca', la', wy', cl)) :
    ∀ n t ca bs la, t < n → zt_an P s t → (∀ e, zt_an P s e → zt_an P g e → zt_an P t e) → zt_Ag (C t) ca (F t) → zt_Mo m r (zt_fr P K X C F) bs0 la0 bs la → (∀ e, 0 < e → e < nv → zt_an P s e → ¬ zt_an P t e → K e = 0 → zt_ly m r bs la e = zt_fr P K X C F e) → wX_carry_3 post (nI r) (nI g) (nI m) n (nI t) fv fh fr (nI (C t)) pa ki cx cz nu co xk xv bs dr ca la wy cl := by
  have hnv := zt_nv T
  intro n
  induction n with
  | zero => intro t ca bs la h; omega
  | succ n ih =>
    intro t ca bs la hn hst hcm hc hM hl
    have htv : t < nv := by have := zt_an_le T hs hst; omega
    refine zx_cf T (fun w => (A w).1) hg (by omega) (fun a => ?_) (fun a => ?_)
    · refine br_f (by decide) ⟨g + 1, ?_⟩
      refine zx_ca40 T A hr hm hg a hF (fun e e0 he h1 h2 k => zt_Mo_pk hM (hp e e0 he (Or.inl ⟨k, fun b => h2 (hcm e b h1)⟩) ?_)) hc (fun ca' bs' la' wy' g1 g2 g3 => ?_) (g + 1) 0 wy (by show g < g + 1; omega) a (fun k hk => by omega)
      · rintro (⟨_, b⟩ | ⟨b, _⟩)
        · exact b h1
        · omega
      · refine J ca' bs' la' wy' g1 (zt_Mo_t hM g2) (fun e e0 he h1 h2 => ?_)
        rcases h1 with ⟨k, b⟩ | ⟨k, b⟩
        · have hse : zt_an P s e := Classical.byContradiction fun q => h2 (Or.inl ⟨k, q⟩)
          exact zt_Mo_ly g2 (hl e e0 he hse (fun q => b (zt_an_t a q)) k)
        · have hse : ¬ zt_an P s e := fun q => h2 (Or.inr ⟨k, q⟩)
          exact g3 e e0 he b (fun q => hse (zt_an_t hst q)) k
    · have t0 : 0 < t := by
        rcases Nat.eq_zero_or_pos t with z | z
        · subst z; exact absurd (zt_an_0 T hg) a
        · exact z
      refine br_t rfl ?_
      refine zx_climb T A t0 htv hr hm (hF t t0 htv) hc (fun k => zt_Mo_pk hM (hp t t0 htv (Or.inr ⟨k, hst⟩) ?_)) (fun ca' bs' la' h1 h2 h3 => ?_)
      · rintro (⟨b, _⟩ | ⟨_, b⟩)
        · omega
        · exact a b
      · refine And.intro (vp_in_nI (by omega) (by omega)) (nm_r (e' := nI (P t)) (by rw [nI_clamp (by omega), (A t).1]) ?_)
        have hpl := zt_P_lt T t0 htv
        refine ih (P t) ca' bs' la' (by omega) (zt_an_u hst) (fun e b1 b2 => ?_) h1 (zt_Mo_t hM h2) (fun e e0 he b1 b2 k => ?_)
        · refine zt_an_ne (hcm e b1 b2) ?_
          rintro rfl
          exact a b2
        · by_cases z : e = t
          · subst z; exact h3 k
          · exact zt_Mo_ly h2 (hl e e0 he b1 (fun q => b2 (zt_an_ne q (fun y => z y.symm))) k)
theorem zx_carry (T : zt_T nv P K X Z C) (A : zt_A pa ki cx cz co P K X Z C) {post : SX → Prop} {r s g m : Nat} {F : Nat → Nat → Int32} (hr : r < 12) (hm : m ≤ 2) (hs : s < nv) (hg : g < nv)
    (hF : zt_Co nv P K X Z C nu F) (hc : zt_Ag (C s) ca (F s))
    (hp : ∀ e, 0 < e → e < nv → zt_nd P K s e → ¬ zt_nd P K g e → zt_pk m r bs la e = zt_fr P K X C F e)
    (J : ∀ ca' bs' la' wy', zt_Ag (C g) ca' (F g) → zt_Mo m r (zt_fr P K X C F) bs la bs' la' → (∀ e, 0 < e → e < nv → zt_nd P K g e → ¬ zt_nd P K s e → zt_ly m r bs' la' e = zt_fr P K X C F e) → post (fv, fh, fr, nI (C g), pa, ki, cx, cz, nu, co, xk, xv, bs', dr, ca', la', wy', cl)) : wpX_carry post (fv, fh, fr, nI (C s), pa, ki, cx, cz, nu, co, xk, xv, bs, dr, ca, la, wy, cl) (nI r) (nI s) (nI g) (nI m) :=
  ⟨s + 1, zx_ca3 T A hr hm hs hg hF hp J (s + 1) s ca bs la (by omega) (zt_an_r P s) (fun e h _ => h) hc zt_Mo_r (fun e e0 he h1 h2 => absurd h1 h2)⟩
end
end
section
/-! whether a row is shown; a look at a row -/
section
variable {nv : Nat} {P K X Z C : Nat → Nat}
variable {fv fh fr fw : Int32} {pa ki cx cz nu co xk xv bs dr ca la wy cl : Nat → Int32}
theorem zx_is103 (T : zt_T nv P K X Z C) (A : zt_A pa ki cx cz co P K X Z C) {post : Int32 → SX → Prop} {J35 : Int32 → Int32 → Int32 → Int32 → Int32 → Int32 → (Nat → Int32) → (Nat → Int32) → (Nat → Int32) → (Nat → Int32) → (Nat → Int32) → (Nat → Int32) → (Nat → Int32) → (Nat → Int32) → (Nat → Int32) → (Nat → Int32) → (Nat → Int32) → (Nat → Int32) → (Nat → Int32) → (Nat → Int32) → Prop} {r e h x nc : Nat} {y : Int32} {cl0 : Nat → Int32} (hr : r < 12) (he : e < nv) (hh : h < nv) (hx : x ≤ nc) (hnc : nc ≤ 4)
    (hy1 : zt_an P h e → bs (8 * r + e) = y) (hy0 : ¬ zt_an P h e → la e = y)
    (J : ∀ cl', (∀ c, c ≤ nc → cl' c = if c = x then y else if x < c then cl0 (c - 1) else cl0 c) → J35 (nI (nc + 1)) (nI (P e)) fv (nI h) fr fw pa ki cx cz nu co xk xv bs dr ca la wy cl') : ∀ n i cl, x ≤ i → i ≤ nc → i - x < n → (∀ c, c ≤ nc → cl c = if i < c then cl0 (c - 1) else cl0 c) → wX_isShownAt_103 post J35 (nI r) (nI nc) (nI e) (nI x) fv (nI h) fr fw n (nI i) pa ki cx cz nu co xk xv bs dr ca la wy cl := by
  have hnv := zt_nv T
  have h8 : vp_in (nI e) 8 := vp_in_nI (by omega) (by omega)
  have hpe : pa (nI e).toNatClampNeg = nI (P e) := by rw [nI_clamp (by omega)]; exact (A e).1
  intro n
  induction n with
  | zero => intro i cl h1 h2 h3; omega
  | succ n ih =>
    intro i cl h1 h2 h3 h4
    refine pk_le i x (fun q => ?_) (fun q => ?_)
    · have e1 : i = x := by omega
      subst e1
      have fin : wX_isShownAt_173 post J35 (nI r) (nI nc) (nI e) y (nI i) fv (nI h) fr fw pa ki cx cz nu co xk xv bs dr ca la wy cl := by
        refine And.intro (vp_in_nI (by omega) (by omega)) (nm_e (nm_r (nI_1 nc) (And.intro h8 (nm_r hpe ?_))))
        rw [nI_clamp (by omega)]
        refine J _ (fun c hc => ?_)
        by_cases z : c = i
        · subst z; rw [pk_us, if_pos rfl]
        · rw [pk_un z, if_neg z]; exact h4 c hc
      refine zx_cf T (fun w => (A w).1) hh (by omega) (fun a => ?_) (fun a => ?_)
      · refine br_f (by decide) ?_
        rw [zt_i8, nI_clamp (by omega), hy1 a]
        exact And.intro (vp_in_nI (by omega) (by omega)) fin
      · refine br_t rfl (And.intro h8 ?_)
        rw [nI_clamp (by omega), hy0 a]
        exact fin
    · rw [zt_p1 (by omega)]
      refine And.intro (vp_in_nI (by omega) (by omega)) (And.intro (vp_in_nI (by omega) (by omega)) (nm_e (nm_r (zt_m1 (by omega)) ?_)))
      rw [nI_clamp (by omega), nI_clamp (by omega)]
      refine ih (i - 1) _ (by omega) (by omega) (by omega) (fun c hc => ?_)
      by_cases z : c = i
      · subst z; rw [pk_us, if_pos (by omega), h4 (c - 1) (by omega), if_neg (by omega)]
      · rw [pk_un z, h4 c hc]
        by_cases w : i < c
        · rw [if_pos w, if_pos (by omega)]
        · rw [if_neg w, if_neg (by omega)]
theorem zx_is83 (T : zt_T nv P K X Z C) (A : zt_A pa ki cx cz co P K X Z C) {post : Int32 → SX → Prop} {J35 : Int32 → Int32 → Int32 → Int32 → Int32 → Int32 → (Nat → Int32) → (Nat → Int32) → (Nat → Int32) → (Nat → Int32) → (Nat → Int32) → (Nat → Int32) → (Nat → Int32) → (Nat → Int32) → (Nat → Int32) → (Nat → Int32) → (Nat → Int32) → (Nat → Int32) → (Nat → Int32) → (Nat → Int32) → Prop} {r e h : Nat} {F : Nat → Nat → Int32} (e0 : 0 < e) (he : e < nv) (hr : r < 12) (hh : h < nv)
    (hE : zt_Ed (K e) (X e) (Z e) (nu e) (C (P e)) (C e) (F (P e)) (F e)) (hc : zt_Ag (C e) cl (F e)) (hp : K e = 1 → (zt_an P h e → bs (8 * r + e) = zt_fr P K X C F e) ∧ (¬ zt_an P h e → la e = zt_fr P K X C F e))
    (J : ∀ cl', zt_Ag (C (P e)) cl' (F (P e)) → J35 (nI (C (P e))) (nI (P e)) fv (nI h) fr fw pa ki cx cz nu co xk xv bs dr ca la wy cl') : wX_isShownAt_83 post J35 (nI r) (nI (C e)) (nI e) (nI (X e)) (nI (K e)) fv (nI h) fr fw pa ki cx cz nu co xk xv bs dr ca la wy cl := by
  have hnv := zt_nv T
  obtain ⟨k5, p1, p5, c1, c5, s0, s1, s2, s4, s5⟩ := zt_E T e0 he
  have h8 : vp_in (nI e) 8 := vp_in_nI (by omega) (by omega)
  have hpe : pa (nI e).toNatClampNeg = nI (P e) := by rw [nI_clamp (by omega)]; exact (A e).1
  have hz : cz (nI e).toNatClampNeg = nI (Z e) := by rw [nI_clamp (by omega)]; exact (A e).2.2.2.1
  rcases zt_k6 k5 with q | q | q | q | q | q <;> rw [q] at hE s0 s1 s2 s4 s5 hp ⊢
  · refine br_t rfl (nm_r (e' := nI (C (P e))) (by rw [s0 rfl]; exact pk_m1 _) (And.intro h8 (nm_r hpe ?_)))
    exact J cl (zt_up0 hE (s0 rfl) hc)
  · have s := s1 rfl
    refine br_f (by decide) (br_t rfl ⟨C e - X e + 1, ?_⟩)
    refine zx_is103 T A (cl0 := cl) hr he hh (by omega) (by omega) (hp rfl).1 (hp rfl).2 (fun cl' hcl => ?_) _ (C e) cl (by omega) (by omega) (by omega) (fun c hc => by rw [if_neg (by omega)])
    rw [← s.1]
    exact J cl' (zt_up1 hE s.1 s.2 hc (zt_fr1 q) hcl)
  · have s := s2 (by decide)
    refine br_f (by decide) (br_f (by decide) (And.intro h8 (br_t rfl ?_)))
    refine And.intro (vp_in_nI (by omega) (by omega)) (And.intro h8 (And.intro (vp_in_nI (by omega) (by omega)) (nm_e (And.intro h8 (nm_r hpe ?_)))))
    rw [nI_clamp (by omega), nI_clamp (by omega), s.1]
    exact J _ (zt_up2 hE s.1 s.2 hc)
  · have s := s2 (by decide)
    refine br_f (by decide) (br_f (by decide) (And.intro h8 (br_f (by decide) (br_f (by decide) (br_f (by decide) (And.intro h8 (nm_r hpe ?_)))))))
    rw [s.1]
    exact J _ (zt_up3 hE s.1 hc)
  · have s := s2 (by decide)
    have s' := s4 (by decide)
    refine br_f (by decide) (br_f (by decide) (And.intro h8 ?_))
    rw [hz]
    refine br_f (by decide) (br_f (by decide) (br_t rfl ?_))
    refine And.intro (vp_in_nI (by omega) (by omega)) (nm_r (e' := cl (X e)) (by rw [nI_clamp (by omega)]) (And.intro (vp_in_nI (by omega) (by omega)) (And.intro (vp_in_nI (by omega) (by omega)) (nm_e (And.intro (vp_in_nI (by omega) (by omega)) (nm_e (And.intro h8 (nm_r hpe ?_))))))))
    rw [nI_clamp (by omega), nI_clamp (by omega), s.1]
    exact J _ (zt_up4 hE s.1 s.2 s' hc)
  · have s := s2 (by decide)
    have s' := s4 (by decide)
    refine br_f (by decide) (br_f (by decide) (And.intro h8 ?_))
    rw [hz]
    refine br_f (by decide) (br_t rfl ?_)
    refine And.intro (vp_in_nI (by omega) (by omega)) (And.intro (vp_in_nI (by omega) (by omega)) (And.intro (vp_in_nI (by omega) (by omega)) (nm_e (And.intro h8 (nm_r hpe ?_)))))
    rw [nI_clamp (by omega), nI_clamp (by omega), s.1]
    exact J _ (zt_up5 hE s.1 s.2 s' (s5 rfl) hc)
theorem zx_is35 (T : zt_T nv P K X Z C) (A : zt_A pa ki cx cz co P K X Z C) {post : Int32 → SX → Prop} {r h : Nat} {F : Nat → Nat → Int32} (hr : r < 12) (hh : h < nv)
    (hF : zt_Co nv P K X Z C nu F) : ∀ n v cl, v < n → v < nv → zt_Ag (C v) cl (F v) → (∀ e, 0 < e → e < nv → zt_an P v e → K e = 1 → (zt_an P h e → bs (8 * r + e) = zt_fr P K X C F e) ∧ (¬ zt_an P h e → la e = zt_fr P K X C F e)) → (zt_Sh P K X nu F v → ∀ cl', post 1 (fv, nI h, fr, fw, pa, ki, cx, cz, nu, co, xk, xv, bs, dr, ca, la, wy, cl')) → (¬ zt_Sh P K X nu F v → ∀ cl', post 0 (fv, nI h, fr, fw, pa, ki, cx, cz, nu, co, xk, xv, bs, dr, ca, la, wy, cl')) → wX_isShownAt_35 post (nI r) n (nI (C v)) (nI v) fv (nI h) fr fw pa ki cx cz nu co xk xv bs dr ca la wy cl := by
  have hnv := zt_nv T
  intro n
  induction n with
  | zero => intro v cl h; omega
  | succ n ih =>
    intro v cl hn hv hc hp J1 J0
    refine pk_le v 0 (fun q => ?_) (fun q => ?_)
    · have e1 : v = 0 := by omega
      subst e1
      exact J1 (zt_Sh_0 T) cl
    · have h8 : vp_in (nI v) 8 := vp_in_nI (by omega) (by omega)
      have hk : ki (nI v).toNatClampNeg = nI (K v) := by rw [nI_clamp (by omega)]; exact (A v).2.1
      have hx : cx (nI v).toNatClampNeg = nI (X v) := by rw [nI_clamp (by omega)]; exact (A v).2.2.1
      have hpl := zt_P_lt T q hv
      obtain ⟨k5, p1, p5, c1, c5, s0, s1, s2, s4, s5⟩ := zt_E T q hv
      have go : (K v = 3 → nu v ≤ F v (X v)) → wX_isShownAt_83 post (wX_isShownAt_35 post (nI r) n) (nI r) (nI (C v)) (nI v) (nI (X v)) (nI (K v)) fv (nI h) fr fw pa ki cx cz nu co xk xv bs dr ca la wy cl := by
        intro hs
        refine zx_is83 T A q hv hr hh (hF v q hv) hc (hp v q hv (zt_an_r P v)) (fun cl' hcl => ?_)
        exact ih (P v) cl' (by omega) (by omega) hcl (fun e e0 he ha k => hp e e0 he (zt_an_s ha) k) (fun s => J1 (zt_Sh_s hs s)) (fun s => J0 (fun g => s (zt_Sh_p g)))
      refine And.intro h8 (nm_r hx (And.intro h8 (nm_r hk ?_)))
      refine pk_eq (K v) 3 (fun k => ?_) (fun k => go (fun z => absurd z k))
      have s := s2 (by omega)
      refine And.intro (vp_in_nI (by omega) (by omega)) (And.intro h8 ?_)
      rw [nI_clamp (by omega), nI_clamp (by omega), hc (X v) (by omega)]
      exact br_c (fun z => go (fun _ => z)) (fun z => J0 (zt_Sh_n q k z) cl)
theorem zx_is2 {post : Int32 → SX → Prop} {r v : Nat} (hv : v < 8) (hco : co v = nI (C v)) (J : ∀ cl', (∀ c, c < 5 → cl' c = ca c) → ∃ n, wX_isShownAt_35 post (nI r) n (nI (C v)) (nI v) fv fh fr fw pa ki cx cz nu co xk xv bs dr ca la wy cl') : ∀ n i cl, i ≤ 5 → 5 - i < n → (∀ c, c < i → cl c = ca c) → wX_isShownAt_2 post (nI r) (nI v) fv fh fr fw n (nI i) pa ki cx cz nu co xk xv bs dr ca la wy cl := by
  intro n
  induction n with
  | zero => intro i ca h1 h2; omega
  | succ n ih =>
    intro i cl h1 h2 h3
    refine pk_le 5 i (fun q => ?_) (fun q => ?_)
    · exact And.intro (vp_in_nI hv (by omega)) (nm_r (e' := nI (C v)) (by rw [nI_clamp (by omega), hco]) (J cl (fun c hc => h3 c (by omega))))
    · refine And.intro (vp_in_nI (by omega) (by omega)) (And.intro (vp_in_nI (by omega) (by omega)) (nm_e (nm_r (nI_1 i) ?_)))
      rw [nI_clamp (by omega)]
      refine ih (i + 1) _ (by omega) (by omega) (fun c hc => ?_)
      by_cases z : c = i
      · subst z; rw [pk_us]
      · rw [pk_un z]; exact h3 c (by omega)
theorem zx_isShown (T : zt_T nv P K X Z C) (A : zt_A pa ki cx cz co P K X Z C) {post : Int32 → SX → Prop} {r h v : Nat} {F : Nat → Nat → Int32} (hr : r < 12) (hh : h < nv) (hv : v < nv)
    (hF : zt_Co nv P K X Z C nu F) (hc : zt_Ag (C v) ca (F v)) (hb : ∀ e, 0 < e → e < nv → zt_nd P K v e → zt_nd P K h e → bs (8 * r + e) = zt_fr P K X C F e) (hl : ∀ e, 0 < e → e < nv → zt_nd P K v e → ¬ zt_nd P K h e → la e = zt_fr P K X C F e)
    (J1 : zt_Sh P K X nu F v → ∀ cl', post 1 (fv, nI h, fr, fw, pa, ki, cx, cz, nu, co, xk, xv, bs, dr, ca, la, wy, cl')) (J0 : ¬ zt_Sh P K X nu F v → ∀ cl', post 0 (fv, nI h, fr, fw, pa, ki, cx, cz, nu, co, xk, xv, bs, dr, ca, la, wy, cl')) : wpX_isShownAt post (fv, nI h, fr, fw, pa, ki, cx, cz, nu, co, xk, xv, bs, dr, ca, la, wy, cl) (nI r) (nI v) := by
  have hnv := zt_nv T
  have h5 := zt_C T hv
  refine ⟨6, zx_is2 (by omega) (A v).2.2.2.2 (fun cl' hcl => ⟨v + 1, ?_⟩) 6 0 cl (by omega) (by omega) (fun c hc => by omega)⟩
  refine zx_is35 T A hr hh hF (v + 1) v cl' (by omega) hv (fun c h1 => (hcl c (by omega)).trans (hc c h1)) (fun e e0 he ha k => ⟨fun a => hb e e0 he (Or.inr ⟨k, ha⟩) (Or.inr ⟨k, a⟩), fun a => hl e e0 he (Or.inr ⟨k, ha⟩) ?_⟩) J1 J0
  rintro (⟨b, _⟩ | ⟨_, b⟩)
  · omega
  · exact a b
/-- a row as the component keeps it: its values at the home h, and what lies beside -/
def zt_Rw (nv : Nat) (P K X Z C : Nat → Nat) (nu : Nat → Int32) (h r : Nat) (xv bs : Nat → Int32) (F : Nat → Nat → Int32) : Prop :=
  zt_Co nv P K X Z C nu F ∧ (∀ c, c < C h → xv (5 * r + c) = F h c) ∧ ∀ e, 0 < e → e < nv → zt_nd P K h e → bs (8 * r + e) = zt_fr P K X C F e
theorem zx_look (T : zt_T nv P K X Z C) (A : zt_A pa ki cx cz co P K X Z C) {post : Int32 → SX → Prop} {r h v : Nat} {F : Nat → Nat → Int32} (hr : r < 12) (hh : h < nv) (hv : v < nv)
    (hR : zt_Rw nv P K X Z C nu h r xv bs F)
    (J1 : zt_Sh P K X nu F v → ∀ ca' la' wy' cl', zt_Ag (C v) ca' (F v) → (∀ e, 0 < e → e < nv → zt_nd P K v e → ¬ zt_nd P K h e → la' e = zt_fr P K X C F e) → post 1 (fv, nI h, fr, nI (C v), pa, ki, cx, cz, nu, co, xk, xv, bs, dr, ca', la', wy', cl'))
    (J0 : ¬ zt_Sh P K X nu F v → ∀ ca' la' wy' cl', post 0 (fv, nI h, fr, nI (C v), pa, ki, cx, cz, nu, co, xk, xv, bs, dr, ca', la', wy', cl')) : wpX_look post (fv, nI h, fr, fw, pa, ki, cx, cz, nu, co, xk, xv, bs, dr, ca, la, wy, cl) (nI r) (nI v) := by
  have hnv := zt_nv T
  have h5 := zt_C T hh
  obtain ⟨hF, hx, hb⟩ := hR
  unfold wpX_look
  refine zx_load hr (by omega) (A h).2.2.2.2 (fun ca' hca => ?_)
  refine zx_carry (m := 0) T A hr (by omega) hh hv hF (fun c hc => (hca c (by omega)).trans (hx c hc)) (fun e e0 he h1 h2 => hb e e0 he h1) (fun ca1 bs1 la1 wy1 g1 g2 g3 => ?_)
  have e1 := g2.1 rfl
  subst e1
  refine zx_isShown T A hr hh hv hF g1 (fun e e0 he _ h2 => hb e e0 he h2) (fun e e0 he h1 h2 => g3 e e0 he h1 h2) (fun s cl' => ?_) (fun s cl' => ?_)
  · exact And.intro rfl (J1 s ca1 la1 wy1 cl' g1 (fun e e0 he h1 h2 => g3 e e0 he h1 h2))
  · exact And.intro rfl (J0 s ca1 la1 wy1 cl')
end
end
section
/-! the home moves; rows change places -/
theorem zt_Rw_c {nv : Nat} {P K X Z C : Nat → Nat} {nu : Nat → Int32} {h r q : Nat} {xv bs xv' bs' : Nat → Int32} {F : Nat → Nat → Int32} (T : zt_T nv P K X Z C) (hh : h < nv) (h1 : ∀ c, c < 5 → xv' (5 * q + c) = xv (5 * r + c)) (h2 : ∀ e, e < 8 → bs' (8 * q + e) = bs (8 * r + e)) (R : zt_Rw nv P K X Z C nu h r xv bs F) : zt_Rw nv P K X Z C nu h q xv' bs' F := by
  have hnv := zt_nv T
  have h5 := zt_C T hh
  exact ⟨R.1, fun c hc => (h1 c (by omega)).trans (R.2.1 c hc), fun e e0 he hd => (h2 e (by omega)).trans (R.2.2 e e0 he hd)⟩
def zt_sw (r q j : Nat) : Nat := if j = r then q else if j = q then r else j
theorem zt_sw_l (r q : Nat) : zt_sw r q r = q := if_pos rfl
theorem zt_sw_r (r q : Nat) : zt_sw r q q = r := by
  unfold zt_sw
  by_cases h : q = r
  · rw [if_pos h, h]
  · rw [if_neg h, if_pos rfl]
theorem zt_sw_n {r q j : Nat} (h1 : j ≠ r) (h2 : j ≠ q) : zt_sw r q j = j := by
  unfold zt_sw; rw [if_neg h1, if_neg h2]
section
variable {nv : Nat} {P K X Z C : Nat → Nat}
variable {fv fh fr fw : Int32} {pa ki cx cz nu co xk xv bs dr ca la wy cl : Nat → Int32}
theorem zx_mh2 (T : zt_T nv P K X Z C) (A : zt_A pa ki cx cz co P K X Z C) {post : SX → Prop} {nr h v : Nat} {G : Nat → Nat → Nat → Int32} (hr : nr ≤ 12) (hh : h < nv) (hv : v < nv)
    (J : ∀ fw' xv' bs' ca' la' wy', (∀ r, r < nr → zt_Rw nv P K X Z C nu v r xv' bs' (G r)) → post (fv, nI v, nI nr, fw', pa, ki, cx, cz, nu, co, xk, xv', bs', dr, ca', la', wy', cl)) :
    ∀ n i fw xv bs ca la wy, i ≤ nr → nr - i < n → (∀ r, r < i → zt_Rw nv P K X Z C nu v r xv bs (G r)) → (∀ r, i ≤ r → r < nr → zt_Rw nv P K X Z C nu h r xv bs (G r)) → wX_moveHome_2 post (nI v) n (nI i) fv (nI h) (nI nr) fw pa ki cx cz nu co xk xv bs dr ca la wy cl := by
  have hnv := zt_nv T
  have hc5 := zt_C T hv
  have hc5' := zt_C T hh
  intro n
  induction n with
  | zero => intro i fw xv bs ca la wy h1 h2; omega
  | succ n ih =>
    intro i fw xv bs ca la wy h1 h2 h3 h4
    refine pk_le nr i (fun q => ?_) (fun q => ?_)
    · exact J fw xv bs ca la wy (fun r hr => h3 r (by omega))
    · obtain ⟨hF, hx, hb⟩ := h4 i (by omega) q
      refine zx_load (by omega) (by omega) (A h).2.2.2.2 (fun ca' hca => ?_)
      refine zx_carry (m := 2) T A (by omega) (by omega) hh hv hF (fun c hc => (hca c (by omega)).trans (hx c hc)) (fun e e0 he k1 k2 => hb e e0 he k1) (fun ca1 bs1 la1 wy1 g1 g2 g3 => ?_)
      refine zx_store (by omega) (fun xv1 s1 s2 => ?_)
      refine nm_r (nI_1 i) (ih (i + 1) _ xv1 bs1 ca1 la1 wy1 (by omega) (by omega) (fun r hr => ?_) (fun r hr1 hr2 => ?_))
      · by_cases z : r = i
        · subst z
          refine ⟨hF, fun c hc => (s1 c (by omega)).trans (g1 c hc), fun e e0 he hd => ?_⟩
          by_cases y : zt_nd P K h e
          · exact g2.2.2.2.1 e (hb e e0 he y)
          · exact g3 e e0 he hd y
        · exact zt_Rw_c T hv (fun c hc => s2 _ (by omega)) (fun e he => g2.2.2.1 _ (by omega)) (h3 r (by omega))
      · exact zt_Rw_c T hh (fun c hc => s2 _ (by omega)) (fun e he => g2.2.2.1 _ (by omega)) (h4 r (by omega) hr2)
theorem zx_moveHome (T : zt_T nv P K X Z C) (A : zt_A pa ki cx cz co P K X Z C) {post : SX → Prop} {nr h v : Nat} {G : Nat → Nat → Nat → Int32} (hr : nr ≤ 12) (hh : h < nv) (hv : v < nv)
    (hR : ∀ r, r < nr → zt_Rw nv P K X Z C nu h r xv bs (G r))
    (J : ∀ fw' xv' bs' ca' la' wy', (∀ r, r < nr → zt_Rw nv P K X Z C nu v r xv' bs' (G r)) → post (fv, nI v, nI nr, fw', pa, ki, cx, cz, nu, co, xk, xv', bs', dr, ca', la', wy', cl)) : wpX_moveHome post (fv, nI h, nI nr, fw, pa, ki, cx, cz, nu, co, xk, xv, bs, dr, ca, la, wy, cl) (nI v) :=
  ⟨nr + 1, zx_mh2 T A hr hh hv J (nr + 1) 0 fw xv bs ca la wy (by omega) (by omega) (fun r hr => by omega) (fun r _ h => hR r h)⟩
theorem zx_xr92 {post : SX → Prop} {r q : Nat} {bs0 : Nat → Int32} (hr : r < 12) (hq : q < 12) (hn : r ≠ q) (J : ∀ bs', (∀ j e, e < 8 → bs' (8 * j + e) = bs0 (8 * zt_sw r q j + e)) → post (fv, fh, fr, fw, pa, ki, cx, cz, nu, co, xk, xv, bs', dr, ca, la, wy, cl)) : ∀ n i bs, i ≤ 8 → 8 - i < n → (∀ j e, e < 8 → bs (8 * j + e) = if e < i then bs0 (8 * zt_sw r q j + e) else bs0 (8 * j + e)) → wX_exchangeRows_92 post (nI r) (nI q) fv fh fr fw n (nI i) pa ki cx cz nu co xk xv bs dr ca la wy cl := by
  intro n
  induction n with
  | zero => intro i bs h1 h2; omega
  | succ n ih =>
    intro i bs h1 h2 h3
    refine pk_le 8 i (fun z => ?_) (fun z => ?_)
    · exact J bs (fun j e he => by rw [h3 j e he, if_pos (by omega)])
    · rw [zt_i8, zt_i8]
      have i1 : vp_in (nI (8 * r + i)) 96 := vp_in_nI (by omega) (by omega)
      have i2 : vp_in (nI (8 * q + i)) 96 := vp_in_nI (by omega) (by omega)
      refine And.intro i1 (nm_r (e' := bs (8 * r + i)) (by rw [nI_clamp (by omega)]) (And.intro i2 (And.intro i1 (nm_e (And.intro i2 (nm_e (nm_r (nI_1 i) ?_)))))))
      rw [nI_clamp (by omega), nI_clamp (by omega)]
      refine ih (i + 1) _ (by omega) (by omega) (fun j e he => ?_)
      by_cases y : e = i
      · subst y
        rw [if_pos (by omega)]
        by_cases w1 : j = q
        · subst w1
          rw [pk_us, zt_sw_r, h3 r e he, if_neg (by omega)]
        · rw [pk_un (by omega)]
          by_cases w2 : j = r
          · subst w2
            rw [pk_us, zt_sw_l, h3 q e he, if_neg (by omega)]
          · rw [pk_un (by omega), zt_sw_n w2 w1, h3 j e he, if_neg (by omega)]
      · rw [pk_un (by omega), pk_un (by omega), h3 j e he]
        by_cases w : e < i
        · rw [if_pos w, if_pos (by omega)]
        · rw [if_neg w, if_neg (by omega)]
theorem zx_xr29 {post : SX → Prop} {r q : Nat} {xv0 : Nat → Int32} (hr : r < 12) (hq : q < 12) (hn : r ≠ q) (J : ∀ xv' bs', (∀ j c, c < 5 → xv' (5 * j + c) = xv0 (5 * zt_sw r q j + c)) → (∀ j e, e < 8 → bs' (8 * j + e) = bs (8 * zt_sw r q j + e)) → post (fv, fh, fr, fw, pa, ki, cx, cz, nu, co, xk, xv', bs', dr, ca, la, wy, cl)) : ∀ n i xv, i ≤ 5 → 5 - i < n → (∀ j c, c < 5 → xv (5 * j + c) = if c < i then xv0 (5 * zt_sw r q j + c) else xv0 (5 * j + c)) → wX_exchangeRows_29 post (nI r) (nI q) fv fh fr fw n (nI i) pa ki cx cz nu co xk xv bs dr ca la wy cl := by
  intro n
  induction n with
  | zero => intro i bs h1 h2; omega
  | succ n ih =>
    intro i xv h1 h2 h3
    refine pk_le 5 i (fun z => ?_) (fun z => ?_)
    · exact ⟨9, zx_xr92 hr hq hn (fun bs' hb => J xv bs' (fun j c hc => by rw [h3 j c hc, if_pos (by omega)]) hb) 9 0 bs (by omega) (by omega) (fun j e he => by rw [if_neg (by omega)])⟩
    · rw [zt_i5, zt_i5]
      have i1 : vp_in (nI (5 * r + i)) 60 := vp_in_nI (by omega) (by omega)
      have i2 : vp_in (nI (5 * q + i)) 60 := vp_in_nI (by omega) (by omega)
      refine And.intro i1 (nm_r (e' := xv (5 * r + i)) (by rw [nI_clamp (by omega)]) (And.intro i2 (And.intro i1 (nm_e (And.intro i2 (nm_e (nm_r (nI_1 i) ?_)))))))
      rw [nI_clamp (by omega), nI_clamp (by omega)]
      refine ih (i + 1) _ (by omega) (by omega) (fun j e he => ?_)
      by_cases y : e = i
      · subst y
        rw [if_pos (by omega)]
        by_cases w1 : j = q
        · subst w1
          rw [pk_us, zt_sw_r, h3 r e he, if_neg (by omega)]
        · rw [pk_un (by omega)]
          by_cases w2 : j = r
          · subst w2
            rw [pk_us, zt_sw_l, h3 q e he, if_neg (by omega)]
          · rw [pk_un (by omega), zt_sw_n w2 w1, h3 j e he, if_neg (by omega)]
      · rw [pk_un (by omega), pk_un (by omega), h3 j e he]
        by_cases w : e < i
        · rw [if_pos w, if_pos (by omega)]
        · rw [if_neg w, if_neg (by omega)]
theorem zx_xrows {post : SX → Prop} {r q : Nat} (hr : r < 12) (hq : q < 12) (hn : r ≠ q) (kr : ∃ k, k < 128 ∧ xk r = nI k) (kq : ∃ k, k < 128 ∧ xk q = nI k) (J : ∀ xk' xv' bs', (∀ j, xk' j = xk (zt_sw r q j)) → (∀ j c, c < 5 → xv' (5 * j + c) = xv (5 * zt_sw r q j + c)) → (∀ j e, e < 8 → bs' (8 * j + e) = bs (8 * zt_sw r q j + e)) → post (fv, fh, fr, fw, pa, ki, cx, cz, nu, co, xk', xv', bs', dr, ca, la, wy, cl)) : wpX_exchangeRows post (fv, fh, fr, fw, pa, ki, cx, cz, nu, co, xk, xv, bs, dr, ca, la, wy, cl) (nI r) (nI q) := by
  obtain ⟨a, ha, ea⟩ := kr
  obtain ⟨b, hb, eb⟩ := kq
  have i1 : vp_in (nI r) 12 := vp_in_nI hr (by omega)
  have i2 : vp_in (nI q) 12 := vp_in_nI hq (by omega)
  refine And.intro i1 (nm_r (e' := nI a) (by rw [nI_clamp (by omega), ea]) (And.intro i2 (And.intro i1 (nm_r (e' := upd xk r (nI b)) (by rw [nI_clamp (by omega), nI_clamp (by omega), eb, zt_nb' hb]) (And.intro i2 (nm_r (e' := upd (upd xk r (nI b)) q (nI a)) (by rw [nI_clamp (by omega), zt_nb' ha]) ⟨6, ?_⟩))))))
  refine zx_xr29 hr hq hn (fun xv' bs' hx hb => J _ xv' bs' (fun j => ?_) hx hb) 6 0 xv (by omega) (by omega) (fun j c hc => by rw [if_neg (by omega)])
  by_cases w1 : j = q
  · subst w1
    rw [pk_us, zt_sw_r, ea]
  · rw [pk_un w1]
    by_cases w2 : j = r
    · subst w2
      rw [pk_us, zt_sw_l, eb]
    · rw [pk_un w2, zt_sw_n w2 w1]
end
end
section
/-! the reference's small methods -/
/-- row r of the reference: values by version and column -/
def zt_F (yv : Nat → Int32) (r w c : Nat) : Int32 := yv (40 * r + 5 * w + c)
section
variable {nv : Nat} {P K X Z C : Nat → Nat}
variable {fv fh fr fw : Int32} {pa ki cx cz nu co xk xv bs dr ca la wy cl yk yv kn : Nat → Int32}
theorem zy_in1 {post : Int32 → Prop} {n j : Nat} {b : Int32} (hn : n < 2 ^ 31) (h : j < n) (hb : b = nI n - 1) (J : post 1) : wpY_in post (fv, fr, pa, ki, cx, cz, nu, co, yk, yv, dr, kn) (nI j) 0 b := by
  subst hb
  rw [zt_p1 (by omega)]
  exact br_f (nI_pos (by omega)) (br_f (nI_nlt (by omega) (by omega)) J)
theorem zy_in0 {post : Int32 → Prop} {n : Nat} {p b : Int32} (hn : n < 2 ^ 31) (h1 : 1 ≤ n) (h : zt_bad n p) (hb : b = nI n - 1) (J : post 0) : wpY_in post (fv, fr, pa, ki, cx, cz, nu, co, yk, yv, dr, kn) p 0 b := by
  subst hb
  rw [zt_p1 h1]
  by_cases q : p < 0
  · exact br_t q J
  · obtain ⟨j, hj, rfl⟩ := nI_of q
    have := (nI_leI hn hj).mp (h.resolve_left q)
    exact br_f q (br_t (nI_lt (by omega) hj) J)
theorem zy_isv1 {post : Int32 → Prop} {v : Nat} (h : v < nv) (hn : nv ≤ 8) (j : post 1) : wpY_isVersion post (nI nv, fr, pa, ki, cx, cz, nu, co, yk, yv, dr, kn) (nI v) := by
  unfold wpY_isVersion
  exact zy_in1 (by omega) h rfl (And.intro rfl j)
theorem zy_isv0 {post : Int32 → Prop} {p : Int32} (h : zt_bad nv p) (h1 : 1 ≤ nv) (hn : nv ≤ 8) (j : post 0) : wpY_isVersion post (nI nv, fr, pa, ki, cx, cz, nu, co, yk, yv, dr, kn) p := by
  unfold wpY_isVersion
  exact zy_in0 (by omega) h1 h rfl (And.intro rfl j)
theorem zt_find2 {nr : Nat} {key : Int32} (hr : nr ≤ 12) (hk : ∀ r, r < nr → xk r = yk r) : ∀ d i, i + d = nr → (∃ r, r < nr ∧ (∀ post : Int32 → Prop, post (nI r) → wX_find_2 post key fv fh (nI nr) fw pa ki cx cz nu co xk xv bs dr ca la wy cl (d + 1) (nI i)) ∧ (∀ post : Int32 → Prop, post (nI r) → wY_find_2 post key fv (nI nr) pa ki cx cz nu co yk yv dr kn (d + 1) (nI i))) ∨ ((∀ post : Int32 → Prop, post (-1) → wX_find_2 post key fv fh (nI nr) fw pa ki cx cz nu co xk xv bs dr ca la wy cl (d + 1) (nI i)) ∧ (∀ post : Int32 → Prop, post (-1) → wY_find_2 post key fv (nI nr) pa ki cx cz nu co yk yv dr kn (d + 1) (nI i))) := by
  intro d
  induction d with
  | zero =>
    intro i hi
    have e1 : i = nr := by omega
    subst e1
    have h : nI i ≤ nI i := nI_le (by omega) (by omega)
    exact Or.inr ⟨fun _ hp => br_t h hp, fun _ hp => br_t h hp⟩
  | succ d ih =>
    intro i hi
    have h : ¬ nI nr ≤ nI i := nI_ge (by omega) (by omega)
    have hv : vp_in (nI i) 12 := vp_in_nI (by omega) (by omega)
    have hc : (nI i).toNatClampNeg = i := nI_clamp (by omega)
    by_cases z : xk i = key
    · have z' : yk i = key := (hk i (by omega)).symm.trans z
      refine Or.inl ⟨i, by omega, fun post hp => br_f h (And.intro hv ?_), fun post hp => br_f h (And.intro hv ?_)⟩
      · rw [hc]; exact br_t z hp
      · rw [hc]; exact br_t z' hp
    · have z' : ¬ yk i = key := fun y => z ((hk i (by omega)).trans y)
      rcases ih (i + 1) (by omega) with ⟨r, hr, g1, g2⟩ | ⟨g1, g2⟩
      · refine Or.inl ⟨r, hr, fun post hp => br_f h (And.intro hv ?_), fun post hp => br_f h (And.intro hv ?_)⟩
        · rw [hc]; exact br_f z (nm_r (nI_1 i) (g1 post hp))
        · rw [hc]; exact br_f z' (nm_r (nI_1 i) (g2 post hp))
      · refine Or.inr ⟨fun post hp => br_f h (And.intro hv ?_), fun post hp => br_f h (And.intro hv ?_)⟩
        · rw [hc]; exact br_f z (nm_r (nI_1 i) (g1 post hp))
        · rw [hc]; exact br_f z' (nm_r (nI_1 i) (g2 post hp))
theorem zt_find {nr : Nat} (key : Int32) (hr : nr ≤ 12) (hk : ∀ r, r < nr → xk r = yk r) : (∃ r, r < nr ∧ (∀ post : Int32 → Prop, post (nI r) → wpX_find post (fv, fh, nI nr, fw, pa, ki, cx, cz, nu, co, xk, xv, bs, dr, ca, la, wy, cl) key) ∧ (∀ post : Int32 → Prop, post (nI r) → wpY_find post (fv, nI nr, pa, ki, cx, cz, nu, co, yk, yv, dr, kn) key)) ∨ ((∀ post : Int32 → Prop, post (-1) → wpX_find post (fv, fh, nI nr, fw, pa, ki, cx, cz, nu, co, xk, xv, bs, dr, ca, la, wy, cl) key) ∧ (∀ post : Int32 → Prop, post (-1) → wpY_find post (fv, nI nr, pa, ki, cx, cz, nu, co, yk, yv, dr, kn) key)) := by
  rcases zt_find2 (key := key) hr hk nr 0 (by omega) with ⟨r, h1, h2, h3⟩ | ⟨h2, h3⟩
  · exact Or.inl ⟨r, h1, fun post hp => ⟨nr + 1, h2 post hp⟩, fun post hp => ⟨nr + 1, h3 post hp⟩⟩
  · exact Or.inr ⟨fun post hp => ⟨nr + 1, h2 post hp⟩, fun post hp => ⟨nr + 1, h3 post hp⟩⟩
theorem zy_copy2 {t f : Nat} {yv0 : Nat → Int32} (ht : t < 13) (hf : f < 13) (hn : t ≠ f) : ∀ n i yv, i ≤ 40 → 40 - i < n → (∀ k, k < i → yv (40 * t + k) = yv0 (40 * f + k)) → (∀ j, (j < 40 * t ∨ 40 * t + 40 ≤ j) → yv j = yv0 j) → ∃ yv', ((∀ k, k < 40 → yv' (40 * t + k) = yv0 (40 * f + k)) ∧ (∀ j, (j < 40 * t ∨ 40 * t + 40 ≤ j) → yv' j = yv0 j)) ∧ ∀ post : SY → Prop, post (fv, fr, pa, ki, cx, cz, nu, co, yk, yv', dr, kn) → wY_copy_2 post (nI t) (nI f) fv fr n (nI i) pa ki cx cz nu co yk yv dr kn := by
  intro n
  induction n with
  | zero => intro i yv h1 h2; omega
  | succ n ih =>
    intro i yv h1 h2 h3 h4
    rcases Nat.lt_or_ge i 40 with q | q
    · obtain ⟨yv', g, H⟩ := ih (i + 1) (upd yv (40 * t + i) (yv (40 * f + i))) (by omega) (by omega) (fun c hc => by
        by_cases z : c = i
        · subst z; rw [pk_us]; exact h4 _ (by omega)
        · rw [pk_un (by omega)]; exact h3 c (by omega)) (fun j hj => by rw [pk_un (by omega)]; exact h4 j hj)
      refine ⟨yv', g, fun post hp => br_f (nI_ge (a := i) (b := 40) q (by omega)) ?_⟩
      rw [zt_i40k, zt_i40k]
      refine And.intro (vp_in_nI (by omega) (by omega)) (And.intro (vp_in_nI (by omega) (by omega)) (nm_e (nm_r (nI_1 i) ?_)))
      rw [nI_clamp (by omega), nI_clamp (by omega)]
      exact H post hp
    · exact ⟨yv, ⟨fun c hc => h3 c (by omega), h4⟩, fun post hp => br_t (nI_le (a := 40) (b := i) q (by omega)) hp⟩
theorem zy_copy {t f : Nat} (ht : t < 13) (hf : f < 13) (hn : t ≠ f) : ∃ yv', ((∀ k, k < 40 → yv' (40 * t + k) = yv (40 * f + k)) ∧ (∀ j, (j < 40 * t ∨ 40 * t + 40 ≤ j) → yv' j = yv j)) ∧ ∀ post : SY → Prop, post (fv, fr, pa, ki, cx, cz, nu, co, yk, yv', dr, kn) → wpY_copy post (fv, fr, pa, ki, cx, cz, nu, co, yk, yv, dr, kn) (nI t) (nI f) := by
  obtain ⟨yv', g, H⟩ := zy_copy2 (fv := fv) (fr := fr) (pa := pa) (ki := ki) (cx := cx) (cz := cz) (nu := nu) (co := co) (yk := yk) (dr := dr) (kn := kn) (yv0 := yv) ht hf hn 41 0 yv (by omega) (by omega) (fun c hc => by omega) (fun _ _ => rfl)
  exact ⟨yv', g, fun post hp => ⟨41, H post hp⟩⟩
theorem zy_is5 (T : zt_T nv P K X Z C) (A : zt_A pa ki cx cz co P K X Z C) {post : Int32 → Prop} {r : Nat} (hr : r < 13) : ∀ n v s, v < n → v < nv → v + s ≤ 7 → (zt_Sh P K X nu (zt_F yv r) v → post 1) → (¬ zt_Sh P K X nu (zt_F yv r) v → post 0) → wY_isShown_5 post (nI r) fv fr pa ki cx cz nu co yk yv dr kn n (nI v) (nI s) := by
  have hnv := zt_nv T
  intro n
  induction n with
  | zero => intro v s h; omega
  | succ n ih =>
    intro v s hn hv hs J1 J0
    refine br_f (nI_ge (a := s) (b := 8) (by omega) (by omega)) ?_
    refine pk_le v 0 (fun q => ?_) (fun q => ?_)
    · have e1 : v = 0 := by omega
      subst e1
      exact J1 (zt_Sh_0 T)
    · have h8 : vp_in (nI v) 8 := vp_in_nI (by omega) (by omega)
      have hk : ki (nI v).toNatClampNeg = nI (K v) := by rw [nI_clamp (by omega)]; exact (A v).2.1
      have hx : cx (nI v).toNatClampNeg = nI (X v) := by rw [nI_clamp (by omega)]; exact (A v).2.2.1
      have hpe : pa (nI v).toNatClampNeg = nI (P v) := by rw [nI_clamp (by omega)]; exact (A v).1
      have hpl := zt_P_lt T q hv
      obtain ⟨k5, p1, p5, c1, c5, s0, s1, s2, s4, s5⟩ := zt_E T q hv
      have go : (K v = 3 → nu v ≤ zt_F yv r v (X v)) → wY_isShown_5 post (nI r) fv fr pa ki cx cz nu co yk yv dr kn n (nI (P v)) (nI (s + 1)) := by
        intro h3
        exact ih (P v) (s + 1) (by omega) (by omega) (by omega) (fun z => J1 (zt_Sh_s h3 z)) (fun z => J0 (fun g => z (zt_Sh_p g)))
      refine And.intro h8 ?_
      rw [hk]
      refine pk_eq (K v) 3 (fun k => ?_) (fun k => And.intro h8 (nm_r hpe (nm_r (nI_1 s) (go (fun z => absurd z k)))))
      have w := s2 (by omega)
      refine And.intro h8 ?_
      rw [hx, zt_i40, nI_add]
      refine And.intro (vp_in_nI (by omega) (by omega)) (And.intro h8 ?_)
      rw [nI_clamp (n := 40 * r + 5 * v + X v) (by omega), nI_clamp (n := v) (by omega)]
      refine br_c (fun z => And.intro h8 (nm_r ((A v).1) (nm_r (nI_1 s) (go (fun _ => z))))) (fun z => J0 (zt_Sh_n q k z))
theorem zy_isShown (T : zt_T nv P K X Z C) (A : zt_A pa ki cx cz co P K X Z C) {post : Int32 → Prop} {r v : Nat} (hr : r < 13) (hv : v < nv) (J1 : zt_Sh P K X nu (zt_F yv r) v → post 1) (J0 : ¬ zt_Sh P K X nu (zt_F yv r) v → post 0) : wpY_isShown post (fv, fr, pa, ki, cx, cz, nu, co, yk, yv, dr, kn) (nI r) (nI v) :=
  ⟨v + 1, zy_is5 T A hr (v + 1) v 0 (by omega) hv (by have := zt_nv T; omega) J1 J0⟩
end
end
section
/-! the reference's steps over an edge: toChild, toParent -/
section
variable {x z np nc : Nat} {y : Int32} {p f : Nat → Int32}
theorem zt_E0 (h : ∀ c, c < np → f c = p c) : zt_Ed 0 x z y np nc p f := ⟨fun _ => h, fun e => absurd e (by decide), fun e => absurd e (by decide), fun e => absurd e (by decide), fun e => absurd e (by decide), fun e => absurd e (by decide)⟩
theorem zt_E1 (h : ∀ c, c < nc → f c = p (if c < x then c else c + 1)) : zt_Ed 1 x z y np nc p f := ⟨fun e => absurd e (by decide), fun _ => h, fun e => absurd e (by decide), fun e => absurd e (by decide), fun e => absurd e (by decide), fun e => absurd e (by decide)⟩
theorem zt_E2 (h : ∀ c, c < np → f c = if c = x then p c + y else p c) : zt_Ed 2 x z y np nc p f := ⟨fun e => absurd e (by decide), fun e => absurd e (by decide), fun _ => h, fun e => absurd e (by decide), fun e => absurd e (by decide), fun e => absurd e (by decide)⟩
theorem zt_E3 (h : ∀ c, c < np → f c = p c) : zt_Ed 3 x z y np nc p f := ⟨fun e => absurd e (by decide), fun e => absurd e (by decide), fun e => absurd e (by decide), fun _ => h, fun e => absurd e (by decide), fun e => absurd e (by decide)⟩
theorem zt_E4 (h : ∀ c, c < np → f c = if c = x then p z else if c = z then p x else p c) : zt_Ed 4 x z y np nc p f := ⟨fun e => absurd e (by decide), fun e => absurd e (by decide), fun e => absurd e (by decide), fun e => absurd e (by decide), fun _ => h, fun e => absurd e (by decide)⟩
theorem zt_E5 (h : ∀ c, c < np → f c = if c = x then p x + p z else p c) : zt_Ed 5 x z y np nc p f := ⟨fun e => absurd e (by decide), fun e => absurd e (by decide), fun e => absurd e (by decide), fun e => absurd e (by decide), fun e => absurd e (by decide), fun _ => h⟩
end
section
variable {nv : Nat} {P K X Z C : Nat → Nat}
variable {fv fr : Int32} {pa ki cx cz nu co yk yv dr kn : Nat → Int32}
/-- what toChild's copy loop leaves in column c: old row o, parent's row p -/
def zy_cv (k x l b : Nat) (y : Int32) (o p : Nat → Int32) (c : Nat) : Int32 := if k = 0 ∧ c = l then (if b = 0 then o c else y) else p (if k = 1 ∧ x ≤ c then c + 1 else c)
def zy_pv (k x b : Nat) (y : Int32) (o f : Nat → Int32) (c : Nat) : Int32 := if k = 1 ∧ c = x then (if b = 0 then o c else y) else f (if k = 1 ∧ x < c then c - 1 else c)
theorem zy_tc90 {post : SY → Prop} {J62 : Int32 → (Nat → Int32) → (Nat → Int32) → (Nat → Int32) → (Nat → Int32) → (Nat → Int32) → (Nat → Int32) → (Nat → Int32) → (Nat → Int32) → (Nat → Int32) → (Nat → Int32) → Prop} {x2 x3 x8 x9 : Int32} {at' fm k x i : Nat} (hk : k ≤ 5) (hx : k = 1 → x < 5) (ha : at' + i < 520) (hf : fm + i < 520) (hf1 : k = 1 → fm + (i + 1) < 520)
    (J : J62 (nI (i + 1)) pa ki cx cz nu co yk (upd yv (at' + i) (yv (fm + (if k = 1 ∧ x ≤ i then i + 1 else i)))) dr kn) : wY_toChild_90 post J62 x2 x3 (nI at') (nI fm) (nI k) (nI x) x8 x9 (nI i) 0 fv fr pa ki cx cz nu co yk yv dr kn := by
  refine br_t rfl (br_t rfl ?_)
  refine pk_eq k 1 (fun q => ?_) (fun q => ?_)
  · have hx5 := hx q
    have hf2 := hf1 q
    refine pk_lt i x (fun w => ?_) (fun w => ?_)
    · rw [if_neg (by omega)] at J
      rw [nI_add, nI_add]
      refine And.intro (vp_in_nI (by omega) (by omega)) (And.intro (vp_in_nI (by omega) (by omega)) (nm_e (nm_r (nI_1 i) ?_)))
      rw [nI_clamp (by omega), nI_clamp (by omega)]
      exact J
    · rw [if_pos ⟨q, w⟩] at J
      rw [nI_1, nI_add, nI_add]
      refine And.intro (vp_in_nI (by omega) (by omega)) (And.intro (vp_in_nI (by omega) (by omega)) (nm_e (nm_e ?_)))
      rw [nI_clamp (by omega), nI_clamp (by omega)]
      exact J
  · rw [if_neg (fun w => q w.1)] at J
    rw [nI_add, nI_add]
    refine And.intro (vp_in_nI (by omega) (by omega)) (And.intro (vp_in_nI (by omega) (by omega)) (nm_e (nm_r (nI_1 i) ?_)))
    rw [nI_clamp (by omega), nI_clamp (by omega)]
    exact J
theorem zy_tc90f {post : SY → Prop} {J62 : Int32 → (Nat → Int32) → (Nat → Int32) → (Nat → Int32) → (Nat → Int32) → (Nat → Int32) → (Nat → Int32) → (Nat → Int32) → (Nat → Int32) → (Nat → Int32) → (Nat → Int32) → Prop} {x5 x6 x7 x8 x9 : Int32} {w b at' i : Nat} (hw : w < 8) (hb : b ≤ 1) (ha : at' + i < 520)
    (J0 : b = 0 → J62 (nI (i + 1)) pa ki cx cz nu co yk yv dr kn) (J1 : b ≠ 0 → J62 (nI (i + 1)) pa ki cx cz nu co yk (upd yv (at' + i) (nu w)) dr kn) : wY_toChild_90 post J62 (nI w) (nI b) (nI at') x5 x6 x7 x8 x9 (nI i) 1 fv fr pa ki cx cz nu co yk yv dr kn := by
  refine br_f (by decide) ?_
  refine pk_eq b 0 (fun q => ?_) (fun q => ?_)
  · exact br_f (by decide) (nm_r (nI_1 i) (J0 q))
  · rw [nI_add]
    refine And.intro (vp_in_nI hw (by omega)) (And.intro (vp_in_nI (by omega) (by omega)) (nm_e (br_f (by decide) (nm_r (nI_1 i) ?_))))
    rw [nI_clamp (by omega), nI_clamp (by omega)]
    exact J1 q
theorem zy_tc62 {w b at' fm k x z np nc : Nat} {yv0 : Nat → Int32} (hw : w < 8) (hb : b ≤ 1) (hco : co w = nI nc) (hE : zt_Es k x z np nc) (ha : at' + 5 ≤ 520) (hf : fm + 5 ≤ 520) (hd : at' + 5 ≤ fm ∨ fm + 5 ≤ at') :
    ∀ n i yv, i ≤ nc → nc - i < n → (∀ c, c < 5 → yv (at' + c) = if c < i then zy_cv k x (nc - 1) b (nu w) (fun c => yv0 (at' + c)) (fun c => yv0 (fm + c)) c else yv0 (at' + c)) → (∀ j, (j < at' ∨ at' + 5 ≤ j) → yv j = yv0 j) → ∃ yv', ((∀ j, (j < at' ∨ at' + 5 ≤ j) → yv' j = yv0 j) ∧ zt_Ed k x z (nu w) np nc (fun c => yv0 (fm + c)) (fun c => yv' (at' + c)) ∧ (k = 0 → yv' (at' + np) = if b = 0 then yv0 (at' + np) else nu w)) ∧ ∀ post : SY → Prop, post (fv, fr, pa, ki, cx, cz, nu, co, yk, yv', dr, kn) → wY_toChild_62 post (nI w) (nI b) (nI at') (nI fm) (nI k) (nI x) (nI z) (nI (nc - 1)) fv fr n (nI i) pa ki cx cz nu co yk yv dr kn := by
  obtain ⟨k5, p1, p5, c1, c5, s0, s1, s2, s4, s5⟩ := hE
  have h8 : vp_in (nI w) 8 := vp_in_nI hw (by omega)
  have hcw : co (nI w).toNatClampNeg = nI nc := by rw [nI_clamp (by omega)]; exact hco
  intro n
  induction n with
  | zero => intro i yv h1 h2; omega
  | succ n ih =>
    intro i yv h1 h2 h3 h4
    rcases Nat.lt_or_ge i nc with q | q
    · have q' : ¬ nI nc ≤ nI i := nI_ge q (by omega)
      have step : ∀ yv', (∀ j, j ≠ at' + i → yv' j = yv j) → yv' (at' + i) = zy_cv k x (nc - 1) b (nu w) (fun c => yv0 (at' + c)) (fun c => yv0 (fm + c)) i → (∀ post : SY → Prop, wY_toChild_62 post (nI w) (nI b) (nI at') (nI fm) (nI k) (nI x) (nI z) (nI (nc - 1)) fv fr n (nI (i + 1)) pa ki cx cz nu co yk yv' dr kn → wY_toChild_62 post (nI w) (nI b) (nI at') (nI fm) (nI k) (nI x) (nI z) (nI (nc - 1)) fv fr (n + 1) (nI i) pa ki cx cz nu co yk yv dr kn) → ∃ yv', ((∀ j, (j < at' ∨ at' + 5 ≤ j) → yv' j = yv0 j) ∧ zt_Ed k x z (nu w) np nc (fun c => yv0 (fm + c)) (fun c => yv' (at' + c)) ∧ (k = 0 → yv' (at' + np) = if b = 0 then yv0 (at' + np) else nu w)) ∧ ∀ post : SY → Prop, post (fv, fr, pa, ki, cx, cz, nu, co, yk, yv', dr, kn) → wY_toChild_62 post (nI w) (nI b) (nI at') (nI fm) (nI k) (nI x) (nI z) (nI (nc - 1)) fv fr (n + 1) (nI i) pa ki cx cz nu co yk yv dr kn := by
        intro yv1 g1 g2 g3
        obtain ⟨yv', f, H⟩ := ih (i + 1) yv1 (by omega) (by omega) (fun c hc => by
          by_cases y : c = i
          · subst y; rw [if_pos (by omega)]; exact g2
          · rw [g1 _ (by omega), h3 c hc]
            by_cases y2 : c < i
            · rw [if_pos y2, if_pos (by omega)]
            · rw [if_neg y2, if_neg (by omega)]) (fun j hj => by rw [g1 _ (by omega)]; exact h4 j hj)
        exact ⟨yv', f, fun post hp => g3 post (H post hp)⟩
      have cp : ∀ (hn : ¬ (k = 0 ∧ i = nc - 1)), ∃ yv', ((∀ j, (j < at' ∨ at' + 5 ≤ j) → yv' j = yv0 j) ∧ zt_Ed k x z (nu w) np nc (fun c => yv0 (fm + c)) (fun c => yv' (at' + c)) ∧ (k = 0 → yv' (at' + np) = if b = 0 then yv0 (at' + np) else nu w)) ∧ ∀ post : SY → Prop, post (fv, fr, pa, ki, cx, cz, nu, co, yk, yv', dr, kn) → wY_toChild_62 post (nI w) (nI b) (nI at') (nI fm) (nI k) (nI x) (nI z) (nI (nc - 1)) fv fr (n + 1) (nI i) pa ki cx cz nu co yk yv dr kn := by
        intro hn
        refine step (upd yv (at' + i) (yv (fm + (if k = 1 ∧ x ≤ i then i + 1 else i)))) (fun j hj => pk_un hj) ?_ (fun post hp => And.intro h8 ?_)
        · rw [pk_us]; unfold zy_cv; rw [if_neg hn]
          exact h4 _ (by
            by_cases q1 : k = 1 ∧ x ≤ i
            · rw [if_pos q1]; have := s1 q1.1; omega
            · rw [if_neg q1]; omega)
        · rw [hcw]
          have go : wY_toChild_90 post (wY_toChild_62 post (nI w) (nI b) (nI at') (nI fm) (nI k) (nI x) (nI z) (nI (nc - 1)) fv fr n) (nI w) (nI b) (nI at') (nI fm) (nI k) (nI x) (nI z) (nI (nc - 1)) (nI i) 0 fv fr pa ki cx cz nu co yk yv dr kn := zy_tc90 k5 (fun h => by have := s1 h; omega) (by omega) (by omega) (fun h => by have := s1 h; omega) hp
          exact br_f q' (pk_eq k 0 (fun k0 => pk_eq i (nc - 1) (fun il => absurd ⟨k0, il⟩ hn) (fun _ => go)) (fun _ => go))
      by_cases hn : k = 0 ∧ i = nc - 1
      · have hki : nI k = 0 := by rw [hn.1]; rfl
        have hii : nI i = nI (nc - 1) := by rw [← hn.2]
        by_cases hb0 : b = 0
        · refine step yv (fun j hj => rfl) ?_ (fun post hp => And.intro h8 ?_)
          · unfold zy_cv; rw [if_pos hn, if_pos hb0, h3 i (by omega), if_neg (by omega)]
          · rw [hcw]
            exact br_f q' (br_t hki (br_t hii (zy_tc90f hw hb (by omega) (fun _ => hp) (fun h => absurd hb0 h))))
        · refine step (upd yv (at' + i) (nu w)) (fun j hj => pk_un hj) ?_ (fun post hp => And.intro h8 ?_)
          · unfold zy_cv; rw [if_pos hn, if_neg hb0, pk_us]
          · rw [hcw]
            exact br_f q' (br_t hki (br_t hii (zy_tc90f hw hb (by omega) (fun h => absurd h hb0) (fun _ => hp))))
      · exact cp hn
    · have q' : nI nc ≤ nI i := nI_le q (by omega)
      have v1 : ∀ c, c < nc → yv (at' + c) = zy_cv k x (nc - 1) b (nu w) (fun c => yv0 (at' + c)) (fun c => yv0 (fm + c)) c := fun c hc => by rw [h3 c (by omega), if_pos (by omega)]
      have vf : ∀ c, c < 5 → yv (fm + c) = yv0 (fm + c) := fun c hc => h4 _ (by omega)
      have vc : ¬ k = 0 → ¬ k = 1 → ∀ c, c < nc → yv (at' + c) = yv0 (fm + c) := fun k0 k1 c hc => by
        rw [v1 c hc]; unfold zy_cv; rw [if_neg (fun h => k0 h.1), if_neg (fun h => k1 h.1)]
      clear h3 ih
      rcases zt_k6 k5 with e | e | e | e | e | e <;> subst e
      · have s := s0 rfl
        refine ⟨yv, ⟨h4, zt_E0 (fun c hc => ?_), fun _ => ?_⟩, fun post hp => And.intro h8 ?_⟩
        · show yv (at' + c) = yv0 (fm + c)
          rw [v1 c (by omega)]; unfold zy_cv; rw [if_neg (by omega), if_neg (by omega)]
        · rw [v1 np (by omega)]; unfold zy_cv; rw [if_pos ⟨rfl, by omega⟩]
        · rw [hcw]
          exact br_t q' (br_f (by decide) (br_f (by decide) (br_f (by decide) hp)))
      · have s := s1 rfl
        refine ⟨yv, ⟨h4, zt_E1 (fun c hc => ?_), fun h => absurd h (by decide)⟩, fun post hp => And.intro h8 ?_⟩
        · show yv (at' + c) = yv0 (fm + _)
          rw [v1 c hc]; unfold zy_cv; rw [if_neg (by omega)]
          by_cases q1 : c < x
          · rw [if_neg (by omega), if_pos q1]
          · rw [if_pos ⟨rfl, by omega⟩, if_neg q1]
        · rw [hcw]
          exact br_t q' (br_f (by decide) (br_f (by decide) (br_f (by decide) hp)))
      · have s := s2 (by decide)
        have hc := vc (by decide) (by decide)
        refine ⟨upd yv (at' + x) (yv (fm + x) + nu w), ⟨fun j hj => ?_, zt_E2 (fun c hc' => ?_), fun h => absurd h (by decide)⟩, fun post hp => And.intro h8 ?_⟩
        · rw [pk_un (by omega)]; exact h4 j hj
        · show upd yv _ _ (at' + c) = _
          by_cases q1 : c = x
          · subst q1; rw [pk_us, if_pos rfl, vf c (by omega)]
          · rw [pk_un (by omega), if_neg q1]; exact hc c (by omega)
        · rw [hcw]
          refine br_t q' (br_t rfl ?_)
          rw [nI_add, nI_add]
          refine And.intro (vp_in_nI (by omega) (by omega)) (And.intro h8 (And.intro (vp_in_nI (by omega) (by omega)) (nm_e (br_f (by decide) (br_f (by decide) ?_)))))
          rw [nI_clamp (by omega), nI_clamp (by omega), nI_clamp (by omega)]
          exact hp
      · have s := s2 (by decide)
        have hc := vc (by decide) (by decide)
        refine ⟨yv, ⟨h4, zt_E3 (fun c hc' => hc c (by omega)), fun h => absurd h (by decide)⟩, fun post hp => And.intro h8 ?_⟩
        rw [hcw]
        exact br_t q' (br_f (by decide) (br_f (by decide) (br_f (by decide) hp)))
      · have s := s2 (by decide)
        have s' := s4 (by decide)
        have hc := vc (by decide) (by decide)
        refine ⟨upd (upd yv (at' + x) (yv (fm + z))) (at' + z) (upd yv (at' + x) (yv (fm + z)) (fm + x)), ⟨fun j hj => ?_, zt_E4 (fun c hc' => ?_), fun h => absurd h (by decide)⟩, fun post hp => And.intro h8 ?_⟩
        · rw [pk_un (by omega), pk_un (by omega)]; exact h4 j hj
        · show upd (upd yv _ _) _ _ (at' + c) = _
          by_cases q1 : c = z
          · subst q1
            rw [pk_us, pk_un (by omega), vf x (by omega)]
            by_cases q2 : c = x
            · rw [if_pos q2, q2]
            · rw [if_neg q2, if_pos rfl]
          · rw [pk_un (by omega)]
            by_cases q2 : c = x
            · subst q2; rw [pk_us, if_pos rfl, vf z (by omega)]
            · rw [pk_un (by omega), if_neg q2, if_neg q1]; exact hc c (by omega)
        · rw [hcw]
          refine br_t q' (br_f (by decide) (br_t rfl ?_))
          rw [nI_add, nI_add, nI_add, nI_add]
          refine And.intro (vp_in_nI (by omega) (by omega)) (And.intro (vp_in_nI (by omega) (by omega)) (nm_e (And.intro (vp_in_nI (by omega) (by omega)) (And.intro (vp_in_nI (by omega) (by omega)) (nm_e (br_f (by decide) ?_))))))
          rw [nI_clamp (by omega), nI_clamp (by omega), nI_clamp (by omega), nI_clamp (by omega)]
          exact hp
      · have s := s2 (by decide)
        have s' := s4 (by decide)
        have hc := vc (by decide) (by decide)
        refine ⟨upd yv (at' + x) (yv (fm + x) + yv (fm + z)), ⟨fun j hj => ?_, zt_E5 (fun c hc' => ?_), fun h => absurd h (by decide)⟩, fun post hp => And.intro h8 ?_⟩
        · rw [pk_un (by omega)]; exact h4 j hj
        · show upd yv _ _ (at' + c) = _
          by_cases q1 : c = x
          · subst q1; rw [pk_us, if_pos rfl, vf c (by omega), vf z (by omega)]
          · rw [pk_un (by omega), if_neg q1]; exact hc c (by omega)
        · rw [hcw]
          refine br_t q' (br_f (by decide) (br_f (by decide) (br_t rfl ?_)))
          rw [nI_add, nI_add, nI_add]
          refine And.intro (vp_in_nI (by omega) (by omega)) (And.intro (vp_in_nI (by omega) (by omega)) (And.intro (vp_in_nI (by omega) (by omega)) (nm_e ?_)))
          rw [nI_clamp (by omega), nI_clamp (by omega), nI_clamp (by omega)]
          exact hp
theorem zy_toChild (A : zt_A pa ki cx cz co P K X Z C) {r w b : Nat} (hw : w < 8) (hpw : P w < w) (hE : zt_Es (K w) (X w) (Z w) (C (P w)) (C w)) (hr : r < 13) (hb : b ≤ 1) :
    ∃ yv', ((∀ j, (j < 40 * r + 5 * w ∨ 40 * r + 5 * w + 5 ≤ j) → yv' j = yv j) ∧ zt_Ed (K w) (X w) (Z w) (nu w) (C (P w)) (C w) (zt_F yv r (P w)) (zt_F yv' r w) ∧ (K w = 0 → zt_F yv' r w (C (P w)) = if b = 0 then zt_F yv r w (C (P w)) else nu w)) ∧ ∀ post : SY → Prop, post (fv, fr, pa, ki, cx, cz, nu, co, yk, yv', dr, kn) → wpY_toChild post (fv, fr, pa, ki, cx, cz, nu, co, yk, yv, dr, kn) (nI r) (nI w) (nI b) := by
  have h8 : vp_in (nI w) 8 := vp_in_nI hw (by omega)
  obtain ⟨a1, a2, a3, a4, a5⟩ := A w
  have hc := hE.2.2.2.1
  obtain ⟨yv', f, H⟩ := zy_tc62 (fv := fv) (fr := fr) (pa := pa) (ki := ki) (cx := cx) (cz := cz) (nu := nu) (yk := yk) (dr := dr) (kn := kn) (w := w) (np := C (P w)) (at' := 40 * r + 5 * w) (fm := 40 * r + 5 * P w) hw hb a5 hE (by omega) (by omega) (by omega) (C w + 1) 0 yv (by omega) (by omega) (fun c hc => by rw [if_neg (by omega)]) (fun _ _ => rfl)
  refine ⟨yv', f, fun post hp => ?_⟩
  refine nm_r (zt_i40 r w) (And.intro h8 ?_)
  rw [nI_clamp (by omega), a1, a2, a3, a4, a5]
  exact nm_r (zt_i40 r (P w)) (And.intro h8 (nm_e (And.intro h8 (nm_e (And.intro h8 (nm_e (And.intro h8 (nm_r (zt_p1 hc) ⟨C w + 1, H post hp⟩))))))))
end
end
section
/-! toParent -/
theorem zt_add {a b y : Int32} (h : b = a - y) : a = b + y := by rw [h, Int32.sub_add_cancel]
section
variable {nv : Nat} {P K X Z C : Nat → Nat}
variable {fv fr : Int32} {pa ki cx cz nu co yk yv dr kn : Nat → Int32}
theorem zy_tp86 {post : SY → Prop} {J52 : Int32 → (Nat → Int32) → (Nat → Int32) → (Nat → Int32) → (Nat → Int32) → (Nat → Int32) → (Nat → Int32) → (Nat → Int32) → (Nat → Int32) → (Nat → Int32) → (Nat → Int32) → Prop} {x2 x3 x8 : Int32} {at' fm k x i : Nat} (hk : k ≤ 5) (hx : k = 1 → x < 5) (ha : at' + i < 520) (hf : fm + i < 520)
    (J : J52 (nI (i + 1)) pa ki cx cz nu co yk (upd yv (at' + i) (yv (fm + (if k = 1 ∧ x < i then i - 1 else i)))) dr kn) : wY_toParent_86 post J52 x2 x3 (nI at') (nI fm) (nI k) (nI x) x8 (nI i) 0 fv fr pa ki cx cz nu co yk yv dr kn := by
  refine br_t rfl (br_t rfl ?_)
  refine pk_eq k 1 (fun q => ?_) (fun q => ?_)
  · have hx5 := hx q
    refine pk_le i x (fun w => ?_) (fun w => ?_)
    · rw [if_neg (by omega)] at J
      rw [nI_add, nI_add]
      refine And.intro (vp_in_nI (by omega) (by omega)) (And.intro (vp_in_nI (by omega) (by omega)) (nm_e (nm_r (nI_1 i) ?_)))
      rw [nI_clamp (by omega), nI_clamp (by omega)]
      exact J
    · rw [if_pos ⟨q, w⟩] at J
      rw [zt_p1 (by omega), nI_add, nI_add]
      refine And.intro (vp_in_nI (by omega) (by omega)) (And.intro (vp_in_nI (by omega) (by omega)) (nm_e (nm_r (nI_1 i) ?_)))
      rw [nI_clamp (by omega), nI_clamp (by omega)]
      exact J
  · rw [if_neg (fun w => q w.1)] at J
    rw [nI_add, nI_add]
    refine And.intro (vp_in_nI (by omega) (by omega)) (And.intro (vp_in_nI (by omega) (by omega)) (nm_e (nm_r (nI_1 i) ?_)))
    rw [nI_clamp (by omega), nI_clamp (by omega)]
    exact J
theorem zy_tp86f {post : SY → Prop} {J52 : Int32 → (Nat → Int32) → (Nat → Int32) → (Nat → Int32) → (Nat → Int32) → (Nat → Int32) → (Nat → Int32) → (Nat → Int32) → (Nat → Int32) → (Nat → Int32) → (Nat → Int32) → Prop} {x5 x6 x7 x8 : Int32} {w b at' i : Nat} (hw : w < 8) (hb : b ≤ 1) (ha : at' + i < 520)
    (J0 : b = 0 → J52 (nI (i + 1)) pa ki cx cz nu co yk yv dr kn) (J1 : b ≠ 0 → J52 (nI (i + 1)) pa ki cx cz nu co yk (upd yv (at' + i) (nu w)) dr kn) : wY_toParent_86 post J52 (nI w) (nI b) (nI at') x5 x6 x7 x8 (nI i) 1 fv fr pa ki cx cz nu co yk yv dr kn := by
  refine br_f (by decide) ?_
  refine pk_eq b 0 (fun q => ?_) (fun q => ?_)
  · exact br_f (by decide) (nm_r (nI_1 i) (J0 q))
  · rw [nI_add]
    refine And.intro (vp_in_nI hw (by omega)) (And.intro (vp_in_nI (by omega) (by omega)) (nm_e (br_f (by decide) (nm_r (nI_1 i) ?_))))
    rw [nI_clamp (by omega), nI_clamp (by omega)]
    exact J1 q
theorem zy_tp52 {w pw b at' fm k x z np nc : Nat} {yv0 : Nat → Int32} (hw : w < 8) (hpw : pw < 8) (hpa : pa w = nI pw) (hb : b ≤ 1) (hco : co pw = nI np) (hE : zt_Es k x z np nc) (ha : at' + 5 ≤ 520) (hf : fm + 5 ≤ 520) (hd : at' + 5 ≤ fm ∨ fm + 5 ≤ at') :
    ∀ n i yv, i ≤ np → np - i < n → (∀ c, c < 5 → yv (at' + c) = if c < i then zy_pv k x b (nu w) (fun c => yv0 (at' + c)) (fun c => yv0 (fm + c)) c else yv0 (at' + c)) → (∀ j, (j < at' ∨ at' + 5 ≤ j) → yv j = yv0 j) → ∃ yv', ((∀ j, (j < at' ∨ at' + 5 ≤ j) → yv' j = yv0 j) ∧ zt_Ed k x z (nu w) np nc (fun c => yv' (at' + c)) (fun c => yv0 (fm + c)) ∧ (k = 1 → yv' (at' + x) = if b = 0 then yv0 (at' + x) else nu w)) ∧ ∀ post : SY → Prop, post (fv, fr, pa, ki, cx, cz, nu, co, yk, yv', dr, kn) → wY_toParent_52 post (nI w) (nI b) (nI at') (nI fm) (nI k) (nI x) (nI z) fv fr n (nI i) pa ki cx cz nu co yk yv dr kn := by
  obtain ⟨k5, p1, p5, c1, c5, s0, s1, s2, s4, s5⟩ := hE
  have h8 : vp_in (nI w) 8 := vp_in_nI hw (by omega)
  have hp8 : vp_in (nI pw) 8 := vp_in_nI hpw (by omega)
  have hpw' : pa (nI w).toNatClampNeg = nI pw := by rw [nI_clamp (by omega)]; exact hpa
  have hcw : co (nI pw).toNatClampNeg = nI np := by rw [nI_clamp (by omega)]; exact hco
  intro n
  induction n with
  | zero => intro i yv h1 h2; omega
  | succ n ih =>
    intro i yv h1 h2 h3 h4
    rcases Nat.lt_or_ge i np with q | q
    · have q' : ¬ nI np ≤ nI i := nI_ge q (by omega)
      have step : ∀ yv', (∀ j, j ≠ at' + i → yv' j = yv j) → yv' (at' + i) = zy_pv k x b (nu w) (fun c => yv0 (at' + c)) (fun c => yv0 (fm + c)) i → (∀ post : SY → Prop, wY_toParent_52 post (nI w) (nI b) (nI at') (nI fm) (nI k) (nI x) (nI z) fv fr n (nI (i + 1)) pa ki cx cz nu co yk yv' dr kn → wY_toParent_52 post (nI w) (nI b) (nI at') (nI fm) (nI k) (nI x) (nI z) fv fr (n + 1) (nI i) pa ki cx cz nu co yk yv dr kn) → ∃ yv', ((∀ j, (j < at' ∨ at' + 5 ≤ j) → yv' j = yv0 j) ∧ zt_Ed k x z (nu w) np nc (fun c => yv' (at' + c)) (fun c => yv0 (fm + c)) ∧ (k = 1 → yv' (at' + x) = if b = 0 then yv0 (at' + x) else nu w)) ∧ ∀ post : SY → Prop, post (fv, fr, pa, ki, cx, cz, nu, co, yk, yv', dr, kn) → wY_toParent_52 post (nI w) (nI b) (nI at') (nI fm) (nI k) (nI x) (nI z) fv fr (n + 1) (nI i) pa ki cx cz nu co yk yv dr kn := by
        intro yv1 g1 g2 g3
        obtain ⟨yv', f, H⟩ := ih (i + 1) yv1 (by omega) (by omega) (fun c hc => by
          by_cases y : c = i
          · subst y; rw [if_pos (by omega)]; exact g2
          · rw [g1 _ (by omega), h3 c hc]
            by_cases y2 : c < i
            · rw [if_pos y2, if_pos (by omega)]
            · rw [if_neg y2, if_neg (by omega)]) (fun j hj => by rw [g1 _ (by omega)]; exact h4 j hj)
        exact ⟨yv', f, fun post hp => g3 post (H post hp)⟩
      by_cases hn : k = 1 ∧ i = x
      · have hki : nI k = 1 := by rw [hn.1]; rfl
        have hii : nI i = nI x := by rw [← hn.2]
        by_cases hb0 : b = 0
        · refine step yv (fun j hj => rfl) ?_ (fun post hp => And.intro h8 ?_)
          · unfold zy_pv; rw [if_pos hn, if_pos hb0, h3 i (by omega), if_neg (by omega)]
          · rw [hpw']
            refine And.intro hp8 ?_
            rw [hcw]
            exact br_f q' (br_t hki (br_t hii (zy_tp86f hw hb (by omega) (fun _ => hp) (fun h => absurd hb0 h))))
        · refine step (upd yv (at' + i) (nu w)) (fun j hj => pk_un hj) ?_ (fun post hp => And.intro h8 ?_)
          · unfold zy_pv; rw [if_pos hn, if_neg hb0, pk_us]
          · rw [hpw']
            refine And.intro hp8 ?_
            rw [hcw]
            exact br_f q' (br_t hki (br_t hii (zy_tp86f hw hb (by omega) (fun h => absurd h hb0) (fun _ => hp))))
      · refine step (upd yv (at' + i) (yv (fm + (if k = 1 ∧ x < i then i - 1 else i)))) (fun j hj => pk_un hj) ?_ (fun post hp => And.intro h8 ?_)
        · rw [pk_us]; unfold zy_pv; rw [if_neg hn]
          exact h4 _ (by
            by_cases q1 : k = 1 ∧ x < i
            · rw [if_pos q1]; have := s1 q1.1; omega
            · rw [if_neg q1]; omega)
        · rw [hpw']
          refine And.intro hp8 ?_
          rw [hcw]
          have go : wY_toParent_86 post (wY_toParent_52 post (nI w) (nI b) (nI at') (nI fm) (nI k) (nI x) (nI z) fv fr n) (nI w) (nI b) (nI at') (nI fm) (nI k) (nI x) (nI z) (nI i) 0 fv fr pa ki cx cz nu co yk yv dr kn := zy_tp86 k5 (fun h => by have := s1 h; omega) (by omega) (by omega) hp
          exact br_f q' (pk_eq k 1 (fun k0 => by
            have hx := s1 k0
            exact pk_eq i x (fun il => absurd ⟨k0, il⟩ hn) (fun _ => go)) (fun _ => go))
    · have q' : nI np ≤ nI i := nI_le q (by omega)
      have v1 : ∀ c, c < np → yv (at' + c) = zy_pv k x b (nu w) (fun c => yv0 (at' + c)) (fun c => yv0 (fm + c)) c := fun c hc => by rw [h3 c (by omega), if_pos (by omega)]
      have vf : ∀ c, c < 5 → yv (fm + c) = yv0 (fm + c) := fun c hc => h4 _ (by omega)
      have vc : ¬ k = 1 → ∀ c, c < np → yv (at' + c) = yv0 (fm + c) := fun k1 c hc => by
        rw [v1 c hc]; unfold zy_pv; rw [if_neg (fun h => k1 h.1), if_neg (fun h => k1 h.1)]
      clear h3 ih
      rcases zt_k6 k5 with e | e | e | e | e | e <;> subst e
      · have s := s0 rfl
        have hc := vc (by decide)
        refine ⟨yv, ⟨h4, zt_E0 (fun c hc' => (hc c hc').symm), fun h => absurd h (by decide)⟩, fun post hp => And.intro h8 ?_⟩
        rw [hpw']
        refine And.intro hp8 ?_
        rw [hcw]
        exact br_t q' (br_f (by decide) (br_f (by decide) (br_f (by decide) hp)))
      · have s := s1 rfl
        refine ⟨yv, ⟨h4, zt_E1 (fun c hc => ?_), fun _ => ?_⟩, fun post hp => And.intro h8 ?_⟩
        · show yv0 (fm + c) = yv (at' + _)
          by_cases q1 : c < x
          · rw [if_pos q1, v1 c (by omega)]; unfold zy_pv; rw [if_neg (by omega), if_neg (by omega)]
          · rw [if_neg q1, v1 (c + 1) (by omega)]; unfold zy_pv; rw [if_neg (by omega), if_pos ⟨rfl, by omega⟩]; rfl
        · rw [v1 x (by omega)]; unfold zy_pv; rw [if_pos ⟨rfl, rfl⟩]
        · rw [hpw']
          refine And.intro hp8 ?_
          rw [hcw]
          exact br_t q' (br_f (by decide) (br_f (by decide) (br_f (by decide) hp)))
      · have s := s2 (by decide)
        have hc := vc (by decide)
        refine ⟨upd yv (at' + x) (yv (fm + x) - nu w), ⟨fun j hj => ?_, zt_E2 (fun c hc' => ?_), fun h => absurd h (by decide)⟩, fun post hp => And.intro h8 ?_⟩
        · rw [pk_un (by omega)]; exact h4 j hj
        · show yv0 (fm + c) = if c = x then upd yv _ _ (at' + c) + nu w else upd yv _ _ (at' + c)
          by_cases q1 : c = x
          · subst q1; rw [if_pos rfl, pk_us, vf c (by omega)]; exact zt_add rfl
          · rw [if_neg q1, pk_un (by omega)]; exact (hc c (by omega)).symm
        · rw [hpw']
          refine And.intro hp8 ?_
          rw [hcw]
          refine br_t q' (br_t rfl ?_)
          rw [nI_add, nI_add]
          refine And.intro (vp_in_nI (by omega) (by omega)) (And.intro h8 (And.intro (vp_in_nI (by omega) (by omega)) (nm_e (br_f (by decide) (br_f (by decide) ?_)))))
          rw [nI_clamp (by omega), nI_clamp (by omega), nI_clamp (by omega)]
          exact hp
      · have s := s2 (by decide)
        have hc := vc (by decide)
        refine ⟨yv, ⟨h4, zt_E3 (fun c hc' => (hc c (by omega)).symm), fun h => absurd h (by decide)⟩, fun post hp => And.intro h8 ?_⟩
        rw [hpw']
        refine And.intro hp8 ?_
        rw [hcw]
        exact br_t q' (br_f (by decide) (br_f (by decide) (br_f (by decide) hp)))
      · have s := s2 (by decide)
        have s' := s4 (by decide)
        have hc := vc (by decide)
        have e1 : upd yv (at' + x) (yv (fm + z)) (fm + x) = yv0 (fm + x) := by rw [pk_un (by omega), vf x (by omega)]
        refine ⟨upd (upd yv (at' + x) (yv (fm + z))) (at' + z) (upd yv (at' + x) (yv (fm + z)) (fm + x)), ⟨fun j hj => ?_, zt_E4 (fun c hc' => ?_), fun h => absurd h (by decide)⟩, fun post hp => And.intro h8 ?_⟩
        · rw [pk_un (by omega), pk_un (by omega)]; exact h4 j hj
        · rw [e1, vf z (by omega)]
          show yv0 (fm + c) = if c = x then upd (upd yv _ _) _ _ (at' + z) else if c = z then upd (upd yv _ _) _ _ (at' + x) else upd (upd yv _ _) _ _ (at' + c)
          by_cases q1 : c = x
          · subst q1; rw [if_pos rfl, pk_us]
          · rw [if_neg q1]
            by_cases q2 : c = z
            · subst q2; rw [if_pos rfl, pk_un (by omega), pk_us]
            · rw [if_neg q2, pk_un (by omega), pk_un (by omega)]; exact (hc c (by omega)).symm
        · rw [hpw']
          refine And.intro hp8 ?_
          rw [hcw]
          refine br_t q' (br_f (by decide) (br_t rfl ?_))
          rw [nI_add, nI_add, nI_add, nI_add]
          refine And.intro (vp_in_nI (by omega) (by omega)) (And.intro (vp_in_nI (by omega) (by omega)) (nm_e (And.intro (vp_in_nI (by omega) (by omega)) (And.intro (vp_in_nI (by omega) (by omega)) (nm_e (br_f (by decide) ?_))))))
          rw [nI_clamp (by omega), nI_clamp (by omega), nI_clamp (by omega), nI_clamp (by omega)]
          exact hp
      · have s := s2 (by decide)
        have s' := s4 (by decide)
        have s'' := s5 rfl
        have hc := vc (by decide)
        refine ⟨upd yv (at' + x) (yv (fm + x) - yv (fm + z)), ⟨fun j hj => ?_, zt_E5 (fun c hc' => ?_), fun h => absurd h (by decide)⟩, fun post hp => And.intro h8 ?_⟩
        · rw [pk_un (by omega)]; exact h4 j hj
        · show yv0 (fm + c) = if c = x then upd yv _ _ (at' + x) + upd yv _ _ (at' + z) else upd yv _ _ (at' + c)
          by_cases q1 : c = x
          · subst q1; rw [if_pos rfl, pk_us, pk_un (by omega), vf c (by omega), vf z (by omega), hc z (by omega)]; exact zt_add rfl
          · rw [if_neg q1, pk_un (by omega)]; exact (hc c (by omega)).symm
        · rw [hpw']
          refine And.intro hp8 ?_
          rw [hcw]
          refine br_t q' (br_f (by decide) (br_f (by decide) (br_t rfl ?_)))
          rw [nI_add, nI_add, nI_add]
          refine And.intro (vp_in_nI (by omega) (by omega)) (And.intro (vp_in_nI (by omega) (by omega)) (And.intro (vp_in_nI (by omega) (by omega)) (nm_e ?_)))
          rw [nI_clamp (by omega), nI_clamp (by omega), nI_clamp (by omega)]
          exact hp
theorem zy_toParent (A : zt_A pa ki cx cz co P K X Z C) {r w b : Nat} (hw : w < 8) (hpw : P w < w) (hE : zt_Es (K w) (X w) (Z w) (C (P w)) (C w)) (hr : r < 13) (hb : b ≤ 1) :
    ∃ yv', ((∀ j, (j < 40 * r + 5 * P w ∨ 40 * r + 5 * P w + 5 ≤ j) → yv' j = yv j) ∧ zt_Ed (K w) (X w) (Z w) (nu w) (C (P w)) (C w) (zt_F yv' r (P w)) (zt_F yv r w) ∧ (K w = 1 → zt_F yv' r (P w) (X w) = if b = 0 then zt_F yv r (P w) (X w) else nu w)) ∧ ∀ post : SY → Prop, post (fv, fr, pa, ki, cx, cz, nu, co, yk, yv', dr, kn) → wpY_toParent post (fv, fr, pa, ki, cx, cz, nu, co, yk, yv, dr, kn) (nI r) (nI w) (nI b) := by
  have h8 : vp_in (nI w) 8 := vp_in_nI hw (by omega)
  obtain ⟨a1, a2, a3, a4, a5⟩ := A w
  obtain ⟨yv', f, H⟩ := zy_tp52 (fv := fv) (fr := fr) (pa := pa) (ki := ki) (cx := cx) (cz := cz) (nu := nu) (yk := yk) (dr := dr) (kn := kn) (w := w) (pw := P w) (np := C (P w)) (nc := C w) (at' := 40 * r + 5 * P w) (fm := 40 * r + 5 * w) hw (by omega) a1 hb (A (P w)).2.2.2.2 hE (by omega) (by omega) (by omega) (C (P w) + 1) 0 yv (by omega) (by omega) (fun c hc => by rw [if_neg (by omega)]) (fun _ _ => rfl)
  refine ⟨yv', f, fun post hp => And.intro h8 ?_⟩
  rw [nI_clamp (by omega), a1, a2, a3, a4]
  exact nm_r (zt_i40 r (P w)) (nm_r (zt_i40 r w) (And.intro h8 (nm_e (And.intro h8 (nm_e (And.intro h8 (nm_e ⟨C (P w) + 1, H post hp⟩)))))))
end
end
section
/-! the reference's carry: from the version v to all others -/
theorem zt_Ed_c {k x z np nc : Nat} {y : Int32} {p f p' f' : Nat → Int32} (hS : zt_Es k x z np nc) (hp : ∀ c, c < 5 → p' c = p c) (hf : ∀ c, c < 5 → f' c = f c) (h : zt_Ed k x z y np nc p f) : zt_Ed k x z y np nc p' f' := by
  obtain ⟨k5, p1, p5, c1, c5, s0, s1, s2, s4, s5⟩ := hS
  refine ⟨fun e c hc => ?_, fun e c hc => ?_, fun e c hc => ?_, fun e c hc => ?_, fun e c hc => ?_, fun e c hc => ?_⟩
  · rw [hf c (by omega), hp c (by omega)]; exact h.1 e c hc
  · have s := s1 e
    rw [hf c (by omega), hp _ (by by_cases q : c < x
                                  · rw [if_pos q]; omega
                                  · rw [if_neg q]; omega)]; exact h.2.1 e c hc
  · rw [hf c (by omega), hp c (by omega)]; exact h.2.2.1 e c hc
  · rw [hf c (by omega), hp c (by omega)]; exact h.2.2.2.1 e c hc
  · have s := s2 (by omega)
    have s' := s4 (by omega)
    rw [hf c (by omega), hp c (by omega), hp z (by omega), hp x (by omega)]; exact h.2.2.2.2.1 e c hc
  · have s := s2 (by omega)
    have s' := s4 (by omega)
    rw [hf c (by omega), hp c (by omega), hp z (by omega), hp x (by omega)]; exact h.2.2.2.2.2 e c hc
theorem zt_fr_c {P K X Z C : Nat → Nat} {F F' : Nat → Nat → Int32} {e : Nat} (hS : zt_Es (K e) (X e) (Z e) (C (P e)) (C e)) (hp : ∀ c, c < 5 → F' (P e) c = F (P e) c) (hf : ∀ c, c < 5 → F' e c = F e c) : zt_fr P K X C F' e = zt_fr P K X C F e := by
  obtain ⟨k5, p1, p5, c1, c5, s0, s1, s2, s4, s5⟩ := hS
  unfold zt_fr
  by_cases q : K e = 0
  · have s := s0 q
    rw [if_pos q, if_pos q]; exact hf _ (by omega)
  · rw [if_neg q, if_neg q]
    by_cases q1 : K e = 1
    · have s := s1 q1
      exact hp _ (by omega)
    · have s := s2 (by omega)
      exact hp _ (by omega)
def zy_Iv (nv : Nat) (P K X Z C : Nat → Nat) (nu : Nat → Int32) (r v b : Nat) (yv0 yv kn : Nat → Int32) : Prop :=
  kn v ≠ 0 ∧
  (∀ w, 0 < w → w < nv → kn w ≠ 0 → kn (P w) = 0 → zt_an P v w) ∧
  (∀ w, 0 < w → w < nv → zt_an P v w → kn (P w) ≠ 0 → kn w ≠ 0) ∧
  (∀ w, 0 < w → w < nv → kn w ≠ 0 → kn (P w) ≠ 0 → zt_Ed (K w) (X w) (Z w) (nu w) (C (P w)) (C w) (zt_F yv r (P w)) (zt_F yv r w) ∧ (zt_nd P K v w → zt_fr P K X C (zt_F yv r) w = if b = 0 then zt_fr P K X C (zt_F yv0 r) w else nu w)) ∧
  (∀ w, w < nv → kn w = 0 → ∀ c, c < 5 → zt_F yv r w c = zt_F yv0 r w c) ∧
  (∀ c, c < 5 → zt_F yv r v c = zt_F yv0 r v c) ∧
  (∀ j, (j < 40 * r ∨ 40 * r + 40 ≤ j) → yv j = yv0 j)
theorem zt_k1 {kn : Nat → Int32} {w u : Nat} (h : kn u ≠ 0) : upd kn w 1 u ≠ 0 := by
  by_cases q : u = w
  · subst q; rw [pk_us]; decide
  · rw [pk_un q]; exact h
theorem zt_k1s {kn : Nat → Int32} {w : Nat} : upd kn w 1 w ≠ 0 := by rw [pk_us]; decide
theorem zt_k0 {kn : Nat → Int32} {w u : Nat} (h : upd kn w 1 u = 0) : u ≠ w ∧ kn u = 0 := by
  by_cases q : u = w
  · subst q; rw [pk_us] at h; exact absurd h (by decide)
  · rw [pk_un q] at h; exact ⟨q, h⟩
theorem zt_k2 {kn : Nat → Int32} {w u : Nat} (h : upd kn w 1 u ≠ 0) (q : u ≠ w) : kn u ≠ 0 := by
  rw [pk_un q] at h; exact h
theorem zt_Fn {yv yv' : Nat → Int32} {r w u c : Nat} (h : ∀ j, (j < 40 * r + 5 * w ∨ 40 * r + 5 * w + 5 ≤ j) → yv' j = yv j) (hu : u ≠ w) (hc : c < 5) : zt_F yv' r u c = zt_F yv r u c := h _ (by omega)
theorem zy_Iv_ch {nv : Nat} {P K X Z C : Nat → Nat} {nu : Nat → Int32} {r v b w : Nat} {yv0 yv kn yv' : Nat → Int32} (T : zt_T nv P K X Z C) (w0 : 0 < w) (hw : w < nv) (I : zy_Iv nv P K X Z C nu r v b yv0 yv kn) (hk : kn w = 0) (hp : kn (P w) ≠ 0)
    (h1 : ∀ j, (j < 40 * r + 5 * w ∨ 40 * r + 5 * w + 5 ≤ j) → yv' j = yv j) (h2 : zt_Ed (K w) (X w) (Z w) (nu w) (C (P w)) (C w) (zt_F yv r (P w)) (zt_F yv' r w)) (h3 : K w = 0 → zt_F yv' r w (C (P w)) = if b = 0 then zt_F yv r w (C (P w)) else nu w) : zy_Iv nv P K X Z C nu r v b yv0 yv' (upd kn w 1) := by
  obtain ⟨Ia, Ib, Ig, Ic, Id, Ie, Io⟩ := I
  have hnv := zt_nv T
  have hpl := zt_P_lt T w0 hw
  have hna : ¬ zt_an P v w := fun a => Ig w w0 hw a hp hk
  have hES := zt_E T w0 hw
  refine ⟨zt_k1 Ia, fun u u0 hu k1 k2 => ?_, fun u u0 hu a k => ?_, fun u u0 hu k1 k2 => ?_, fun u hu k c hc => ?_, fun c hc => ?_, fun j hj => ?_⟩
  · obtain ⟨q1, q2⟩ := zt_k0 k2
    by_cases e : u = w
    · subst e; exact absurd q2 hp
    · exact Ib u u0 hu (zt_k2 k1 e) q2
  · by_cases e : P u = w
    · exact absurd (e ▸ zt_an_u a) hna
    · exact zt_k1 (Ig u u0 hu a (zt_k2 k e))
  · by_cases e : u = w
    · subst e
      refine ⟨zt_Ed_c hES (fun c hc => zt_Fn h1 (by omega) hc) (fun c hc => rfl) h2, ?_⟩
      rintro (⟨k0, _⟩ | ⟨_, a⟩)
      · rw [zt_fr0 k0, zt_fr0 k0, h3 k0]
        obtain ⟨k5, p1, p5, c1, c5, s0, s1, s2, s4, s5⟩ := hES
        have s := s0 k0
        rw [Id u hw hk _ (by omega)]
      · exact absurd a hna
    · have ku := zt_k2 k1 e
      have hpu : P u ≠ w := by
        intro e2
        have a := Ib u u0 hu ku (by rw [e2]; exact hk)
        exact hna (e2 ▸ zt_an_u a)
      obtain ⟨g1, g2⟩ := Ic u u0 hu ku (zt_k2 k2 hpu)
      have hEu := zt_E T u0 hu
      exact ⟨zt_Ed_c hEu (fun c hc => zt_Fn h1 hpu hc) (fun c hc => zt_Fn h1 e hc) g1, fun d => (zt_fr_c hEu (fun c hc => zt_Fn h1 hpu hc) (fun c hc => zt_Fn h1 e hc)).trans (g2 d)⟩
  · obtain ⟨q1, q2⟩ := zt_k0 k
    exact (zt_Fn h1 q1 hc).trans (Id u hu q2 c hc)
  · exact (zt_Fn h1 (fun e => by subst e; exact Ia hk) hc).trans (Ie c hc)
  · exact (h1 j (by omega)).trans (Io j hj)
theorem zy_Iv_pa {nv : Nat} {P K X Z C : Nat → Nat} {nu : Nat → Int32} {r v b w : Nat} {yv0 yv kn yv' : Nat → Int32} (T : zt_T nv P K X Z C) (hv : v < nv) (w0 : 0 < w) (hw : w < nv) (I : zy_Iv nv P K X Z C nu r v b yv0 yv kn) (hk : kn w ≠ 0) (hp : kn (P w) = 0)
    (h1 : ∀ j, (j < 40 * r + 5 * P w ∨ 40 * r + 5 * P w + 5 ≤ j) → yv' j = yv j) (h2 : zt_Ed (K w) (X w) (Z w) (nu w) (C (P w)) (C w) (zt_F yv' r (P w)) (zt_F yv r w)) (h3 : K w = 1 → zt_F yv' r (P w) (X w) = if b = 0 then zt_F yv r (P w) (X w) else nu w) : zy_Iv nv P K X Z C nu r v b yv0 yv' (upd kn (P w) 1) := by
  obtain ⟨Ia, Ib, Ig, Ic, Id, Ie, Io⟩ := I
  have hnv := zt_nv T
  have hpl := zt_P_lt T w0 hw
  have haw : zt_an P v w := Ib w w0 hw hk hp
  have hES := zt_E T w0 hw
  refine ⟨zt_k1 Ia, fun u u0 hu k1 k2 => ?_, fun u u0 hu a k => ?_, fun u u0 hu k1 k2 => ?_, fun u hu k c hc => ?_, fun c hc => ?_, fun j hj => ?_⟩
  · obtain ⟨q1, q2⟩ := zt_k0 k2
    by_cases e : u = P w
    · subst e; exact zt_an_u haw
    · exact Ib u u0 hu (zt_k2 k1 e) q2
  · by_cases e : P u = P w
    · have e2 := zt_an_ch T hv a haw u0 w0 e
      subst e2; exact zt_k1 hk
    · exact zt_k1 (Ig u u0 hu a (zt_k2 k e))
  · by_cases e : u = w
    · subst e
      refine ⟨zt_Ed_c hES (fun c hc => rfl) (fun c hc => zt_Fn h1 (by omega) hc) h2, ?_⟩
      rintro (⟨_, a⟩ | ⟨k0, _⟩)
      · exact absurd haw a
      · rw [zt_fr1 k0, zt_fr1 k0, h3 k0]
        obtain ⟨k5, p1, p5, c1, c5, s0, s1, s2, s4, s5⟩ := hES
        have s := s1 k0
        rw [Id (P u) (by omega) hp _ (by omega)]
    · have hup : u ≠ P w := by
        intro e2
        subst e2
        have hpp := zt_P_lt T u0 hu
        exact Ig (P w) u0 hu (zt_an_u haw) (zt_k2 k2 (by omega)) hp
      have ku := zt_k2 k1 hup
      have hpu : P u ≠ P w := by
        intro e2
        have a := Ib u u0 hu ku (by rw [e2]; exact hp)
        exact e (zt_an_ch T hv a haw u0 w0 e2)
      obtain ⟨g1, g2⟩ := Ic u u0 hu ku (zt_k2 k2 hpu)
      have hEu := zt_E T u0 hu
      exact ⟨zt_Ed_c hEu (fun c hc => zt_Fn h1 hpu hc) (fun c hc => zt_Fn h1 hup hc) g1, fun d => (zt_fr_c hEu (fun c hc => zt_Fn h1 hpu hc) (fun c hc => zt_Fn h1 hup hc)).trans (g2 d)⟩
  · obtain ⟨q1, q2⟩ := zt_k0 k
    exact (zt_Fn h1 q1 hc).trans (Id u hu q2 c hc)
  · exact (zt_Fn h1 (fun e => by rw [← e] at hp; exact Ia hp) hc).trans (Ie c hc)
  · exact (h1 j (by omega)).trans (Io j hj)
section
variable {nv : Nat} {P K X Z C : Nat → Nat}
variable {fv fr : Int32} {pa ki cx cz nu co yk yv dr kn : Nat → Int32}
theorem zy_ca47 (T : zt_T nv P K X Z C) (A : zt_A pa ki cx cz co P K X Z C) {r v b t a : Nat} {Q : Prop} {yv0 : Nat → Int32} (hr : r < 13) (hv : v < nv) (hb : b ≤ 1) (ht : t < 8) :
    ∀ n i yv kn, 1 ≤ i → i ≤ nv → nv - i < n → zy_Iv nv P K X Z C nu r v b yv0 yv kn → kn a ≠ 0 → (a < i → kn (P a) ≠ 0) → (Q → ∀ w, w < i → kn w ≠ 0) → ∃ yv' kn', (zy_Iv nv P K X Z C nu r v b yv0 yv' kn' ∧ (a < nv → kn' (P a) ≠ 0) ∧ (Q → ∀ w, w < nv → kn' w ≠ 0)) ∧ ∀ (post : SY → Prop) (J37 : Int32 → Int32 → Int32 → (Nat → Int32) → (Nat → Int32) → (Nat → Int32) → (Nat → Int32) → (Nat → Int32) → (Nat → Int32) → (Nat → Int32) → (Nat → Int32) → (Nat → Int32) → (Nat → Int32) → Prop), J37 (nI (t + 1)) (nI nv) fr pa ki cx cz nu co yk yv' dr kn' → wY_carry_47 post J37 (nI r) (nI b) (nI t) n (nI i) (nI nv) fr pa ki cx cz nu co yk yv dr kn := by
  have hnv := zt_nv T
  intro n
  induction n with
  | zero => intro i yv kn h1 h2 h3; omega
  | succ n ih =>
    intro i yv kn h1 h2 h3 I ha hp hQ
    rcases Nat.lt_or_ge i nv with q | q
    · have q' : ¬ nI nv ≤ nI i := nI_ge q (by omega)
      have h8 : vp_in (nI i) 8 := vp_in_nI (by omega) (by omega)
      have hpl := zt_P_lt T h1 q
      have hE := zt_E T h1 q
      have hpe : pa (nI i).toNatClampNeg = nI (P i) := by rw [nI_clamp (by omega)]; exact (A i).1
      have hp8 : vp_in (nI (P i)) 8 := vp_in_nI (by omega) (by omega)
      have hci : (nI i).toNatClampNeg = i := nI_clamp (by omega)
      have hcp : (nI (P i)).toNatClampNeg = P i := nI_clamp (by omega)
      by_cases k0 : kn (P i) = 0
      · by_cases k1 : kn i = 0
        · obtain ⟨yv', kn', f, H⟩ := ih (i + 1) yv kn (by omega) (by omega) (by omega) I ha (fun z => by
            by_cases y : a = i
            · subst y; exact absurd k1 ha
            · exact hp (by omega)) (fun z => absurd k0 (hQ z (P i) hpl))
          refine ⟨yv', kn', f, fun post J37 hj => br_f q' (And.intro h8 ?_)⟩
          rw [hpe]
          refine And.intro hp8 (nm_r (e' := kn (P i)) (by rw [hcp]) (br_t k0 (br_t k0 (And.intro h8 ?_))))
          rw [hci]
          exact br_t k1 (nm_r (nI_1 i) (H post J37 hj))
        · obtain ⟨yv1, ⟨g1, g2, g3⟩, G⟩ := zy_toParent (fv := nI nv) (fr := fr) (nu := nu) (yk := yk) (yv := yv) (dr := dr) (kn := kn) A (w := i) (by omega) hpl hE hr hb
          obtain ⟨yv', kn', f, H⟩ := ih (i + 1) yv1 (upd kn (P i) 1) (by omega) (by omega) (by omega) (zy_Iv_pa T hv h1 q I k1 k0 g1 g2 g3) (zt_k1 ha) (fun z => by
            by_cases y : a = i
            · subst y; exact zt_k1s
            · exact zt_k1 (hp (by omega))) (fun z => absurd k0 (hQ z (P i) hpl))
          refine ⟨yv', kn', f, fun post J37 hj => br_f q' (And.intro h8 ?_)⟩
          rw [hpe]
          refine And.intro hp8 (nm_r (e' := kn (P i)) (by rw [hcp]) (br_t k0 (br_t k0 (And.intro h8 ?_))))
          rw [hci]
          refine br_f k1 (G _ ?_)
          refine And.intro h8 ?_
          rw [(A i).1]
          exact And.intro hp8 (nm_r (e' := upd kn (P i) 1) (by rw [hcp]; rfl) (nm_r (nI_1 i) (H post J37 hj)))
      · by_cases k1 : kn i = 0
        · obtain ⟨yv1, ⟨g1, g2, g3⟩, G⟩ := zy_toChild (fv := nI nv) (fr := fr) (nu := nu) (yk := yk) (yv := yv) (dr := dr) (kn := kn) A (w := i) (by omega) hpl hE hr hb
          obtain ⟨yv', kn', f, H⟩ := ih (i + 1) yv1 (upd kn i 1) (by omega) (by omega) (by omega) (zy_Iv_ch T h1 q I k1 k0 g1 g2 g3) (zt_k1 ha) (fun z => by
            by_cases y : a = i
            · subst y; exact zt_k1 k0
            · exact zt_k1 (hp (by omega))) (fun z w hw => by
            by_cases y : w = i
            · subst y; exact zt_k1s
            · exact zt_k1 (hQ z w (by omega)))
          refine ⟨yv', kn', f, fun post J37 hj => br_f q' (And.intro h8 ?_)⟩
          rw [hpe]
          refine And.intro hp8 (nm_r (e' := kn (P i)) (by rw [hcp]) (br_f k0 (And.intro h8 ?_)))
          rw [hci]
          refine br_t k1 (G _ ?_)
          exact And.intro h8 (nm_r (e' := upd kn i 1) rfl (nm_r (nI_1 i) (H post J37 hj)))
        · obtain ⟨yv', kn', f, H⟩ := ih (i + 1) yv kn (by omega) (by omega) (by omega) I ha (fun z => by
            by_cases y : a = i
            · subst y; exact k0
            · exact hp (by omega)) (fun z w hw => by
            by_cases y : w = i
            · subst y; exact k1
            · exact hQ z w (by omega))
          refine ⟨yv', kn', f, fun post J37 hj => br_f q' (And.intro h8 ?_)⟩
          rw [hpe]
          refine And.intro hp8 (nm_r (e' := kn (P i)) (by rw [hcp]) (br_f k0 (And.intro h8 ?_)))
          rw [hci]
          exact br_f k1 (br_f k0 (nm_r (nI_1 i) (H post J37 hj)))
    · have e1 : i = nv := by omega
      subst e1
      exact ⟨yv, kn, ⟨I, hp, hQ⟩, fun post J37 hj => br_t (nI_le (by omega) (by omega)) (nm_r (nI_1 t) hj)⟩
theorem zy_ca37 (T : zt_T nv P K X Z C) (A : zt_A pa ki cx cz co P K X Z C) {r v b : Nat} {yv0 : Nat → Int32} (hr : r < 13) (hv : v < nv) (hb : b ≤ 1) :
    ∀ n t yv kn, t ≤ 8 → 8 - t < n → zy_Iv nv P K X Z C nu r v b yv0 yv kn → kn (zt_it P t v) ≠ 0 → (t = 8 → ∀ w, w < nv → kn w ≠ 0) → ∃ yv' kn', (zy_Iv nv P K X Z C nu r v b yv0 yv' kn' ∧ (∀ w, w < nv → kn' w ≠ 0)) ∧ ∀ post : SY → Prop, post (nI nv, fr, pa, ki, cx, cz, nu, co, yk, yv', dr, kn') → wY_carry_37 post (nI r) (nI b) n (nI t) (nI nv) fr pa ki cx cz nu co yk yv dr kn := by
  have hnv := zt_nv T
  intro n
  induction n with
  | zero => intro t yv kn h1 h2; omega
  | succ n ih =>
    intro t yv kn h1 h2 I ha hA
    rcases Nat.lt_or_ge t 8 with q | q
    · have hit : zt_it P t v < nv := zt_it_nv T hv
      obtain ⟨yv1, kn1, ⟨g1, g2, g3⟩, G⟩ := zy_ca47 (fr := fr) (yk := yk) (dr := dr) T A (a := zt_it P t v) (Q := zt_it P t v = 0) hr hv hb q (nv + 1) 1 yv kn (by omega) (by omega) (by omega) I ha (fun z => by
        have e0 : zt_it P t v = 0 := by omega
        rw [e0] at ha ⊢
        rw [T.2.2.1]; exact ha) (fun z w hw => by
        have w0 : w = 0 := by omega
        rw [w0, ← z]; exact ha)
      obtain ⟨yv', kn', f, H⟩ := ih (t + 1) yv1 kn1 (by omega) (by omega) g1 (by rw [zt_it_s]; exact g2 hit) (fun e => g3 (by
        have e7 : t = 7 := by omega
        subst e7
        exact zt_it_7 T hv))
      exact ⟨yv', kn', f, fun post hp => br_f (nI_ge (a := t) (b := 8) q (by omega)) ⟨nv + 1, G post _ (H post hp)⟩⟩
    · exact ⟨yv, kn, ⟨I, hA (by omega)⟩, fun post hp => br_t (nI_le (a := 8) (b := t) q (by omega)) hp⟩
theorem zy_ca3 {r v b : Nat} (hv : v < 8) :
    ∀ n i kn, i ≤ 8 → 8 - i < n → (∀ w, w < i → kn w = if w = v then 1 else 0) → ∃ kn', (∀ w, w < 8 → kn' w = if w = v then 1 else 0) ∧ ∀ post : SY → Prop, (∃ n, wY_carry_37 post (nI r) (nI b) n 0 fv fr pa ki cx cz nu co yk yv dr kn') → wY_carry_3 post (nI r) (nI v) (nI b) fv fr n (nI i) pa ki cx cz nu co yk yv dr kn := by
  intro n
  induction n with
  | zero => intro t kn h1 h2; omega
  | succ n ih =>
    intro i kn h1 h2 h3
    rcases Nat.lt_or_ge i 8 with q | q
    · have h8 : vp_in (nI i) 8 := vp_in_nI q (by omega)
      have q' : ¬ (8 : Int32) ≤ nI i := nI_ge (a := i) (b := 8) q (by omega)
      have hci : (nI i).toNatClampNeg = i := nI_clamp (by omega)
      by_cases e : i = v
      · obtain ⟨kn', f, H⟩ := ih (i + 1) (upd kn i 1) (by omega) (by omega) (fun w hw => by
          by_cases y : w = i
          · rw [if_pos (by omega), y, pk_us]
          · rw [pk_un y]; exact h3 w (by omega))
        refine ⟨kn', f, fun post hp => br_f q' (br_t (by rw [e]) (And.intro h8 (nm_r (e' := upd kn i 1) (by rw [hci]; rfl) (nm_r (nI_1 i) (H post hp)))))⟩
      · obtain ⟨kn', f, H⟩ := ih (i + 1) (upd kn i 0) (by omega) (by omega) (fun w hw => by
          by_cases y : w = i
          · rw [if_neg (by omega), y, pk_us]
          · rw [pk_un y]; exact h3 w (by omega))
        refine ⟨kn', f, fun post hp => br_f q' (br_f (fun z => e ((nI_eq (by omega) (by omega)).mp z)) (And.intro h8 (nm_r (e' := upd kn i 0) (by rw [hci]; rfl) (nm_r (nI_1 i) (H post hp)))))⟩
    · exact ⟨kn, fun w hw => h3 w (by omega), fun post hp => br_t (nI_le (a := 8) (b := i) q (by omega)) hp⟩
theorem zy_carry (T : zt_T nv P K X Z C) (A : zt_A pa ki cx cz co P K X Z C) {r v b : Nat} (hr : r < 13) (hv : v < nv) (hb : b ≤ 1) :
    ∃ yv' kn', (zt_Co nv P K X Z C nu (zt_F yv' r) ∧ (∀ c, c < 5 → zt_F yv' r v c = zt_F yv r v c) ∧ (∀ e, 0 < e → e < nv → zt_nd P K v e → zt_fr P K X C (zt_F yv' r) e = if b = 0 then zt_fr P K X C (zt_F yv r) e else nu e) ∧ (∀ j, (j < 40 * r ∨ 40 * r + 40 ≤ j) → yv' j = yv j)) ∧ ∀ post : SY → Prop, post (nI nv, fr, pa, ki, cx, cz, nu, co, yk, yv', dr, kn') → wpY_carry post (nI nv, fr, pa, ki, cx, cz, nu, co, yk, yv, dr, kn) (nI r) (nI v) (nI b) := by
  have hnv := zt_nv T
  obtain ⟨kn1, hk, H1⟩ := zy_ca3 (fv := nI nv) (fr := fr) (pa := pa) (ki := ki) (cx := cx) (cz := cz) (nu := nu) (co := co) (yk := yk) (yv := yv) (dr := dr) (r := r) (v := v) (b := b) (by omega) 9 0 kn (by omega) (by omega) (fun w hw => by omega)
  have kn0 : ∀ w, w < nv → kn1 w ≠ 0 → w = v := fun w hw h => by
    by_cases e : w = v
    · exact e
    · exact absurd (by rw [hk w (by omega), if_neg e]) h
  have kv : kn1 v ≠ 0 := by rw [hk v (by omega), if_pos rfl]; decide
  have I0 : zy_Iv nv P K X Z C nu r v b yv yv kn1 := by
    refine ⟨kv, fun w w0 hw k1 _ => ?_, fun w w0 hw a k => ?_, fun w w0 hw k1 k2 => ?_, fun _ _ _ _ _ => rfl, fun _ _ => rfl, fun _ _ => rfl⟩
    · rw [kn0 w hw k1]; exact zt_an_r P v
    · have e := kn0 _ (zt_P_nv T hw) k
      have h1 := zt_P_lt T w0 hw
      have h2 := zt_an_le T hv a
      omega
    · have e1 := kn0 _ (zt_P_nv T hw) k2
      have e2 := kn0 _ hw k1
      have h1 := zt_P_lt T w0 hw
      omega
  obtain ⟨yv', kn', ⟨⟨Ia, Ib, Ig, Ic, Id, Ie, Io⟩, g2⟩, H⟩ := zy_ca37 (fr := fr) (yk := yk) (dr := dr) (yv0 := yv) T A hr hv hb 9 0 yv kn1 (by omega) (by omega) I0 kv (fun h => by omega)
  exact ⟨yv', kn', ⟨fun w w0 hw => (Ic w w0 hw (g2 w hw) (g2 _ (zt_P_nv T hw))).1, Ie, fun e e0 he => (Ic e e0 he (g2 e he) (g2 _ (zt_P_nv T he))).2, Io⟩, fun post hp => ⟨9, H1 post ⟨9, H post hp⟩⟩⟩
end
end
section
/-! the relation -/
def zt_Rs (nv nr h : Nat) (P K X Z C : Nat → Nat) (pa ki cx cz nu co xk xv bs yk yv : Nat → Int32) : Prop :=
  zt_T nv P K X Z C ∧ zt_A pa ki cx cz co P K X Z C ∧ nr ≤ 12 ∧ h < nv ∧ (∀ r, r < nr → xk r = yk r) ∧ (∀ r, r < nr → ∃ q, q < 128 ∧ xk r = nI q) ∧ ∀ r, r < nr → zt_Rw nv P K X Z C nu h r xv bs (zt_F yv r)
def i_Rel (_ : Nat) (u : SX) (v : SY) : Prop := ∃ (nv nr h : Nat) (P K X Z C : Nat → Nat) (fw : Int32) (pa ki cx cz nu co xk xv bs dr ca la wy cl yk yv kn : Nat → Int32), zt_Rs nv nr h P K X Z C pa ki cx cz nu co xk xv bs yk yv ∧ u = (nI nv, nI h, nI nr, fw, pa, ki, cx, cz, nu, co, xk, xv, bs, dr, ca, la, wy, cl) ∧ v = (nI nv, nI nr, pa, ki, cx, cz, nu, co, yk, yv, dr, kn)
theorem zt_in {k nv nr h : Nat} {P K X Z C : Nat → Nat} {fw : Int32} {pa ki cx cz nu co xk xv bs dr ca la wy cl yk yv kn : Nat → Int32} (R : zt_Rs nv nr h P K X Z C pa ki cx cz nu co xk xv bs yk yv) : i_Rel k (nI nv, nI h, nI nr, fw, pa, ki, cx, cz, nu, co, xk, xv, bs, dr, ca, la, wy, cl) (nI nv, nI nr, pa, ki, cx, cz, nu, co, yk, yv, dr, kn) := ⟨nv, nr, h, P, K, X, Z, C, fw, pa, ki, cx, cz, nu, co, xk, xv, bs, dr, ca, la, wy, cl, yk, yv, kn, R, rfl, rfl⟩
theorem zt_el {Q : SX → SY → Prop} {k : Nat} {u : SX} {v : SY} (H : ∀ (nv nr h : Nat) (P K X Z C : Nat → Nat) (fw : Int32) (pa ki cx cz nu co xk xv bs dr ca la wy cl yk yv kn : Nat → Int32), zt_Rs nv nr h P K X Z C pa ki cx cz nu co xk xv bs yk yv → Q (nI nv, nI h, nI nr, fw, pa, ki, cx, cz, nu, co, xk, xv, bs, dr, ca, la, wy, cl) (nI nv, nI nr, pa, ki, cx, cz, nu, co, yk, yv, dr, kn)) (I : i_Rel k u v) : Q u v := by
  obtain ⟨nv, nr, h, P, K, X, Z, C, fw, pa, ki, cx, cz, nu, co, xk, xv, bs, dr, ca, la, wy, cl, yk, yv, kn, R, e1, e2⟩ := I
  rw [e1, e2]
  exact H nv nr h P K X Z C fw pa ki cx cz nu co xk xv bs dr ca la wy cl yk yv kn R
theorem i_up {k : Nat} {u : SX} {v : SY} (h : i_Rel k u v) : i_Rel (k + 5) u v := h
theorem zt_n2 : vp_nar .byte 2 = 2 := zt_nb' (q := 2) (by omega)
theorem i_vc0 : wpX_init (fun u => wpY_init (fun v => i_Rel 0 u v)) := by
  unfold wpX_init
  rw [zt_n2]
  refine nm_e ?_
  unfold wpY_init
  refine nm_e ?_
  refine zt_in (nv := 1) (nr := 0) (h := 0) (P := fun _ => 0) (K := fun _ => 0) (X := fun _ => 0) (Z := fun _ => 0) (C := fun w => if w = 0 then 2 else 0) ⟨⟨by omega, by omega, rfl, fun w hw => ?_, fun w w0 hw => by omega⟩, fun w => ⟨rfl, rfl, rfl, rfl, ?_⟩, by omega, by omega, fun r hr => by omega, fun r hr => by omega, fun r hr => by omega⟩
  · have e : w = 0 := by omega
    subst e
    exact ⟨by decide, by decide⟩
  · by_cases e : w = 0
    · subst e; rfl
    · rw [pk_un e]
      show (0 : Int32) = nI (if w = 0 then 2 else 0)
      rw [if_neg e]; rfl
end
section
/-! columns, draft, home, retract -/
section
variable {nv : Nat} {P K X Z C : Nat → Nat}
variable {fv fh fr fw : Int32} {pa ki cx cz nu co xk xv bs dr ca la wy cl yk yv kn : Nat → Int32}
theorem zx_columns0 {post : Int32 → Prop} {p : Int32} (hb : zt_bad nv p) (j : post (-1)) : wpX_columns post (nI nv, fh, fr, fw, pa, ki, cx, cz, nu, co, xk, xv, bs, dr, ca, la, wy, cl) p := by
  unfold wpX_columns
  exact zx_isv0 hb (br_t rfl j)
theorem zx_columns1 {post : Int32 → Prop} {v : Nat} (hv : v < nv) (hn : nv ≤ 8) (j : post (co v)) : wpX_columns post (nI nv, fh, fr, fw, pa, ki, cx, cz, nu, co, xk, xv, bs, dr, ca, la, wy, cl) (nI v) := by
  unfold wpX_columns
  refine zx_isv1 hv hn (br_f (by decide) (And.intro (vp_in_nI (by omega) (by omega)) ?_))
  rw [nI_clamp (by omega)]
  exact j
theorem zy_columns0 {post : Int32 → Prop} {p : Int32} (hb : zt_bad nv p) (h1 : 1 ≤ nv) (hn : nv ≤ 8) (j : post (-1)) : wpY_columns post (nI nv, fr, pa, ki, cx, cz, nu, co, yk, yv, dr, kn) p := by
  unfold wpY_columns
  exact zy_isv0 hb h1 hn (br_t rfl j)
theorem zy_columns1 {post : Int32 → Prop} {v : Nat} (hv : v < nv) (hn : nv ≤ 8) (j : post (co v)) : wpY_columns post (nI nv, fr, pa, ki, cx, cz, nu, co, yk, yv, dr, kn) (nI v) := by
  unfold wpY_columns
  refine zy_isv1 hv hn (br_f (by decide) (And.intro (vp_in_nI (by omega) (by omega)) ?_))
  rw [nI_clamp (by omega)]
  exact j
theorem zx_draft0 {post : Int32 → SX → Prop} {p q : Int32} (hb : zt_bad 5 p) (j : post 0 (fv, fh, fr, fw, pa, ki, cx, cz, nu, co, xk, xv, bs, dr, ca, la, wy, cl)) : wpX_draft post (fv, fh, fr, fw, pa, ki, cx, cz, nu, co, xk, xv, bs, dr, ca, la, wy, cl) p q := by
  by_cases z : p < 0
  · exact br_t z j
  · refine br_f z (br_f (fun y => ?_) j)
    exact Int32.not_lt.mpr (hb.resolve_left z) y
theorem zx_draft1 {post : Int32 → SX → Prop} {c : Nat} {q : Int32} (hc : c < 5) (j : post 1 (fv, fh, fr, fw, pa, ki, cx, cz, nu, co, xk, xv, bs, upd dr c q, ca, la, wy, cl)) : wpX_draft post (fv, fh, fr, fw, pa, ki, cx, cz, nu, co, xk, xv, bs, dr, ca, la, wy, cl) (nI c) q := by
  refine br_f (nI_pos (by omega)) (br_t (nI_lt (b := 5) hc (by omega)) (And.intro (vp_in_nI hc (by omega)) (nm_e ?_)))
  rw [nI_clamp (by omega)]
  exact j
theorem zy_draft0 {post : Int32 → SY → Prop} {p q : Int32} (hb : zt_bad 5 p) (j : post 0 (fv, fr, pa, ki, cx, cz, nu, co, yk, yv, dr, kn)) : wpY_draft post (fv, fr, pa, ki, cx, cz, nu, co, yk, yv, dr, kn) p q := by
  unfold wpY_draft
  exact zy_in0 (n := 5) (by omega) (by omega) hb rfl (br_t rfl j)
theorem zy_draft1 {post : Int32 → SY → Prop} {c : Nat} {q : Int32} (hc : c < 5) (j : post 1 (fv, fr, pa, ki, cx, cz, nu, co, yk, yv, upd dr c q, kn)) : wpY_draft post (fv, fr, pa, ki, cx, cz, nu, co, yk, yv, dr, kn) (nI c) q := by
  unfold wpY_draft
  refine zy_in1 (n := 5) (by omega) hc rfl (br_f (by decide) (And.intro (vp_in_nI hc (by omega)) (nm_e ?_)))
  rw [nI_clamp (by omega)]
  exact j
theorem zx_home0 {post : Int32 → SX → Prop} {p : Int32} (hb : zt_bad nv p) (j : post 0 (nI nv, fh, fr, fw, pa, ki, cx, cz, nu, co, xk, xv, bs, dr, ca, la, wy, cl)) : wpX_home post (nI nv, fh, fr, fw, pa, ki, cx, cz, nu, co, xk, xv, bs, dr, ca, la, wy, cl) p := by
  unfold wpX_home
  exact zx_isv0 hb (br_t rfl j)
theorem zx_home1 (T : zt_T nv P K X Z C) (A : zt_A pa ki cx cz co P K X Z C) {post : Int32 → SX → Prop} {nr h v : Nat} {G : Nat → Nat → Nat → Int32} (hr : nr ≤ 12) (hh : h < nv) (hv : v < nv)
    (hR : ∀ r, r < nr → zt_Rw nv P K X Z C nu h r xv bs (G r))
    (J : ∀ fw' xv' bs' ca' la' wy', (∀ r, r < nr → zt_Rw nv P K X Z C nu v r xv' bs' (G r)) → post 1 (nI nv, nI v, nI nr, fw', pa, ki, cx, cz, nu, co, xk, xv', bs', dr, ca', la', wy', cl)) : wpX_home post (nI nv, nI h, nI nr, fw, pa, ki, cx, cz, nu, co, xk, xv, bs, dr, ca, la, wy, cl) (nI v) := by
  unfold wpX_home
  refine zx_isv1 hv (zt_nv T).2 (br_f (by decide) ?_)
  exact zx_moveHome T A hr hh hv hR J
theorem zy_home0 {post : Int32 → Prop} {p : Int32} (hb : zt_bad nv p) (h1 : 1 ≤ nv) (hn : nv ≤ 8) (j : post 0) : wpY_home post (nI nv, fr, pa, ki, cx, cz, nu, co, yk, yv, dr, kn) p := by
  unfold wpY_home
  exact zy_isv0 hb h1 hn (And.intro rfl j)
theorem zy_home1 {post : Int32 → Prop} {v : Nat} (hv : v < nv) (hn : nv ≤ 8) (j : post 1) : wpY_home post (nI nv, fr, pa, ki, cx, cz, nu, co, yk, yv, dr, kn) (nI v) := by
  unfold wpY_home
  exact zy_isv1 hv hn (And.intro rfl j)
end
theorem i_vc_columns {k : Nat} {u : SX} {v : SY} (I : i_Rel k u v) (hk : k + 5 ≤ 2560) (v1 : Int32) : wpX_columns (fun r => wpY_columns (fun r' => r' = r ∧ i_Rel (k + 5) u v) v v1) u v1 := by
  refine zt_el (Q := fun u v => wpX_columns (fun r => wpY_columns (fun r' => r' = r ∧ i_Rel (k + 5) u v) v v1) u v1) ?_ I
  intro nv nr h P K X Z C fw pa ki cx cz nu co xk xv bs dr ca la wy cl yk yv kn R
  have hnv := zt_nv R.1
  rcases zt_bad_or (n := nv) (by omega) v1 with hb | ⟨w, hw, rfl⟩
  · exact zx_columns0 hb (zy_columns0 hb hnv.1 hnv.2 ⟨rfl, zt_in R⟩)
  · exact zx_columns1 hw hnv.2 (zy_columns1 hw hnv.2 ⟨rfl, zt_in R⟩)
theorem i_vc_draft {k : Nat} {u : SX} {v : SY} (I : i_Rel k u v) (hk : k + 5 ≤ 2560) (v1 : Int32) (v2 : Int32) : wpX_draft (fun r u' => wpY_draft (fun r' v' => r' = r ∧ i_Rel (k + 5) u' v') v v1 v2) u v1 v2 := by
  refine zt_el (Q := fun u v => wpX_draft (fun r u' => wpY_draft (fun r' v' => r' = r ∧ i_Rel (k + 5) u' v') v v1 v2) u v1 v2) ?_ I
  intro nv nr h P K X Z C fw pa ki cx cz nu co xk xv bs dr ca la wy cl yk yv kn R
  rcases zt_bad_or (n := 5) (by omega) v1 with hb | ⟨w, hw, rfl⟩
  · exact zx_draft0 hb (zy_draft0 hb ⟨rfl, zt_in R⟩)
  · exact zx_draft1 hw (zy_draft1 hw ⟨rfl, zt_in R⟩)
theorem i_vc_home {k : Nat} {u : SX} {v : SY} (I : i_Rel k u v) (hk : k + 5 ≤ 2560) (v1 : Int32) : wpX_home (fun r u' => wpY_home (fun r' => r' = r ∧ i_Rel (k + 5) u' v) v v1) u v1 := by
  refine zt_el (Q := fun u v => wpX_home (fun r u' => wpY_home (fun r' => r' = r ∧ i_Rel (k + 5) u' v) v v1) u v1) ?_ I
  intro nv nr h P K X Z C fw pa ki cx cz nu co xk xv bs dr ca la wy cl yk yv kn R
  have hnv := zt_nv R.1
  obtain ⟨T, A, hr, hh, k1, k2, hR⟩ := R
  rcases zt_bad_or (n := nv) (by omega) v1 with hb | ⟨w, hw, rfl⟩
  · exact zx_home0 hb (zy_home0 hb hnv.1 hnv.2 ⟨rfl, zt_in ⟨T, A, hr, hh, k1, k2, hR⟩⟩)
  · exact zx_home1 T A hr hh hw hR (fun fw' xv' bs' ca' la' wy' g => zy_home1 hw hnv.2 ⟨rfl, zt_in ⟨T, A, hr, hw, k1, k2, g⟩⟩)
theorem zt_T_p {nv : Nat} {P K X Z C : Nat → Nat} (T : zt_T nv P K X Z C) (h : nv ≠ 1) : zt_T (nv - 1) P K X Z C := by
  obtain ⟨a, b, c, d, e⟩ := T
  exact ⟨by omega, by omega, c, fun w hw => d w (by omega), fun w w0 hw => e w w0 (by omega)⟩
theorem zt_Rw_p {nv : Nat} {P K X Z C : Nat → Nat} {nu xv bs : Nat → Int32} {h r : Nat} {F : Nat → Nat → Int32} (R : zt_Rw nv P K X Z C nu h r xv bs F) : zt_Rw (nv - 1) P K X Z C nu h r xv bs F :=
  ⟨fun w w0 hw => R.1 w w0 (by omega), R.2.1, fun e e0 he => R.2.2 e e0 (by omega)⟩
theorem i_vc_retract {k : Nat} {u : SX} {v : SY} (I : i_Rel k u v) (hk : k + 5 ≤ 2560) : wpX_retract (fun r u' => wpY_retract (fun r' v' => r' = r ∧ i_Rel (k + 5) u' v') v) u := by
  refine zt_el (Q := fun u v => wpX_retract (fun r u' => wpY_retract (fun r' v' => r' = r ∧ i_Rel (k + 5) u' v') v) u) ?_ I
  intro nv nr h P K X Z C fw pa ki cx cz nu co xk xv bs dr ca la wy cl yk yv kn R
  have hnv := zt_nv R.1
  obtain ⟨T, A, hr, hh, k1, k2, hR⟩ := R
  refine pk_eq nv 1 (fun q => ?_) (fun q => ?_)
  · exact br_t (by rw [q]; rfl) ⟨rfl, zt_in ⟨T, A, hr, hh, k1, k2, hR⟩⟩
  · have q' : ¬ nI nv = 1 := fun z => q ((nI_eq (b := 1) (by omega) (by omega)).mp z)
    refine nm_r (zt_p1 hnv.1) ?_
    refine pk_eq h (nv - 1) (fun e => ?_) (fun e => ?_)
    · refine And.intro (vp_in_nI (by omega) (by omega)) ?_
      rw [nI_clamp (by omega), (A (nv - 1)).1]
      have hpl := zt_P_lt T (w := nv - 1) (by omega) (by omega)
      refine zx_moveHome T A hr hh (by omega) hR (fun fw' xv' bs' ca' la' wy' g => ?_)
      refine nm_r (zt_p1 hnv.1) (br_f q' (nm_r (zt_p1 hnv.1) ⟨rfl, ?_⟩))
      exact zt_in ⟨zt_T_p T q, A, hr, by omega, k1, k2, fun r hr => zt_Rw_p (g r hr)⟩
    · refine nm_r (zt_p1 hnv.1) (br_f q' (nm_r (zt_p1 hnv.1) ⟨rfl, ?_⟩))
      exact zt_in ⟨zt_T_p T q, A, hr, by omega, k1, k2, fun r hr => zt_Rw_p (hR r hr)⟩
end
section
/-! shown, value, count, sum, key -/
section
variable {nv : Nat} {P K X Z C : Nat → Nat}
variable {fv fh fr fw : Int32} {pa ki cx cz nu co xk xv bs dr ca la wy cl yk yv kn : Nat → Int32}
theorem zy_shown_n {post : Int32 → Prop} {p key : Int32} (h1 : 1 ≤ nv) (hn : nv ≤ 8) (f : ∀ post : Int32 → Prop, post (-1) → wpY_find post (nI nv, fr, pa, ki, cx, cz, nu, co, yk, yv, dr, kn) key) (j : post 0) : wpY_shown post (nI nv, fr, pa, ki, cx, cz, nu, co, yk, yv, dr, kn) p key := by
  unfold wpY_shown
  refine f _ ?_
  rcases zt_bad_or (n := nv) (by omega) p with hb | ⟨w, hw, rfl⟩
  · exact zy_isv0 hb h1 hn (br_t rfl j)
  · exact zy_isv1 hw hn (br_f (by decide) (br_t (by decide) j))
theorem zy_shown_b {post : Int32 → Prop} {p key r : Int32} (h1 : 1 ≤ nv) (hn : nv ≤ 8) (hb : zt_bad nv p) (f : ∀ post : Int32 → Prop, post r → wpY_find post (nI nv, fr, pa, ki, cx, cz, nu, co, yk, yv, dr, kn) key) (j : post 0) : wpY_shown post (nI nv, fr, pa, ki, cx, cz, nu, co, yk, yv, dr, kn) p key := by
  unfold wpY_shown
  exact f _ (zy_isv0 hb h1 hn (br_t rfl j))
theorem zy_shown_1 (T : zt_T nv P K X Z C) (A : zt_A pa ki cx cz co P K X Z C) {post : Int32 → Prop} {key : Int32} {r v : Nat} (hr : r < 13) (hv : v < nv) (f : ∀ post : Int32 → Prop, post (nI r) → wpY_find post (nI nv, fr, pa, ki, cx, cz, nu, co, yk, yv, dr, kn) key) (J1 : zt_Sh P K X nu (zt_F yv r) v → post 1) (J0 : ¬ zt_Sh P K X nu (zt_F yv r) v → post 0) : wpY_shown post (nI nv, fr, pa, ki, cx, cz, nu, co, yk, yv, dr, kn) (nI v) key := by
  unfold wpY_shown
  refine f _ (zy_isv1 hv (zt_nv T).2 (br_f (by decide) (br_f (nI_pos (by omega)) ?_)))
  exact zy_isShown T A hr hv (fun s => br_f (by decide) (J1 s)) (fun s => br_t rfl (J0 s))
end
theorem i_vc_shown {k : Nat} {u : SX} {v : SY} (I : i_Rel k u v) (hk : k + 5 ≤ 2560) (v1 : Int32) (v2 : Int32) : wpX_shown (fun r u' => wpY_shown (fun r' => r' = r ∧ i_Rel (k + 5) u' v) v v1 v2) u v1 v2 := by
  refine zt_el (Q := fun u v => wpX_shown (fun r u' => wpY_shown (fun r' => r' = r ∧ i_Rel (k + 5) u' v) v v1 v2) u v1 v2) ?_ I
  intro nv nr h P K X Z C fw pa ki cx cz nu co xk xv bs dr ca la wy cl yk yv kn R
  have hnv := zt_nv R.1
  obtain ⟨T, A, hr, hh, k1, k2, hR⟩ := id R
  unfold wpX_shown
  rcases zt_find v2 hr k1 with ⟨r, hr', fX, fY⟩ | ⟨fX, fY⟩
  · refine fX _ ?_
    rcases zt_bad_or (n := nv) (by omega) v1 with hb | ⟨w, hw, rfl⟩
    · exact zx_isv0 hb (br_t rfl (zy_shown_b hnv.1 hnv.2 hb fY ⟨rfl, zt_in R⟩))
    · refine zx_isv1 hw hnv.2 (br_f (by decide) (br_f (nI_pos (by omega)) ?_))
      refine zx_look T A (by omega) hh hw (hR r hr') (fun s ca' la' wy' cl' _ _ => br_f (by decide) ?_) (fun s ca' la' wy' cl' => br_t rfl ?_)
      · exact zy_shown_1 T A (by omega) hw fY (fun _ => ⟨rfl, zt_in R⟩) (fun z => absurd s z)
      · exact zy_shown_1 T A (by omega) hw fY (fun z => absurd z s) (fun _ => ⟨rfl, zt_in R⟩)
  · refine fX _ ?_
    rcases zt_bad_or (n := nv) (by omega) v1 with hb | ⟨w, hw, rfl⟩
    · exact zx_isv0 hb (br_t rfl (zy_shown_n hnv.1 hnv.2 fY ⟨rfl, zt_in R⟩))
    · exact zx_isv1 hw hnv.2 (br_f (by decide) (br_t (by decide) (zy_shown_n hnv.1 hnv.2 fY ⟨rfl, zt_in R⟩)))
theorem i_vc_value {k : Nat} {u : SX} {v : SY} (I : i_Rel k u v) (hk : k + 5 ≤ 2560) (v1 : Int32) (v2 : Int32) (v3 : Int32) : wpX_value (fun r u' => wpY_value (fun r' => r' = r ∧ i_Rel (k + 5) u' v) v v1 v2 v3) u v1 v2 v3 := by
  refine zt_el (Q := fun u v => wpX_value (fun r u' => wpY_value (fun r' => r' = r ∧ i_Rel (k + 5) u' v) v v1 v2 v3) u v1 v2 v3) ?_ I
  intro nv nr h P K X Z C fw pa ki cx cz nu co xk xv bs dr ca la wy cl yk yv kn R
  have hnv := zt_nv R.1
  obtain ⟨T, A, hr, hh, k1, k2, hR⟩ := id R
  unfold wpX_value wpY_value
  rcases zt_find v2 hr k1 with ⟨r, hr', fX, fY⟩ | ⟨fX, fY⟩
  · refine fX _ ?_
    rcases zt_bad_or (n := nv) (by omega) v1 with hb | ⟨w, hw, rfl⟩
    · exact zx_isv0 hb (br_t rfl (zy_shown_b hnv.1 hnv.2 hb fY (br_t rfl ⟨rfl, zt_in R⟩)))
    · have hcw := zt_C T hw
      have h8 : vp_in (nI w) 8 := vp_in_nI (by omega) (by omega)
      refine zx_isv1 hw hnv.2 (br_f (by decide) ?_)
      rcases zt_bad_or (n := C w) (by omega) v3 with hc | ⟨c, hc, rfl⟩
      · refine zx_isc0 (A w).2.2.2.2 (by omega) hc (br_t rfl ?_)
        refine zy_shown_1 T A (by omega) hw fY (fun _ => br_f (by decide) (And.intro h8 ?_)) (fun _ => br_t rfl ⟨rfl, zt_in R⟩)
        rw [nI_clamp (n := w) (by omega), (A w).2.2.2.2]
        exact zy_in0 (n := C w) (by omega) hcw.1 hc rfl (br_t rfl ⟨rfl, zt_in R⟩)
      · refine zx_isc1 (A w).2.2.2.2 (by omega) hc hcw.2 (br_f (by decide) (br_f (nI_pos (by omega)) ?_))
        refine zx_look T A (by omega) hh hw (hR r hr') (fun s ca' la' wy' cl' g1 _ => br_f (by decide) ?_) (fun s ca' la' wy' cl' => br_t rfl ?_)
        · refine And.intro (vp_in_nI (by omega) (by omega)) ?_
          rw [nI_clamp (n := c) (by omega), g1 c hc]
          refine zy_shown_1 T A (by omega) hw fY (fun _ => br_f (by decide) (And.intro h8 ?_)) (fun z => absurd s z)
          rw [nI_clamp (n := w) (by omega), (A w).2.2.2.2]
          refine zy_in1 (n := C w) (by omega) hc rfl (br_f (by decide) (fY _ ?_))
          rw [zt_i40, nI_add, nI_clamp (by omega)]
          exact And.intro (vp_in_nI (by omega) (by omega)) ⟨rfl, zt_in R⟩
        · exact zy_shown_1 T A (by omega) hw fY (fun z => absurd z s) (fun _ => br_t rfl ⟨rfl, zt_in R⟩)
  · refine fX _ ?_
    rcases zt_bad_or (n := nv) (by omega) v1 with hb | ⟨w, hw, rfl⟩
    · exact zx_isv0 hb (br_t rfl (zy_shown_n hnv.1 hnv.2 fY (br_t rfl ⟨rfl, zt_in R⟩)))
    · have hcw := zt_C T hw
      refine zx_isv1 hw hnv.2 (br_f (by decide) ?_)
      rcases zt_bad_or (n := C w) (by omega) v3 with hc | ⟨c, hc, rfl⟩
      · exact zx_isc0 (A w).2.2.2.2 (by omega) hc (br_t rfl (zy_shown_n hnv.1 hnv.2 fY (br_t rfl ⟨rfl, zt_in R⟩)))
      · exact zx_isc1 (A w).2.2.2.2 (by omega) hc hcw.2 (br_f (by decide) (br_t (by decide) (zy_shown_n hnv.1 hnv.2 fY (br_t rfl ⟨rfl, zt_in R⟩))))
end
section
/-! count, sum, key: one answer for both -/
theorem zt_a1 {x a v : Int32} (h : x + a = v) : x + (-1) + (a + 1) = v := by
  rw [← h]; grind
theorem zt_a0 {x a v : Int32} (h : x + a = v) : x = 0 ↔ a = v := by
  constructor
  · intro e; rw [← h, e, Int32.zero_add]
  · intro e; rw [e] at h; grind
section
variable {nv : Nat} {P K X Z C : Nat → Nat}
variable {fv fh fr fw : Int32} {pa ki cx cz nu co xk xv bs dr ca la wy cl yk yv kn : Nat → Int32}
theorem zt_count (T : zt_T nv P K X Z C) (A : zt_A pa ki cx cz co P K X Z C) {nr h v : Nat} (hr : nr ≤ 12) (hh : h < nv) (hv : v < nv) (hR : ∀ r, r < nr → zt_Rw nv P K X Z C nu h r xv bs (zt_F yv r)) :
    ∀ d i a, i + d = nr → ∃ s : Int32, (∀ (post : Int32 → SX → Prop) fw ca la wy cl, (∀ fw' ca' la' wy' cl', post s (fv, nI h, nI nr, fw', pa, ki, cx, cz, nu, co, xk, xv, bs, dr, ca', la', wy', cl')) → wX_count_14 post (nI v) (d + 1) a (nI i) fv (nI h) (nI nr) fw pa ki cx cz nu co xk xv bs dr ca la wy cl) ∧ (∀ post : Int32 → Prop, post s → wY_count_14 post (nI v) fv (nI nr) pa ki cx cz nu co yk yv dr kn (d + 1) a (nI i)) := by
  intro d
  induction d with
  | zero =>
    intro i a hi
    have e : nI nr ≤ nI i := nI_le (by omega) (by omega)
    exact ⟨a, fun post fw ca la wy cl J => br_t e (J fw ca la wy cl), fun post J => br_t e J⟩
  | succ d ih =>
    intro i a hi
    have e : ¬ nI nr ≤ nI i := nI_ge (by omega) (by omega)
    by_cases s : zt_Sh P K X nu (zt_F yv i) v
    · obtain ⟨t, g1, g2⟩ := ih (i + 1) (a + 1) (by omega)
      refine ⟨t, fun post fw ca la wy cl J => br_f e ?_, fun post J => br_f e ?_⟩
      · exact zx_look T A (by omega) hh hv (hR i (by omega)) (fun _ ca' la' wy' cl' _ _ => br_f (by decide) (nm_e (nm_r (nI_1 i) (g1 post _ ca' la' wy' cl' J)))) (fun z => absurd s z)
      · exact zy_isShown T A (by omega) hv (fun _ => br_f (by decide) (nm_e (nm_r (nI_1 i) (g2 post J)))) (fun z => absurd s z)
    · obtain ⟨t, g1, g2⟩ := ih (i + 1) a (by omega)
      refine ⟨t, fun post fw ca la wy cl J => br_f e ?_, fun post J => br_f e ?_⟩
      · exact zx_look T A (by omega) hh hv (hR i (by omega)) (fun z => absurd z s) (fun _ ca' la' wy' cl' => br_t rfl (nm_r (nI_1 i) (g1 post _ ca' la' wy' cl' J)))
      · exact zy_isShown T A (by omega) hv (fun z => absurd z s) (fun _ => br_t rfl (nm_r (nI_1 i) (g2 post J)))
theorem zt_sum (T : zt_T nv P K X Z C) (A : zt_A pa ki cx cz co P K X Z C) {nr h v c : Nat} (hr : nr ≤ 12) (hh : h < nv) (hv : v < nv) (hc : c < C v) (hR : ∀ r, r < nr → zt_Rw nv P K X Z C nu h r xv bs (zt_F yv r)) :
    ∀ d i a, i + d = nr → ∃ s : Int32, (∀ (post : Int32 → SX → Prop) fw ca la wy cl, (∀ fw' ca' la' wy' cl', post s (fv, nI h, nI nr, fw', pa, ki, cx, cz, nu, co, xk, xv, bs, dr, ca', la', wy', cl')) → wX_sum_24 post (nI v) (nI c) (d + 1) a (nI i) fv (nI h) (nI nr) fw pa ki cx cz nu co xk xv bs dr ca la wy cl) ∧ (∀ post : Int32 → Prop, post s → wY_sum_32 post (nI v) (nI c) fv (nI nr) pa ki cx cz nu co yk yv dr kn (d + 1) a (nI i)) := by
  have hnv := zt_nv T
  have h5 := zt_C T hv
  intro d
  induction d with
  | zero =>
    intro i a hi
    have e : nI nr ≤ nI i := nI_le (by omega) (by omega)
    exact ⟨a, fun post fw ca la wy cl J => br_t e (J fw ca la wy cl), fun post J => br_t e J⟩
  | succ d ih =>
    intro i a hi
    have e : ¬ nI nr ≤ nI i := nI_ge (by omega) (by omega)
    by_cases s : zt_Sh P K X nu (zt_F yv i) v
    · obtain ⟨t, g1, g2⟩ := ih (i + 1) (a + zt_F yv i v c) (by omega)
      refine ⟨t, fun post fw ca la wy cl J => br_f e ?_, fun post J => br_f e ?_⟩
      · refine zx_look T A (by omega) hh hv (hR i (by omega)) (fun _ ca' la' wy' cl' q1 _ => br_f (by decide) (And.intro (vp_in_nI (by omega) (by omega)) (nm_r (e' := a + zt_F yv i v c) ?_ (nm_r (nI_1 i) (g1 post _ ca' la' wy' cl' J))))) (fun z => absurd s z)
        rw [nI_clamp (by omega), q1 c hc]
      · refine zy_isShown T A (by omega) hv (fun _ => br_f (by decide) ?_) (fun z => absurd s z)
        rw [zt_i40, nI_add, nI_clamp (by omega)]
        exact And.intro (vp_in_nI (by omega) (by omega)) (nm_e (nm_r (nI_1 i) (g2 post J)))
    · obtain ⟨t, g1, g2⟩ := ih (i + 1) a (by omega)
      refine ⟨t, fun post fw ca la wy cl J => br_f e ?_, fun post J => br_f e ?_⟩
      · exact zx_look T A (by omega) hh hv (hR i (by omega)) (fun z => absurd z s) (fun _ ca' la' wy' cl' => br_t rfl (nm_r (nI_1 i) (g1 post _ ca' la' wy' cl' J)))
      · exact zy_isShown T A (by omega) hv (fun z => absurd z s) (fun _ => br_t rfl (nm_r (nI_1 i) (g2 post J)))
theorem zt_key (T : zt_T nv P K X Z C) (A : zt_A pa ki cx cz co P K X Z C) {nr h v : Nat} {w : Int32} (hr : nr ≤ 12) (hh : h < nv) (hv : v < nv) (hk : ∀ r, r < nr → xk r = yk r) (hR : ∀ r, r < nr → zt_Rw nv P K X Z C nu h r xv bs (zt_F yv r)) :
    ∀ d i x a, i + d = nr → x + a = w → ∃ s : Int32, (∀ (post : Int32 → SX → Prop) fw ca la wy cl, (∀ fw' ca' la' wy' cl', post s (fv, nI h, nI nr, fw', pa, ki, cx, cz, nu, co, xk, xv, bs, dr, ca', la', wy', cl')) → wX_key_15 post (nI v) (d + 1) x (nI i) fv (nI h) (nI nr) fw pa ki cx cz nu co xk xv bs dr ca la wy cl) ∧ (∀ post : Int32 → Prop, post s → wY_key_15 post (nI v) w fv (nI nr) pa ki cx cz nu co yk yv dr kn (d + 1) a (nI i)) := by
  intro d
  induction d with
  | zero =>
    intro i x a hi ha
    have e : nI nr ≤ nI i := nI_le (by omega) (by omega)
    exact ⟨-5, fun post fw ca la wy cl J => br_t e (J fw ca la wy cl), fun post J => br_t e J⟩
  | succ d ih =>
    intro i x a hi ha
    have e : ¬ nI nr ≤ nI i := nI_ge (by omega) (by omega)
    by_cases s : zt_Sh P K X nu (zt_F yv i) v
    · by_cases z : x = 0
      · have z' := (zt_a0 ha).mp z
        refine ⟨xk i, fun post fw ca la wy cl J => br_f e ?_, fun post J => br_f e ?_⟩
        · refine zx_look T A (by omega) hh hv (hR i (by omega)) (fun _ ca' la' wy' cl' q1 _ => br_f (by decide) (br_t z (And.intro (vp_in_nI (by omega) (by omega)) ?_))) (fun z => absurd s z)
          rw [nI_clamp (by omega)]
          exact J _ ca' la' wy' cl'
        · refine zy_isShown T A (by omega) hv (fun _ => br_f (by decide) (br_t z' (And.intro (vp_in_nI (by omega) (by omega)) ?_))) (fun z => absurd s z)
          rw [nI_clamp (by omega), ← hk i (by omega)]
          exact J
      · have z' : ¬ a = w := fun y => z ((zt_a0 ha).mpr y)
        obtain ⟨t, g1, g2⟩ := ih (i + 1) (x + (-1)) (a + 1) (by omega) (zt_a1 ha)
        refine ⟨t, fun post fw ca la wy cl J => br_f e ?_, fun post J => br_f e ?_⟩
        · exact zx_look T A (by omega) hh hv (hR i (by omega)) (fun _ ca' la' wy' cl' _ _ => br_f (by decide) (br_f z (nm_e (nm_r (nI_1 i) (g1 post _ ca' la' wy' cl' J))))) (fun z => absurd s z)
        · exact zy_isShown T A (by omega) hv (fun _ => br_f (by decide) (br_f z' (nm_e (nm_r (nI_1 i) (g2 post J))))) (fun z => absurd s z)
    · obtain ⟨t, g1, g2⟩ := ih (i + 1) x a (by omega) ha
      refine ⟨t, fun post fw ca la wy cl J => br_f e ?_, fun post J => br_f e ?_⟩
      · exact zx_look T A (by omega) hh hv (hR i (by omega)) (fun z => absurd z s) (fun _ ca' la' wy' cl' => br_t rfl (nm_r (nI_1 i) (g1 post _ ca' la' wy' cl' J)))
      · exact zy_isShown T A (by omega) hv (fun z => absurd z s) (fun _ => br_t rfl (nm_r (nI_1 i) (g2 post J)))
end
theorem i_vc_count {k : Nat} {u : SX} {v : SY} (I : i_Rel k u v) (hk : k + 5 ≤ 2560) (v1 : Int32) : wpX_count (fun r u' => wpY_count (fun r' => r' = r ∧ i_Rel (k + 5) u' v) v v1) u v1 := by
  refine zt_el (Q := fun u v => wpX_count (fun r u' => wpY_count (fun r' => r' = r ∧ i_Rel (k + 5) u' v) v v1) u v1) ?_ I
  intro nv nr h P K X Z C fw pa ki cx cz nu co xk xv bs dr ca la wy cl yk yv kn R
  have hnv := zt_nv R.1
  obtain ⟨T, A, hr, hh, k1, k2, hR⟩ := id R
  unfold wpX_count wpY_count
  rcases zt_bad_or (n := nv) (by omega) v1 with hb | ⟨w, hw, rfl⟩
  · exact zx_isv0 hb (br_t rfl (zy_isv0 hb hnv.1 hnv.2 (br_t rfl ⟨rfl, zt_in R⟩)))
  · obtain ⟨s, g1, g2⟩ := zt_count (fv := nI nv) (xk := xk) (dr := dr) (yk := yk) (kn := kn) T A hr hh hw hR nr 0 0 (by omega)
    refine zx_isv1 hw hnv.2 (br_f (by decide) ⟨nr + 1, g1 _ fw ca la wy cl (fun fw' ca' la' wy' cl' => ?_)⟩)
    exact zy_isv1 hw hnv.2 (br_f (by decide) ⟨nr + 1, g2 _ ⟨rfl, zt_in R⟩⟩)
theorem i_vc_sum {k : Nat} {u : SX} {v : SY} (I : i_Rel k u v) (hk : k + 5 ≤ 2560) (v1 : Int32) (v2 : Int32) : wpX_sum (fun r u' => wpY_sum (fun r' => r' = r ∧ i_Rel (k + 5) u' v) v v1 v2) u v1 v2 := by
  refine zt_el (Q := fun u v => wpX_sum (fun r u' => wpY_sum (fun r' => r' = r ∧ i_Rel (k + 5) u' v) v v1 v2) u v1 v2) ?_ I
  intro nv nr h P K X Z C fw pa ki cx cz nu co xk xv bs dr ca la wy cl yk yv kn R
  have hnv := zt_nv R.1
  obtain ⟨T, A, hr, hh, k1, k2, hR⟩ := id R
  unfold wpX_sum wpY_sum
  rcases zt_bad_or (n := nv) (by omega) v1 with hb | ⟨w, hw, rfl⟩
  · exact zx_isv0 hb (br_t rfl (zy_isv0 hb hnv.1 hnv.2 (br_t rfl ⟨rfl, zt_in R⟩)))
  · have hcw := zt_C T hw
    have h8 : vp_in (nI w) 8 := vp_in_nI (by omega) (by omega)
    refine zx_isv1 hw hnv.2 (br_f (by decide) ?_)
    rcases zt_bad_or (n := C w) (by omega) v2 with hc | ⟨c, hc, rfl⟩
    · refine zx_isc0 (A w).2.2.2.2 (by omega) hc (br_t rfl ?_)
      refine zy_isv1 hw hnv.2 (br_f (by decide) (And.intro h8 ?_))
      rw [nI_clamp (n := w) (by omega), (A w).2.2.2.2]
      exact zy_in0 (n := C w) (by omega) hcw.1 hc rfl (br_t rfl ⟨rfl, zt_in R⟩)
    · obtain ⟨s, g1, g2⟩ := zt_sum (fv := nI nv) (xk := xk) (dr := dr) (yk := yk) (kn := kn) T A hr hh hw hc hR nr 0 0 (by omega)
      refine zx_isc1 (A w).2.2.2.2 (by omega) hc hcw.2 (br_f (by decide) ⟨nr + 1, g1 _ fw ca la wy cl (fun fw' ca' la' wy' cl' => ?_)⟩)
      refine zy_isv1 hw hnv.2 (br_f (by decide) (And.intro h8 ?_))
      rw [nI_clamp (n := w) (by omega), (A w).2.2.2.2]
      exact zy_in1 (n := C w) (by omega) hc rfl (br_f (by decide) ⟨nr + 1, g2 _ ⟨rfl, zt_in R⟩⟩)
theorem i_vc_key {k : Nat} {u : SX} {v : SY} (I : i_Rel k u v) (hk : k + 5 ≤ 2560) (v1 : Int32) (v2 : Int32) : wpX_key (fun r u' => wpY_key (fun r' => r' = r ∧ i_Rel (k + 5) u' v) v v1 v2) u v1 v2 := by
  refine zt_el (Q := fun u v => wpX_key (fun r u' => wpY_key (fun r' => r' = r ∧ i_Rel (k + 5) u' v) v v1 v2) u v1 v2) ?_ I
  intro nv nr h P K X Z C fw pa ki cx cz nu co xk xv bs dr ca la wy cl yk yv kn R
  have hnv := zt_nv R.1
  obtain ⟨T, A, hr, hh, k1, k2, hR⟩ := id R
  unfold wpX_key wpY_key
  rcases zt_bad_or (n := nv) (by omega) v1 with hb | ⟨w, hw, rfl⟩
  · exact zx_isv0 hb (br_t rfl (zy_isv0 hb hnv.1 hnv.2 (br_t rfl ⟨rfl, zt_in R⟩)))
  · obtain ⟨s, g1, g2⟩ := zt_key (fv := nI nv) (dr := dr) (kn := kn) T A (w := v2) hr hh hw k1 hR nr 0 v2 0 (by omega) (Int32.add_zero v2)
    refine zx_isv1 hw hnv.2 (br_f (by decide) ⟨nr + 1, g1 _ fw ca la wy cl (fun fw' ca' la' wy' cl' => ?_)⟩)
    exact zy_isv1 hw hnv.2 (br_f (by decide) ⟨nr + 1, g2 _ ⟨rfl, zt_in R⟩⟩)
end
section
/-! edit -/
def zt_val (k x z n : Nat) : Prop := k ≤ 5 ∧ (k ≠ 0 → x < n) ∧ (4 ≤ k → z < n) ∧ (k = 5 → x ≠ z)
def zt_nc (k n : Nat) : Nat := if k = 0 then n + 1 else if k = 1 then n - 1 else n
theorem zt_nc0 (n : Nat) : zt_nc 0 n = n + 1 := rfl
theorem zt_nc1 (n : Nat) : zt_nc 1 n = n - 1 := rfl
theorem zt_nc2 {k : Nat} (n : Nat) (h : 2 ≤ k) : zt_nc k n = n := by
  unfold zt_nc; rw [if_neg (by omega), if_neg (by omega)]
theorem zt_val_E {k x z n : Nat} (hv : zt_val k x z n) (h1 : 1 ≤ n) (h5 : n ≤ 5) (c1 : 1 ≤ zt_nc k n) (c5 : zt_nc k n ≤ 5) : zt_Es k x z n (zt_nc k n) := by
  obtain ⟨a, b, c, d⟩ := hv
  refine ⟨a, h1, h5, c1, c5, fun e => ?_, fun e => ?_, fun e => ?_, c, d⟩
  · subst e; rfl
  · subst e; rw [zt_nc1] at c1 ⊢; exact ⟨by omega, b (by decide)⟩
  · exact ⟨zt_nc2 n e, b (by omega)⟩
section
variable {nv : Nat} {P K X Z C : Nat → Nat}
variable {fv fh fr fw : Int32} {pa ki cx cz nu co xk xv bs dr ca la wy cl yk yv kn : Nat → Int32}
theorem zx_ed235 {post : Int32 → SX → Prop} {e nr : Nat} {y x8 : Int32} {bs0 : Nat → Int32} (he : e < 8) (hr : nr ≤ 12) (h8 : x8 = nI e) (J : ∀ bs', (∀ r f, r < nr → f < 8 → bs' (8 * r + f) = if f = e then y else bs0 (8 * r + f)) → post x8 (fv, fh, nI nr, fw, pa, ki, cx, cz, nu, co, xk, xv, bs', dr, ca, la, wy, cl)) : ∀ n i bs, i ≤ nr → nr - i < n → (∀ r f, r < 12 → f < 8 → bs (8 * r + f) = if r < i ∧ f = e then y else bs0 (8 * r + f)) → wX_edit_235 post y x8 fv fh (nI nr) fw n (nI i) pa ki cx cz nu co xk xv bs dr ca la wy cl := by
  intro n
  induction n with
  | zero => intro i bs h1 h2; omega
  | succ n ih =>
    intro i bs h1 h2 h3
    refine pk_le nr i (fun q => ?_) (fun q => ?_)
    · refine J bs (fun r f hr' hf => ?_)
      rw [h3 r f (by omega) hf]
      by_cases z : f = e
      · rw [if_pos ⟨by omega, z⟩, if_pos z]
      · rw [if_neg (fun w => z w.2), if_neg z]
    · subst h8
      rw [zt_i8]
      refine And.intro (vp_in_nI (by omega) (by omega)) (nm_e (nm_r (nI_1 i) ?_))
      rw [nI_clamp (by omega)]
      refine ih (i + 1) _ (by omega) (by omega) (fun r f hr' hf => ?_)
      by_cases z : r = i ∧ f = e
      · rw [if_pos ⟨by omega, z.2⟩, z.1, z.2, pk_us]
      · rw [pk_un (by omega), h3 r f hr' hf]
        by_cases w : r < i ∧ f = e
        · rw [if_pos w, if_pos ⟨by omega, w.2⟩]
        · rw [if_neg w, if_neg (by omega)]
theorem zx_ed141 {post : Int32 → SX → Prop} {v k x z m : Nat} {y z0 z1 : Int32} (hn : nv < 8) (hv : v < 8) (hk : k < 8) (hx : x < 8) (hz : z < 8) (hm : m ≤ 6) (e : z1 + z0 = nI m) (Jf : ¬ (1 ≤ m ∧ m ≤ 5) → post (-2) (nI nv, fh, fr, fw, pa, ki, cx, cz, nu, co, xk, xv, bs, dr, ca, la, wy, cl)) (Jo : 1 ≤ m → m ≤ 5 → ∃ n, wX_edit_235 post y (nI nv) (nI (nv + 1)) fh fr fw n 0 (upd pa nv (nI v)) (upd ki nv (nI k)) (upd cx nv (nI x)) (upd cz nv (nI z)) (upd nu nv y) (upd co nv (nI m)) xk xv bs dr ca la wy cl) : wX_edit_141 post (nI v) y (nI k) (nI x) (nI z) z0 z1 (nI nv) fh fr fw pa ki cx cz nu co xk xv bs dr ca la wy cl := by
  have h8 : vp_in (nI nv) 8 := vp_in_nI hn (by omega)
  refine nm_r e ?_
  refine pk_lt m 1 (fun q => Jf (by omega)) (fun q => ?_)
  refine pk_le m 5 (fun q5 => ?_) (fun q5 => Jf (by omega))
  refine nm_r (nI_1 nv) ?_
  rw [nI_clamp (by omega), zt_nb (by omega), zt_nb (by omega), zt_nb (by omega), zt_nb (by omega), zt_nb (by omega)]
  exact And.intro h8 (nm_e (And.intro h8 (nm_e (And.intro h8 (nm_e (And.intro h8 (nm_e (And.intro h8 (nm_e (And.intro h8 (nm_e (Jo q q5))))))))))))
theorem zx_ed115 {post : Int32 → SX → Prop} {v k x z : Nat} {y : Int32} (hn : nv < 8) (hv : v < 8) (hk : k < 8) (hx : x < 8) (hz : z < 8) (hco : co v = nI (C v)) (hc : 1 ≤ C v ∧ C v ≤ 5) (Jf : ¬ (1 ≤ zt_nc k (C v) ∧ zt_nc k (C v) ≤ 5) → post (-2) (nI nv, fh, fr, fw, pa, ki, cx, cz, nu, co, xk, xv, bs, dr, ca, la, wy, cl)) (Jo : 1 ≤ zt_nc k (C v) → zt_nc k (C v) ≤ 5 → ∃ n, wX_edit_235 post y (nI nv) (nI (nv + 1)) fh fr fw n 0 (upd pa nv (nI v)) (upd ki nv (nI k)) (upd cx nv (nI x)) (upd cz nv (nI z)) (upd nu nv y) (upd co nv (nI (zt_nc k (C v)))) xk xv bs dr ca la wy cl) : wX_edit_115 post (nI v) y (nI k) (nI x) (nI z) (nI nv) fh fr fw pa ki cx cz nu co xk xv bs dr ca la wy cl := by
  refine And.intro (vp_in_nI hv (by omega)) ?_
  rw [nI_clamp (by omega), hco]
  refine pk_eq k 0 (fun q => ?_) (fun q => ?_)
  · subst q
    rw [zt_nc0] at Jf Jo
    exact zx_ed141 hn hv hk hx hz (by omega) (nI_1 _) Jf Jo
  · refine pk_eq k 1 (fun q1 => ?_) (fun q1 => ?_)
    · subst q1
      rw [zt_nc1] at Jf Jo
      exact zx_ed141 hn hv hk hx hz (by omega) (zt_m1 hc.1) Jf Jo
    · rw [zt_nc2 _ (by omega)] at Jf Jo
      exact zx_ed141 hn hv hk hx hz (by omega) (Int32.add_zero _) Jf Jo
theorem zx_ed76 {post : Int32 → SX → Prop} {v k x z : Nat} {y : Int32} (hn : nv < 8) (hv : v < 8) (hk : k < 8) (hx : x < 8) (hz : z < 8) (hco : co v = nI (C v)) (hc : 1 ≤ C v ∧ C v ≤ 5) (hk5 : k ≤ 5) (hkx : k ≠ 0 → x < C v) (Jb : ¬ zt_val k x z (C v) → post (-1) (nI nv, fh, fr, fw, pa, ki, cx, cz, nu, co, xk, xv, bs, dr, ca, la, wy, cl)) (Jf : zt_val k x z (C v) → ¬ (1 ≤ zt_nc k (C v) ∧ zt_nc k (C v) ≤ 5) → post (-2) (nI nv, fh, fr, fw, pa, ki, cx, cz, nu, co, xk, xv, bs, dr, ca, la, wy, cl)) (Jo : zt_val k x z (C v) → 1 ≤ zt_nc k (C v) → zt_nc k (C v) ≤ 5 → ∃ n, wX_edit_235 post y (nI nv) (nI (nv + 1)) fh fr fw n 0 (upd pa nv (nI v)) (upd ki nv (nI k)) (upd cx nv (nI x)) (upd cz nv (nI z)) (upd nu nv y) (upd co nv (nI (zt_nc k (C v)))) xk xv bs dr ca la wy cl) : wX_edit_76 post (nI v) y (nI k) (nI x) (nI z) (nI nv) fh fr fw pa ki cx cz nu co xk xv bs dr ca la wy cl := by
  have s100 : (4 ≤ k → z < C v) → wX_edit_100 post (nI v) y (nI k) (nI x) (nI z) (nI nv) fh fr fw pa ki cx cz nu co xk xv bs dr ca la wy cl := by
    intro hkz
    refine pk_eq k 5 (fun q => ?_) (fun q => ?_)
    · refine pk_eq x z (fun w => Jb (fun h => h.2.2.2 q w)) (fun w => ?_)
      exact zx_ed115 hn hv hk hx hz hco hc (Jf ⟨hk5, hkx, hkz, fun _ => w⟩) (Jo ⟨hk5, hkx, hkz, fun _ => w⟩)
    · exact zx_ed115 hn hv hk hx hz hco hc (Jf ⟨hk5, hkx, hkz, fun h => absurd h q⟩) (Jo ⟨hk5, hkx, hkz, fun h => absurd h q⟩)
  have s88 : 4 ≤ k → wX_edit_88 post (nI v) y (nI k) (nI x) (nI z) (nI nv) fh fr fw pa ki cx cz nu co xk xv bs dr ca la wy cl := by
    intro h4
    unfold wX_edit_88
    rcases zt_bad_or (n := C v) (by omega) (nI z) with hb | ⟨c, hc', e⟩
    · refine zx_isc0 hco hv hb (br_t rfl (Jb (fun h => ?_)))
      exact zt_bad_n (by omega) (h.2.2.1 h4) hb
    · have e' := (nI_eq (by omega) (by omega)).mp e
      subst e'
      exact zx_isc1 hco hv hc' hc.2 (br_f (by decide) (s100 (fun _ => hc')))
  refine pk_eq k 4 (fun q => s88 (by omega)) (fun q => ?_)
  exact pk_eq k 5 (fun q5 => s88 (by omega)) (fun q5 => s100 (fun h => by omega))
theorem zt_q7 {q : Nat} (h : q < 512) : nI q &&& 7 = nI (q % 8) := pk_andN (by omega) 3 (by decide)
theorem zt_q3 {q : Nat} (h : q < 512) : (nI q >>> ((3 : Int32) &&& 31)) &&& 7 = nI (q / 8 % 8) := by
  rw [pk_shrN (by omega) _ 3 (by decide)]
  exact pk_andN (by omega) 3 (by decide)
theorem zt_q6 {q : Nat} (h : q < 512) : nI q >>> ((6 : Int32) &&& 31) = nI (q / 64) := pk_shrN (by omega) _ 6 (by decide)
theorem zx_edit {post : Int32 → SX → Prop} {v q : Nat} {y : Int32} (hn : nv < 8) (hv : v < nv) (hq : q < 512) (hco : co v = nI (C v)) (hc : 1 ≤ C v ∧ C v ≤ 5) (Jb : ¬ zt_val (q % 8) (q / 8 % 8) (q / 64) (C v) → post (-1) (nI nv, fh, fr, fw, pa, ki, cx, cz, nu, co, xk, xv, bs, dr, ca, la, wy, cl)) (Jf : zt_val (q % 8) (q / 8 % 8) (q / 64) (C v) → ¬ (1 ≤ zt_nc (q % 8) (C v) ∧ zt_nc (q % 8) (C v) ≤ 5) → post (-2) (nI nv, fh, fr, fw, pa, ki, cx, cz, nu, co, xk, xv, bs, dr, ca, la, wy, cl)) (Jo : zt_val (q % 8) (q / 8 % 8) (q / 64) (C v) → 1 ≤ zt_nc (q % 8) (C v) → zt_nc (q % 8) (C v) ≤ 5 → ∃ n, wX_edit_235 post y (nI nv) (nI (nv + 1)) fh fr fw n 0 (upd pa nv (nI v)) (upd ki nv (nI (q % 8))) (upd cx nv (nI (q / 8 % 8))) (upd cz nv (nI (q / 64))) (upd nu nv y) (upd co nv (nI (zt_nc (q % 8) (C v)))) xk xv bs dr ca la wy cl) : wpX_edit post (nI nv, fh, fr, fw, pa, ki, cx, cz, nu, co, xk, xv, bs, dr, ca, la, wy, cl) (nI v) (nI q) y := by
  unfold wpX_edit
  refine zx_isv1 hv (by omega) (br_f (by decide) (br_f (nI_pos (by omega)) (br_t (nI_le (b := 511) (by omega) (by omega)) (br_t (nI_lt (b := 8) hn (by omega)) ?_))))
  refine nm_r (zt_q7 hq) (nm_r (zt_q3 hq) (nm_r (zt_q6 hq) ?_))
  generalize hk : q % 8 = k at *
  generalize hx : q / 8 % 8 = x at *
  generalize hz : q / 64 = z at *
  refine pk_lt 5 k (fun w => Jb (fun h => by have := h.1; omega)) (fun w => ?_)
  refine pk_eq k 0 (fun k0 => ?_) (fun k0 => ?_)
  · exact zx_ed76 hn (by omega) (by omega) (by omega) (by omega) hco hc w (fun h => absurd k0 h) Jb Jf Jo
  · rcases zt_bad_or (n := C v) (by omega) (nI x) with hb | ⟨c, hc', e⟩
    · refine zx_isc0 hco (by omega) hb (br_t rfl (Jb (fun h => ?_)))
      exact zt_bad_n (by omega) (h.2.1 k0) hb
    · have e' := (nI_eq (by omega) (by omega)).mp e
      rw [← e'] at hc'
      exact zx_isc1 hco (by omega) hc' hc.2 (br_f (by decide) (zx_ed76 hn (by omega) (by omega) (by omega) (by omega) hco hc w (fun _ => hc') Jb Jf Jo))
end
end
section
/-! edit: the reference; the relation behind it -/
def zt_up (f : Nat → Nat) (k x : Nat) : Nat → Nat := fun w => if w = k then x else f w
theorem zt_up_s (f : Nat → Nat) (k x : Nat) : zt_up f k x k = x := if_pos rfl
theorem zt_up_n {f : Nat → Nat} {k x w : Nat} (h : w ≠ k) : zt_up f k x w = f w := if_neg h
theorem zt_up_A {a : Nat → Int32} {f : Nat → Nat} {k x w : Nat} (h : a w = nI (f w)) : upd a k (nI x) w = nI (zt_up f k x w) := by
  by_cases e : w = k
  · subst e; rw [pk_us, zt_up_s]
  · rw [pk_un e, zt_up_n e, h]
section
variable {nv : Nat} {P K X Z C : Nat → Nat}
theorem zt_it_up (T : zt_T nv P K X Z C) {v : Nat} : ∀ k w, w < nv → zt_it (zt_up P nv v) k w = zt_it P k w
  | 0, _, _ => rfl
  | k + 1, w, h => by
    show zt_it (zt_up P nv v) k (zt_up P nv v w) = zt_it P k (P w)
    rw [zt_up_n (by omega)]
    exact zt_it_up T k (P w) (zt_P_nv T h)
theorem zt_an_up (T : zt_T nv P K X Z C) {v w e : Nat} (h : w < nv) : zt_an (zt_up P nv v) w e ↔ zt_an P w e := by
  constructor
  · rintro ⟨k, hk⟩; exact ⟨k, by rw [← zt_it_up T k w h]; exact hk⟩
  · rintro ⟨k, hk⟩; exact ⟨k, by rw [zt_it_up T k w h]; exact hk⟩
theorem zt_T_up (T : zt_T nv P K X Z C) {v k x z m : Nat} (hn : nv < 8) (hv : v < nv) (hE : zt_Es k x z (C v) m) : zt_T (nv + 1) (zt_up P nv v) (zt_up K nv k) (zt_up X nv x) (zt_up Z nv z) (zt_up C nv m) := by
  have hnv := zt_nv T
  refine ⟨by omega, by omega, ?_, fun w hw => ?_, fun w w0 hw => ?_⟩
  · rw [zt_up_n (by omega)]; exact T.2.2.1
  · by_cases e : w = nv
    · rw [e, zt_up_s]; exact ⟨hE.2.2.2.1, hE.2.2.2.2.1⟩
    · rw [zt_up_n e]; exact zt_C T (by omega)
  · by_cases e : w = nv
    · subst e
      rw [zt_up_s, zt_up_s, zt_up_s, zt_up_s, zt_up_s, zt_up_n (f := C) (by omega)]
      exact ⟨hv, hE⟩
    · have hpl := zt_P_lt T w0 (by omega)
      rw [zt_up_n e, zt_up_n e, zt_up_n e, zt_up_n e, zt_up_n e, zt_up_n (f := C) (by omega)]
      exact ⟨hpl, zt_E T w0 (by omega)⟩
theorem zt_Rw_up (T : zt_T nv P K X Z C) {v k x z m h r : Nat} {nu xv bs bs' : Nat → Int32} {y : Int32} {F F' : Nat → Nat → Int32} (hn : nv < 8) (hv : v < nv) (hh : h < nv) (hE : zt_Es k x z (C v) m) (R : zt_Rw nv P K X Z C nu h r xv bs F) (hF : ∀ w c, w < nv → c < 5 → F' w c = F w c) (hb : ∀ f, f < 8 → bs' (8 * r + f) = if f = nv then y else bs (8 * r + f)) (hN : zt_Ed k x z y (C v) m (F' v) (F' nv)) (h0 : k = 0 → F' nv (C v) = y) : zt_Rw (nv + 1) (zt_up P nv v) (zt_up K nv k) (zt_up X nv x) (zt_up Z nv z) (zt_up C nv m) (upd nu nv y) h r xv bs' F' := by
  have hnv := zt_nv T
  have hch := zt_C T hh
  refine ⟨fun w w0 hw => ?_, fun c hc => ?_, fun e e0 he hd => ?_⟩
  · by_cases e : w = nv
    · subst e
      rw [zt_up_s, zt_up_s, zt_up_s, zt_up_s, zt_up_s, zt_up_n (f := C) (by omega), pk_us]
      exact hN
    · have hpl := zt_P_lt T w0 (by omega)
      rw [zt_up_n e, zt_up_n e, zt_up_n e, zt_up_n e, zt_up_n e, zt_up_n (f := C) (by omega), pk_un e]
      exact zt_Ed_c (zt_E T w0 (by omega)) (fun c hc => hF _ c (by omega) hc) (fun c hc => hF _ c (by omega) hc) (R.1 w w0 (by omega))
  · rw [zt_up_n (by omega)] at hc
    rw [R.2.1 c hc, hF h c hh (by omega)]
  · by_cases ee : e = nv
    · subst ee
      rw [hb e (by omega), if_pos rfl]
      rcases hd with ⟨k0, _⟩ | ⟨_, a⟩
      · rw [zt_fr0 k0, zt_up_s, zt_up_n (by omega)]
        rw [zt_up_s] at k0
        exact (h0 k0).symm
      · rw [zt_an_up T hh] at a
        have := zt_an_le T hh a
        omega
    · have hpl := zt_P_lt T e0 (by omega)
      have hd' : zt_nd P K h e := by
        unfold zt_nd at hd ⊢
        rw [zt_up_n ee, zt_an_up T hh] at hd
        exact hd
      rw [hb e (by omega), if_neg ee, R.2.2 e e0 (by omega) hd']
      have hES := zt_E T e0 (show e < nv by omega)
      rw [← zt_fr_c (F := F) (F' := F') hES (fun c hc => hF _ c (by omega) hc) (fun c hc => hF _ c (by omega) hc)]
      unfold zt_fr
      rw [zt_up_n ee, zt_up_n ee, zt_up_n ee, zt_up_n (f := C) (by omega)]
end
section
variable {nv : Nat} {P K X Z C : Nat → Nat}
variable {fv fh fr fw : Int32} {pa ki cx cz nu co xk xv bs dr ca la wy cl yk yv kn : Nat → Int32}
theorem zy_ed218 (A : zt_A pa ki cx cz co P K X Z C) {post : Int32 → SY → Prop} {nr : Nat} {yv0 : Nat → Int32} (hn : nv < 8) (hpw : P nv < nv) (hE : zt_Es (K nv) (X nv) (Z nv) (C (P nv)) (C nv)) (hr : nr ≤ 12)
    (J : ∀ yv', (∀ r, r < nr → zt_Ed (K nv) (X nv) (Z nv) (nu nv) (C (P nv)) (C nv) (zt_F yv' r (P nv)) (zt_F yv' r nv) ∧ (K nv = 0 → zt_F yv' r nv (C (P nv)) = nu nv)) → (∀ r w c, w < nv → c < 5 → zt_F yv' r w c = zt_F yv0 r w c) → post (nI nv) (nI (nv + 1), nI nr, pa, ki, cx, cz, nu, co, yk, yv', dr, kn)) :
    ∀ n i yv, i ≤ nr → nr - i < n → (∀ r, r < i → zt_Ed (K nv) (X nv) (Z nv) (nu nv) (C (P nv)) (C nv) (zt_F yv r (P nv)) (zt_F yv r nv) ∧ (K nv = 0 → zt_F yv r nv (C (P nv)) = nu nv)) → (∀ r w c, w < nv → c < 5 → zt_F yv r w c = zt_F yv0 r w c) → wY_edit_218 post n (nI i) (nI nv) (nI nr) pa ki cx cz nu co yk yv dr kn := by
  intro n
  induction n with
  | zero => intro i yv h1 h2; omega
  | succ n ih =>
    intro i yv h1 h2 h3 h4
    refine pk_le nr i (fun q => ?_) (fun q => ?_)
    · refine nm_r (nI_1 nv) ?_
      rw [nI_pred]
      exact J yv (fun r hr => h3 r (by omega)) h4
    · obtain ⟨yv', ⟨g1, g2, g3⟩, G⟩ := zy_toChild (fv := nI nv) (fr := nI nr) (nu := nu) (yk := yk) (yv := yv) (dr := dr) (kn := kn) A (r := i) (b := 1) hn hpw hE (by omega) (by omega)
      have hF : ∀ r w c, w < nv → c < 5 → zt_F yv' r w c = zt_F yv r w c := fun r w c hw hc => g1 _ (by omega)
      refine G _ (nm_r (nI_1 i) (ih (i + 1) yv' (by omega) (by omega) (fun r hr => ?_) (fun r w c hw hc => (hF r w c hw hc).trans (h4 r w c hw hc))))
      by_cases e : r = i
      · subst e
        refine ⟨zt_Ed_c hE (fun c hc => hF r _ c hpw hc) (fun c hc => rfl) g2, fun k0 => ?_⟩
        rw [g3 k0, if_neg (by decide)]
      · obtain ⟨a, b⟩ := h3 r (by omega)
        have hF2 : ∀ c, c < 5 → zt_F yv' r nv c = zt_F yv r nv c := fun c hc => g1 _ (by omega)
        refine ⟨zt_Ed_c hE (fun c hc => hF r _ c hpw hc) hF2 a, fun k0 => ?_⟩
        obtain ⟨k5, p1, p5, c1, c5, s0, s1, s2, s4, s5⟩ := hE
        rw [hF2 _ (by have := s0 k0; omega)]
        exact b k0
theorem zy_ed134 {post : Int32 → SY → Prop} {v k x z m : Nat} {y z0 z1 : Int32} (hn : nv < 8) (hm : m ≤ 6) (e : z1 + z0 = nI m) (Jf : ¬ (1 ≤ m ∧ m ≤ 5) → post (-2) (nI nv, fr, pa, ki, cx, cz, nu, co, yk, yv, dr, kn)) (Jo : 1 ≤ m → m ≤ 5 → ∃ n, wY_edit_218 post n 0 (nI nv) fr (upd pa nv (nI v)) (upd ki nv (nI k)) (upd cx nv (nI x)) (upd cz nv (nI z)) (upd nu nv y) (upd co nv (nI m)) yk yv dr kn) : wY_edit_134 post (nI v) y (nI k) (nI x) (nI z) z0 z1 (nI nv) fr pa ki cx cz nu co yk yv dr kn := by
  have h8 : vp_in (nI nv) 8 := vp_in_nI hn (by omega)
  refine nm_r e ?_
  refine pk_lt m 1 (fun q => br_t rfl (Jf (by omega))) (fun q => ?_)
  refine pk_lt 5 m (fun q5 => br_t rfl (Jf (by omega))) (fun q5 => br_f (by decide) ?_)
  rw [nI_clamp (by omega)]
  exact And.intro h8 (nm_e (And.intro h8 (nm_e (And.intro h8 (nm_e (And.intro h8 (nm_e (And.intro h8 (nm_e (And.intro h8 (nm_e (Jo q q5))))))))))))
theorem zy_ed108 {post : Int32 → SY → Prop} {v k x z : Nat} {y : Int32} (hn : nv < 8) (hv : v < 8) (hk : k < 8) (hco : co v = nI (C v)) (hc : 1 ≤ C v ∧ C v ≤ 5) (Jf : ¬ (1 ≤ zt_nc k (C v) ∧ zt_nc k (C v) ≤ 5) → post (-2) (nI nv, fr, pa, ki, cx, cz, nu, co, yk, yv, dr, kn)) (Jo : 1 ≤ zt_nc k (C v) → zt_nc k (C v) ≤ 5 → ∃ n, wY_edit_218 post n 0 (nI nv) fr (upd pa nv (nI v)) (upd ki nv (nI k)) (upd cx nv (nI x)) (upd cz nv (nI z)) (upd nu nv y) (upd co nv (nI (zt_nc k (C v)))) yk yv dr kn) : wY_edit_108 post (nI v) y (nI k) (nI x) (nI z) (nI nv) fr pa ki cx cz nu co yk yv dr kn := by
  refine And.intro (vp_in_nI hv (by omega)) ?_
  rw [nI_clamp (by omega), hco]
  refine pk_eq k 0 (fun q => ?_) (fun q => ?_)
  · subst q
    rw [zt_nc0] at Jf Jo
    exact zy_ed134 hn (by omega) (nI_1 _) Jf Jo
  · refine pk_eq k 1 (fun q1 => ?_) (fun q1 => ?_)
    · subst q1
      rw [zt_nc1] at Jf Jo
      exact zy_ed134 hn (by omega) (zt_m1 hc.1) Jf Jo
    · rw [zt_nc2 _ (by omega)] at Jf Jo
      exact zy_ed134 hn (by omega) (Int32.add_zero _) Jf Jo
theorem zy_ed76 {post : Int32 → SY → Prop} {v k x z : Nat} {y : Int32} (hn : nv < 8) (hv : v < 8) (hk : k < 8) (hx : x < 8) (hz : z < 8) (hco : co v = nI (C v)) (hc : 1 ≤ C v ∧ C v ≤ 5) (hk5 : k ≤ 5) (hkx : k ≠ 0 → x < C v) (Jb : ¬ zt_val k x z (C v) → post (-1) (nI nv, fr, pa, ki, cx, cz, nu, co, yk, yv, dr, kn)) (Jf : zt_val k x z (C v) → ¬ (1 ≤ zt_nc k (C v) ∧ zt_nc k (C v) ≤ 5) → post (-2) (nI nv, fr, pa, ki, cx, cz, nu, co, yk, yv, dr, kn)) (Jo : zt_val k x z (C v) → 1 ≤ zt_nc k (C v) → zt_nc k (C v) ≤ 5 → ∃ n, wY_edit_218 post n 0 (nI nv) fr (upd pa nv (nI v)) (upd ki nv (nI k)) (upd cx nv (nI x)) (upd cz nv (nI z)) (upd nu nv y) (upd co nv (nI (zt_nc k (C v)))) yk yv dr kn) : wY_edit_76 post (nI v) y (nI k) (nI x) (nI z) (nI nv) fr pa ki cx cz nu co yk yv dr kn := by
  have s93 : (4 ≤ k → z < C v) → wY_edit_93 post (nI v) y (nI k) (nI x) (nI z) (nI nv) fr pa ki cx cz nu co yk yv dr kn := by
    intro hkz
    refine pk_eq k 5 (fun q => ?_) (fun q => ?_)
    · refine pk_eq x z (fun w => Jb (fun h => h.2.2.2 q w)) (fun w => ?_)
      exact zy_ed108 hn hv hk hco hc (Jf ⟨hk5, hkx, hkz, fun _ => w⟩) (Jo ⟨hk5, hkx, hkz, fun _ => w⟩)
    · exact zy_ed108 hn hv hk hco hc (Jf ⟨hk5, hkx, hkz, fun h => absurd h q⟩) (Jo ⟨hk5, hkx, hkz, fun h => absurd h q⟩)
  refine pk_lt k 4 (fun q => s93 (fun h => by omega)) (fun q => And.intro (vp_in_nI hv (by omega)) ?_)
  rw [nI_clamp (by omega), hco]
  exact pk_le (C v) z (fun w => Jb (fun h => by have := h.2.2.1 q; omega)) (fun w => s93 (fun _ => w))
theorem zy_edit {post : Int32 → SY → Prop} {v q : Nat} {y : Int32} (hn : nv < 8) (hv : v < nv) (hq : q < 512) (hco : co v = nI (C v)) (hc : 1 ≤ C v ∧ C v ≤ 5) (Jb : ¬ zt_val (q % 8) (q / 8 % 8) (q / 64) (C v) → post (-1) (nI nv, fr, pa, ki, cx, cz, nu, co, yk, yv, dr, kn)) (Jf : zt_val (q % 8) (q / 8 % 8) (q / 64) (C v) → ¬ (1 ≤ zt_nc (q % 8) (C v) ∧ zt_nc (q % 8) (C v) ≤ 5) → post (-2) (nI nv, fr, pa, ki, cx, cz, nu, co, yk, yv, dr, kn)) (Jo : zt_val (q % 8) (q / 8 % 8) (q / 64) (C v) → 1 ≤ zt_nc (q % 8) (C v) → zt_nc (q % 8) (C v) ≤ 5 → ∃ n, wY_edit_218 post n 0 (nI nv) fr (upd pa nv (nI v)) (upd ki nv (nI (q % 8))) (upd cx nv (nI (q / 8 % 8))) (upd cz nv (nI (q / 64))) (upd nu nv y) (upd co nv (nI (zt_nc (q % 8) (C v)))) yk yv dr kn) : wpY_edit post (nI nv, fr, pa, ki, cx, cz, nu, co, yk, yv, dr, kn) (nI v) (nI q) y := by
  unfold wpY_edit
  refine zy_isv1 hv (by omega) (br_f (by decide) ?_)
  refine zy_in1 (n := 512) (by omega) hq rfl (br_f (by decide) ?_)
  refine br_f (fun z => by have := (nI_eq (b := 8) (by omega) (by omega)).mp z; omega) ?_
  refine nm_r (zt_q7 hq) (nm_r (zt_q3 hq) (nm_r (zt_q6 hq) ?_))
  generalize hk : q % 8 = k at *
  generalize hx : q / 8 % 8 = x at *
  generalize hz : q / 64 = z at *
  refine pk_lt 5 k (fun w => Jb (fun h => by have := h.1; omega)) (fun w => ?_)
  refine pk_eq k 0 (fun k0 => ?_) (fun k0 => ?_)
  · exact zy_ed76 hn (by omega) (by omega) (by omega) (by omega) hco hc w (fun h => absurd k0 h) Jb Jf Jo
  · refine And.intro (vp_in_nI (by omega) (by omega)) ?_
    rw [nI_clamp (by omega), hco]
    exact pk_le (C v) x (fun w' => Jb (fun h => by have := h.2.1 k0; omega)) (fun w' => zy_ed76 hn (by omega) (by omega) (by omega) (by omega) hco hc w (fun _ => w') Jb Jf Jo)
end
theorem i_vc_edit {k : Nat} {u : SX} {v : SY} (I : i_Rel k u v) (hk : k + 5 ≤ 2560) (v1 : Int32) (v2 : Int32) (v3 : Int32) : wpX_edit (fun r u' => wpY_edit (fun r' v' => r' = r ∧ i_Rel (k + 5) u' v') v v1 v2 v3) u v1 v2 v3 := by
  refine zt_el (Q := fun u v => wpX_edit (fun r u' => wpY_edit (fun r' v' => r' = r ∧ i_Rel (k + 5) u' v') v v1 v2 v3) u v1 v2 v3) ?_ I
  intro nv nr h P K X Z C fw pa ki cx cz nu co xk xv bs dr ca la wy cl yk yv kn R
  have hnv := zt_nv R.1
  obtain ⟨T, A, hr, hh, k1, k2, hR⟩ := id R
  rcases zt_bad_or (n := nv) (by omega) v1 with hb | ⟨w, hw, rfl⟩
  · unfold wpX_edit wpY_edit
    exact zx_isv0 hb (br_t rfl (zy_isv0 hb hnv.1 hnv.2 (br_t rfl ⟨rfl, zt_in R⟩)))
  · rcases zt_bad_or (n := 512) (by omega) v2 with hb | ⟨q, hq, rfl⟩
    · unfold wpX_edit wpY_edit
      refine zx_isv1 hw hnv.2 (br_f (by decide) ?_)
      by_cases z : v2 < 0
      · exact br_t z (zy_isv1 hw hnv.2 (br_f (by decide) (zy_in0 (n := 512) (by omega) (by omega) hb rfl (br_t rfl ⟨rfl, zt_in R⟩))))
      · have hz : ¬ v2 ≤ 511 := by
          obtain ⟨j, hj, e⟩ := nI_of z
          subst e
          have := (nI_leI (by omega) hj).mp (hb.resolve_left z)
          exact nI_ge (a := 511) (by omega) hj
        exact br_f z (br_f hz (zy_isv1 hw hnv.2 (br_f (by decide) (zy_in0 (n := 512) (by omega) (by omega) hb rfl (br_t rfl ⟨rfl, zt_in R⟩)))))
    · rcases Nat.lt_or_ge nv 8 with hn | hn
      · have hcw := zt_C T hw
        have hco := (A w).2.2.2.2
        refine zx_edit hn hw hq hco hcw (fun nb => ?_) (fun va nf => ?_) (fun va m1 m5 => ?_)
        · exact zy_edit hn hw hq hco hcw (fun _ => ⟨rfl, zt_in R⟩) (fun va => absurd va nb) (fun va => absurd va nb)
        · exact zy_edit hn hw hq hco hcw (fun nb => absurd va nb) (fun _ _ => ⟨rfl, zt_in R⟩) (fun _ m1 m5 => absurd ⟨m1, m5⟩ nf)
        · have hE := zt_val_E va hcw.1 hcw.2 m1 m5
          have T' := zt_T_up T hn hw hE
          have A' : zt_A (upd pa nv (nI w)) (upd ki nv (nI (q % 8))) (upd cx nv (nI (q / 8 % 8))) (upd cz nv (nI (q / 64))) (upd co nv (nI (zt_nc (q % 8) (C w)))) (zt_up P nv w) (zt_up K nv (q % 8)) (zt_up X nv (q / 8 % 8)) (zt_up Z nv (q / 64)) (zt_up C nv (zt_nc (q % 8) (C w))) := fun e => ⟨zt_up_A (A e).1, zt_up_A (A e).2.1, zt_up_A (A e).2.2.1, zt_up_A (A e).2.2.2.1, zt_up_A (A e).2.2.2.2⟩
          refine ⟨nr + 1, zx_ed235 hn hr rfl (fun bs' hbs => ?_) (nr + 1) 0 bs (by omega) (by omega) (fun r f _ _ => by rw [if_neg (by omega)])⟩
          refine zy_edit hn hw hq hco hcw (fun nb => absurd va nb) (fun _ nf => absurd ⟨m1, m5⟩ nf) (fun _ _ _ => ⟨nr + 1, ?_⟩)
          have hpn := zt_P_lt T' (w := nv) (by omega) (by omega)
          have hEn := zt_E T' (w := nv) (by omega) (by omega)
          refine zy_ed218 (yv0 := yv) A' hn hpn hEn hr (fun yv' g1 g2 => ⟨rfl, ?_⟩) (nr + 1) 0 yv (by omega) (by omega) (fun r hr => by omega) (fun _ _ _ _ _ => rfl)
          refine zt_in ⟨T', A', hr, by omega, k1, k2, fun r hr' => ?_⟩
          obtain ⟨q1, q2⟩ := g1 r hr'
          rw [zt_up_s, zt_up_s, zt_up_s, zt_up_s, zt_up_s, zt_up_n (f := C) (by omega), pk_us] at q1
          rw [zt_up_s, zt_up_s, zt_up_n (f := C) (by omega), pk_us] at q2
          exact zt_Rw_up T hn hw hh hE (hR r hr') (fun e c he hc => g2 r e c he hc) (fun f hf => hbs r f hr' hf) q1 q2
      · unfold wpX_edit wpY_edit
        have e8 : nI nv = 8 := by rw [show nv = 8 by omega]; rfl
        refine zx_isv1 hw hnv.2 (br_f (by decide) (br_f (nI_pos (by omega)) (br_t (nI_le (b := 511) (by omega) (by omega)) (br_f (nI_nlt (b := 8) (by omega) (by omega)) ?_))))
        exact zy_isv1 hw hnv.2 (br_f (by decide) (zy_in1 (n := 512) (by omega) hq rfl (br_f (by decide) (br_t e8 ⟨rfl, zt_in R⟩))))
end
section
/-! update -/
theorem zt_Rw_F {nv : Nat} {P K X Z C : Nat → Nat} {nu xv bs : Nat → Int32} {h r : Nat} {F F' : Nat → Nat → Int32} (T : zt_T nv P K X Z C) (hh : h < nv) (hF : ∀ w c, w < nv → c < 5 → F' w c = F w c) (R : zt_Rw nv P K X Z C nu h r xv bs F) : zt_Rw nv P K X Z C nu h r xv bs F' := by
  have hch := zt_C T hh
  refine ⟨fun w w0 hw => ?_, fun c hc => ?_, fun e e0 he hd => ?_⟩
  · have hp := zt_P_nv T hw
    exact zt_Ed_c (zt_E T w0 hw) (fun c hc => hF _ c hp hc) (fun c hc => hF _ c hw hc) (R.1 w w0 hw)
  · rw [R.2.1 c hc, hF h c hh (by omega)]
  · have hp := zt_P_nv T he
    rw [R.2.2 e e0 he hd]
    exact (zt_fr_c (zt_E T e0 he) (fun c hc => hF _ c hp hc) (fun c hc => hF _ c he hc)).symm
/-- a changed value in the row of version v touches no free value that v does not tell -/
theorem zt_fr_v {nv : Nat} {P K X Z C : Nat → Nat} {F F' : Nat → Nat → Int32} {v e : Nat} (T : zt_T nv P K X Z C) (hv : v < nv) (e0 : 0 < e) (he : e < nv) (hF : ∀ w c, w < nv → w ≠ v → c < 5 → F' w c = F w c) (hd : zt_nd P K v e) : zt_fr P K X C F' e = zt_fr P K X C F e := by
  obtain ⟨k5, p1, p5, c1, c5, s0, s1, s2, s4, s5⟩ := zt_E T e0 he
  have hpl := zt_P_lt T e0 he
  rcases hd with ⟨k0, a⟩ | ⟨k0, a⟩
  · have s := s0 k0
    rw [zt_fr0 k0, zt_fr0 k0]
    refine hF _ _ he ?_ (by omega)
    rintro rfl
    exact a (zt_an_r P e)
  · have s := s1 k0
    rw [zt_fr1 k0, zt_fr1 k0]
    refine hF _ _ (by omega) ?_ (by omega)
    have := zt_an_le T hv a
    omega
/-- behind carry and store: row r at home again, the others as before -/
theorem zt_Rw_r {nv : Nat} {P K X Z C : Nat → Nat} {nu bs ca la la' xv' bs' : Nat → Int32} {h v r : Nat} {F : Nat → Nat → Int32} (T : zt_T nv P K X Z C) (hh : h < nv) (hF : zt_Co nv P K X Z C nu F) (g1 : zt_Ag (C h) ca (F h)) (g2 : zt_Mo 1 r (zt_fr P K X C F) bs la bs' la') (g3 : ∀ e, 0 < e → e < nv → zt_nd P K h e → ¬ zt_nd P K v e → zt_ly 1 r bs' la' e = zt_fr P K X C F e) (hb : ∀ e, 0 < e → e < nv → zt_nd P K v e → zt_nd P K h e → bs (8 * r + e) = zt_fr P K X C F e) (s1 : ∀ c, c < 5 → xv' (5 * r + c) = ca c) : zt_Rw nv P K X Z C nu h r xv' bs' F := by
  have hch := zt_C T hh
  refine ⟨hF, fun c hc => (s1 c (by omega)).trans (g1 c hc), fun e e0 he hd => ?_⟩
  by_cases z : zt_nd P K v e
  · exact g2.2.2.2.1 e (hb e e0 he z hd)
  · exact g3 e e0 he hd z
section
variable {nv : Nat} {P K X Z C : Nat → Nat}
variable {fv fh fr fw : Int32} {pa ki cx cz nu co xk xv bs dr ca la wy cl yk yv kn : Nat → Int32}
/-- the reference's update up to its carry, as one outcome -/
theorem zy_upd (T : zt_T nv P K X Z C) (A : zt_A pa ki cx cz co P K X Z C) {r v c : Nat} {y : Int32} (hr : r < 12) (hv : v < nv) (hc : c < C v) :
    ∃ yv1 yv3 kn3, zt_Co nv P K X Z C nu (zt_F yv3 12) ∧ (∀ d, d < 5 → zt_F yv3 12 v d = if d = c then y else zt_F yv r v d) ∧ (∀ e, 0 < e → e < nv → zt_nd P K v e → zt_fr P K X C (zt_F yv3 12) e = zt_fr P K X C (zt_F yv r) e) ∧ (∀ j, j < 480 → yv3 j = yv j) ∧ (∀ post : SY → Prop, post (nI nv, fr, pa, ki, cx, cz, nu, co, yk, yv1, dr, kn) → wpY_copy post (nI nv, fr, pa, ki, cx, cz, nu, co, yk, yv, dr, kn) 12 (nI r)) ∧ (∀ post : SY → Prop, post (nI nv, fr, pa, ki, cx, cz, nu, co, yk, yv3, dr, kn3) → wpY_carry post (nI nv, fr, pa, ki, cx, cz, nu, co, yk, upd yv1 (480 + 5 * v + c) y, dr, kn) 12 (nI v) 0) := by
  have hnv := zt_nv T
  have hcv := zt_C T hv
  obtain ⟨yv1, ⟨a1, a2⟩, H1⟩ := zy_copy (fv := nI nv) (fr := fr) (pa := pa) (ki := ki) (cx := cx) (cz := cz) (nu := nu) (co := co) (yk := yk) (yv := yv) (dr := dr) (kn := kn) (t := 12) (f := r) (by omega) (by omega) (by omega)
  obtain ⟨yv3, kn3, ⟨b1, b2, b3, b4⟩, H3⟩ := zy_carry (fr := fr) (nu := nu) (yk := yk) (dr := dr) (kn := kn) (yv := upd yv1 (480 + 5 * v + c) y) T A (r := 12) (v := v) (b := 0) (by omega) hv (by omega)
  have e1 : ∀ w d, w < 8 → d < 5 → zt_F yv1 12 w d = zt_F yv r w d := fun w d hw hd => by
    show yv1 (40 * 12 + 5 * w + d) = yv (40 * r + 5 * w + d)
    rw [Nat.add_assoc, Nat.add_assoc]
    exact a1 (5 * w + d) (by omega)
  have e2 : ∀ w d, w ≠ v → d < 5 → zt_F (upd yv1 (480 + 5 * v + c) y) 12 w d = zt_F yv1 12 w d := fun w d hw hd => pk_un (by omega)
  refine ⟨yv1, yv3, kn3, b1, fun d hd => ?_, fun e e0 he hd => ?_, fun j hj => ?_, H1, H3⟩
  · rw [b2 d hd]
    show upd yv1 (480 + 5 * v + c) y (40 * 12 + 5 * v + d) = _
    by_cases z : d = c
    · rw [if_pos z, z]; exact pk_us
    · rw [if_neg z, pk_un (by omega)]; exact e1 v d (by omega) hd
  · rw [b3 e e0 he hd, if_pos rfl]
    exact zt_fr_v T hv e0 he (fun w d hw hwv hd => (e2 w d hwv hd).trans (e1 w d (by omega) hd)) hd
  · rw [b4 j (by omega), pk_un (by omega), a2 j (by omega)]
end
theorem i_vc_update {k : Nat} {u : SX} {v : SY} (I : i_Rel k u v) (hk : k + 5 ≤ 2560) (v1 : Int32) (v2 : Int32) (v3 : Int32) (v4 : Int32) : wpX_update (fun r u' => wpY_update (fun r' v' => r' = r ∧ i_Rel (k + 5) u' v') v v1 v2 v3 v4) u v1 v2 v3 v4 := by
  refine zt_el (Q := fun u v => wpX_update (fun r u' => wpY_update (fun r' v' => r' = r ∧ i_Rel (k + 5) u' v') v v1 v2 v3 v4) u v1 v2 v3 v4) ?_ I
  intro nv nr h P K X Z C fw pa ki cx cz nu co xk xv bs dr ca la wy cl yk yv kn R
  have hnv := zt_nv R.1
  obtain ⟨T, A, hr, hh, k1, k2, hR⟩ := id R
  unfold wpX_update wpY_update
  rcases zt_bad_or (n := nv) (by omega) v1 with hb | ⟨w, hw, rfl⟩
  · exact zx_isv0 hb (br_t rfl (zy_isv0 hb hnv.1 hnv.2 (br_t rfl ⟨rfl, zt_in R⟩)))
  · have hcw := zt_C T hw
    have hco := (A w).2.2.2.2
    have h8 : vp_in (nI w) 8 := vp_in_nI (by omega) (by omega)
    have hcl : (nI w).toNatClampNeg = w := nI_clamp (by omega)
    refine zx_isv1 hw hnv.2 (br_f (by decide) ?_)
    rcases zt_bad_or (n := 100) (by omega) v2 with hb | ⟨q, hq, rfl⟩
    · by_cases z : v2 < 0
      · exact br_t z (zy_isv1 hw hnv.2 (br_f (by decide) (zy_in0 (n := 100) (by omega) (by omega) hb rfl (br_t rfl ⟨rfl, zt_in R⟩))))
      · have hz : 99 < v2 := by
          obtain ⟨j, hj, e⟩ := nI_of z
          subst e
          have := (nI_leI (by omega) hj).mp (hb.resolve_left z)
          exact nI_lt (a := 99) (by omega) hj
        exact br_f z (br_t hz (zy_isv1 hw hnv.2 (br_f (by decide) (zy_in0 (n := 100) (by omega) (by omega) hb rfl (br_t rfl ⟨rfl, zt_in R⟩)))))
    · refine br_f (nI_pos (by omega)) (br_f (nI_nlt (b := q) (a := 99) (by omega) (by omega)) ?_)
      rcases zt_bad_or (n := C w) (by omega) v3 with hb | ⟨c, hc, rfl⟩
      · refine zx_isc0 hco (by omega) hb (br_t rfl ?_)
        refine zy_isv1 hw hnv.2 (br_f (by decide) (zy_in1 (n := 100) (by omega) hq rfl (br_f (by decide) (And.intro h8 ?_))))
        rw [hcl, hco]
        exact zy_in0 (n := C w) (by omega) hcw.1 hb rfl (br_t rfl ⟨rfl, zt_in R⟩)
      · refine zx_isc1 hco (by omega) hc hcw.2 (br_f (by decide) ?_)
        rcases zt_find (nI q) hr k1 with ⟨r, hr', fX, fY⟩ | ⟨fX, fY⟩
        · refine fX _ (br_f (nI_pos (by omega)) ?_)
          refine zx_look T A (by omega) hh hw (hR r hr') (fun s ca' la' wy' cl' g1 g2 => br_f (by decide) ?_) (fun s ca' la' wy' cl' => br_t rfl ?_)
          · obtain ⟨yv1, yv3, kn3, c1, c2, c3, c4, H1, H3⟩ := zy_upd (fr := nI nr) (nu := nu) (yk := yk) (yv := yv) (dr := dr) (kn := kn) (y := v4) T A (r := r) (by omega) hw hc
            have hlb := (hR r hr').2.2
            refine And.intro (vp_in_nI (by omega) (by omega)) (nm_r (e' := upd ca' c v4) (by rw [nI_clamp (by omega)]) ?_)
            have ag : zt_Ag (C w) (upd ca' c v4) (zt_F yv3 12 w) := fun d hd => by
              rw [c2 d (by omega)]
              by_cases z : d = c
              · rw [z, pk_us, if_pos rfl]
              · rw [pk_un z, if_neg z, g1 d hd]
            have hb3 : ∀ e, 0 < e → e < nv → zt_nd P K w e → zt_nd P K h e → bs (8 * r + e) = zt_fr P K X C (zt_F yv3 12) e := fun e e0 he h1 h2 => by rw [c3 e e0 he h1]; exact hlb e e0 he h2
            have hl3 : ∀ e, 0 < e → e < nv → zt_nd P K w e → ¬ zt_nd P K h e → la' e = zt_fr P K X C (zt_F yv3 12) e := fun e e0 he h1 h2 => by rw [c3 e e0 he h1]; exact g2 e e0 he h1 h2
            refine zx_isShown T A (by omega) hh hw c1 ag hb3 hl3 (fun s3 cl3 => br_f (by decide) ?_) (fun s3 cl3 => br_t rfl ?_)
            · refine zx_carry (m := 1) T A (by omega) (by omega) hw hh c1 ag (fun e e0 he h1 h2 => hl3 e e0 he h1 h2) (fun ca4 bs4 la4 wy4 d1 d2 d3 => ?_)
              refine zx_store (by omega) (fun xv4 s1 s2 => ?_)
              obtain ⟨yv5, ⟨f1, f2⟩, H5⟩ := zy_copy (fv := nI nv) (fr := nI nr) (pa := pa) (ki := ki) (cx := cx) (cz := cz) (nu := nu) (co := co) (yk := yk) (yv := yv3) (dr := dr) (kn := kn3) (t := r) (f := 12) (by omega) (by omega) (by omega)
              refine zy_isv1 hw hnv.2 (br_f (by decide) (zy_in1 (n := 100) (by omega) hq rfl (br_f (by decide) (And.intro h8 ?_))))
              rw [hcl, hco]
              refine zy_in1 (n := C w) (by omega) hc rfl (br_f (by decide) (fY _ (br_f (nI_pos (by omega)) ?_)))
              refine zy_isShown T A (by omega) hw (fun _ => br_f (by decide) (H1 _ ?_)) (fun z => absurd s z)
              rw [zt_i480, nI_add]
              refine And.intro (vp_in_nI (by omega) (by omega)) (nm_r (e' := upd yv1 (480 + 5 * w + c) v4) (by rw [nI_clamp (by omega)]) (H3 _ ?_))
              refine zy_isShown T A (r := 12) (by omega) hw (fun _ => br_f (by decide) (H5 _ ⟨rfl, ?_⟩)) (fun z => absurd s3 z)
              refine zt_in ⟨T, A, hr, hh, k1, k2, fun r2 hr2 => ?_⟩
              by_cases z : r2 = r
              · subst z
                refine zt_Rw_F T hh (fun a d ha hd => ?_) (zt_Rw_r T hh c1 d1 d2 d3 hb3 s1)
                show yv5 (40 * r2 + 5 * a + d) = yv3 (40 * 12 + 5 * a + d)
                rw [Nat.add_assoc, Nat.add_assoc]
                exact f1 (5 * a + d) (by omega)
              · refine zt_Rw_F T hh (fun a d ha hd => ?_) (zt_Rw_c T hh (fun d hd => s2 _ (by omega)) (fun e he => d2.2.2.1 _ (by omega)) (hR r2 hr2))
                show yv5 (40 * r2 + 5 * a + d) = yv (40 * r2 + 5 * a + d)
                rw [f2 _ (by omega), c4 _ (by omega)]
            · refine zy_isv1 hw hnv.2 (br_f (by decide) (zy_in1 (n := 100) (by omega) hq rfl (br_f (by decide) (And.intro h8 ?_))))
              rw [hcl, hco]
              refine zy_in1 (n := C w) (by omega) hc rfl (br_f (by decide) (fY _ (br_f (nI_pos (by omega)) ?_)))
              refine zy_isShown T A (by omega) hw (fun _ => br_f (by decide) (H1 _ ?_)) (fun z => absurd s z)
              rw [zt_i480, nI_add]
              refine And.intro (vp_in_nI (by omega) (by omega)) (nm_r (e' := upd yv1 (480 + 5 * w + c) v4) (by rw [nI_clamp (by omega)]) (H3 _ ?_))
              refine zy_isShown T A (r := 12) (by omega) hw (fun z => absurd z s3) (fun _ => br_t rfl ⟨rfl, ?_⟩)
              refine zt_in ⟨T, A, hr, hh, k1, k2, fun r2 hr2 => zt_Rw_F T hh (fun a d ha hd => ?_) (hR r2 hr2)⟩
              show yv3 (40 * r2 + 5 * a + d) = yv (40 * r2 + 5 * a + d)
              rw [c4 _ (by omega)]
          · refine zy_isv1 hw hnv.2 (br_f (by decide) (zy_in1 (n := 100) (by omega) hq rfl (br_f (by decide) (And.intro h8 ?_))))
            rw [hcl, hco]
            refine zy_in1 (n := C w) (by omega) hc rfl (br_f (by decide) (fY _ (br_f (nI_pos (by omega)) ?_)))
            exact zy_isShown T A (by omega) hw (fun z => absurd z s) (fun _ => br_t rfl ⟨rfl, zt_in R⟩)
        · refine fX _ (br_t (by decide) ?_)
          refine zy_isv1 hw hnv.2 (br_f (by decide) (zy_in1 (n := 100) (by omega) hq rfl (br_f (by decide) (And.intro h8 ?_))))
          rw [hcl, hco]
          exact zy_in1 (n := C w) (by omega) hc rfl (br_f (by decide) (fY _ (br_t (by decide) ⟨rfl, zt_in R⟩)))
end
section
/-! delete -/
def zt_td (r i j : Nat) : Nat := if j < r then j else if j < i then j + 1 else j
theorem zt_td_0 (r j : Nat) : zt_td r r j = j := by
  unfold zt_td
  by_cases h : j < r
  · rw [if_pos h]
  · rw [if_neg h, if_neg h]
theorem zt_td_s {r i : Nat} (h : r ≤ i) : zt_td r (i + 1) i = i + 1 := by
  unfold zt_td; rw [if_neg (by omega), if_pos (by omega)]
theorem zt_td_n {r i : Nat} (h : r ≤ i) : zt_td r i (i + 1) = i + 1 := by
  unfold zt_td; rw [if_neg (by omega), if_neg (by omega)]
theorem zt_td_o {r i j : Nat} (h : j ≠ i) : zt_td r (i + 1) j = zt_td r i j := by
  unfold zt_td
  by_cases h1 : j < r
  · rw [if_pos h1, if_pos h1]
  · rw [if_neg h1, if_neg h1]
    by_cases h2 : j < i
    · rw [if_pos h2, if_pos (by omega)]
    · rw [if_neg h2, if_neg (by omega)]
theorem zt_td_lt {r i j n : Nat} (h : j < n) (hi : i ≤ n) : zt_td r i j < n + 1 := by
  unfold zt_td
  by_cases h1 : j < r
  · rw [if_pos h1]; omega
  · rw [if_neg h1]
    by_cases h2 : j < i
    · rw [if_pos h2]; omega
    · rw [if_neg h2]; omega
section
variable {nv : Nat} {P K X Z C : Nat → Nat}
variable {fv fh fr fw : Int32} {pa ki cx cz nu co xk xv bs dr ca la wy cl yk yv kn : Nat → Int32}
theorem zx_del45 {post : Int32 → SX → Prop} {m r : Nat} {xk0 xv0 bs0 : Nat → Int32} (hm : m < 12) (J : ∀ xk' xv' bs', (∀ j, j < m → xk' j = xk0 (zt_td r m j)) → (∀ j, j < m → ∃ q, q < 128 ∧ xk' j = nI q) → (∀ j c, j < m → c < 5 → xv' (5 * j + c) = xv0 (5 * zt_td r m j + c)) → (∀ j e, j < m → e < 8 → bs' (8 * j + e) = bs0 (8 * zt_td r m j + e)) → post (nI m) (fv, fh, nI m, fw, pa, ki, cx, cz, nu, co, xk', xv', bs', dr, ca, la, wy, cl)) :
    ∀ n i xk xv bs, r ≤ i → i ≤ m → m - i < n → (∀ j, j ≤ m → ∃ q, q < 128 ∧ xk j = nI q) → (∀ j, j ≤ m → j ≠ i → xk j = xk0 (zt_td r i j)) → (∀ j c, j ≤ m → j ≠ i → c < 5 → xv (5 * j + c) = xv0 (5 * zt_td r i j + c)) → (∀ j e, j ≤ m → j ≠ i → e < 8 → bs (8 * j + e) = bs0 (8 * zt_td r i j + e)) → wX_delete_45 post n (nI i) fv fh (nI (m + 1)) fw pa ki cx cz nu co xk xv bs dr ca la wy cl := by
  intro n
  induction n with
  | zero => intro i xk xv bs h1 h2 h3; omega
  | succ n ih =>
    intro i xk xv bs h1 h2 h3 hq hk hx hb
    unfold wX_delete_45
    rw [nI_pred]
    refine pk_le m i (fun q => ?_) (fun q => ?_)
    · have e1 : i = m := by omega
      subst e1
      refine nm_e ?_
      exact J xk xv bs (fun j hj => hk j (by omega) (by omega)) (fun j hj => hq j (by omega)) (fun j c hj hc => hx j c (by omega) (by omega) hc) (fun j e hj he => hb j e (by omega) (by omega) he)
    · rw [nI_1]
      refine zx_xrows (by omega) (by omega) (by omega) (hq i (by omega)) (hq (i + 1) (by omega)) (fun xk' xv' bs' g1 g2 g3 => ?_)
      refine nm_e (ih (i + 1) xk' xv' bs' (by omega) (by omega) (by omega) (fun j hj => ?_) (fun j hj hn => ?_) (fun j c hj hn hc => ?_) (fun j e hj hn he => ?_))
      · rw [g1 j]
        by_cases z : j = i
        · subst z; rw [zt_sw_l]; exact hq _ (by omega)
        · by_cases z1 : j = i + 1
          · subst z1; rw [zt_sw_r]; exact hq _ (by omega)
          · rw [zt_sw_n z z1]; exact hq _ (by omega)
      · rw [g1 j]
        by_cases z : j = i
        · subst z; rw [zt_sw_l, hk _ (by omega) (by omega), zt_td_s h1, zt_td_n h1]
        · rw [zt_sw_n z hn, hk j hj z, zt_td_o z]
      · rw [g2 j c hc]
        by_cases z : j = i
        · subst z; rw [zt_sw_l, hx _ c (by omega) (by omega) hc, zt_td_s h1, zt_td_n h1]
        · rw [zt_sw_n z hn, hx j c hj z hc, zt_td_o z]
      · rw [g3 j e he]
        by_cases z : j = i
        · subst z; rw [zt_sw_l, hb _ e (by omega) (by omega) he, zt_td_s h1, zt_td_n h1]
        · rw [zt_sw_n z hn, hb j e hj z he, zt_td_o z]
theorem zy_del46 {post : Int32 → SY → Prop} {m r : Nat} {yk0 yv0 : Nat → Int32} (hm : m < 12) (J : ∀ yk' yv', (∀ j, j < m → yk' j = yk0 (zt_td r m j)) → (∀ j c, j < m → c < 40 → yv' (40 * j + c) = yv0 (40 * zt_td r m j + c)) → post (nI m) (fv, nI m, pa, ki, cx, cz, nu, co, yk', yv', dr, kn)) :
    ∀ n i yk yv, r ≤ i → i ≤ m → m - i < n → (∀ j, j ≤ m → j ≠ i → yk j = yk0 (zt_td r i j)) → (∀ j c, j ≤ m → j ≠ i → c < 40 → yv (40 * j + c) = yv0 (40 * zt_td r i j + c)) → wY_delete_46 post n (nI i) fv (nI (m + 1)) pa ki cx cz nu co yk yv dr kn := by
  intro n
  induction n with
  | zero => intro i yk yv h1 h2 h3; omega
  | succ n ih =>
    intro i yk yv h1 h2 h3 hk hx
    unfold wY_delete_46
    rw [nI_pred]
    refine pk_le m i (fun q => ?_) (fun q => ?_)
    · have e1 : i = m := by omega
      subst e1
      refine nm_e ?_
      exact J yk yv (fun j hj => hk j (by omega) (by omega)) (fun j c hj hc => hx j c (by omega) (by omega) hc)
    · rw [nI_1]
      refine And.intro (vp_in_nI (by omega) (by omega)) (And.intro (vp_in_nI (by omega) (by omega)) (nm_r (e' := upd yk i (yk (i + 1))) (by rw [nI_clamp (by omega), nI_clamp (by omega)]) ?_))
      obtain ⟨yv', ⟨g1, g2⟩, H⟩ := zy_copy (fv := fv) (fr := nI (m + 1)) (pa := pa) (ki := ki) (cx := cx) (cz := cz) (nu := nu) (co := co) (yk := upd yk i (yk (i + 1))) (yv := yv) (dr := dr) (kn := kn) (t := i) (f := i + 1) (by omega) (by omega) (by omega)
      refine H _ (nm_e (ih (i + 1) _ yv' (by omega) (by omega) (by omega) (fun j hj hn => ?_) (fun j c hj hn hc => ?_)))
      · by_cases z : j = i
        · subst z; rw [pk_us, hk _ (by omega) (by omega), zt_td_s h1, zt_td_n h1]
        · rw [pk_un z, hk j hj z, zt_td_o z]
      · by_cases z : j = i
        · subst z; rw [g1 c hc, hx _ c (by omega) (by omega) hc, zt_td_s h1, zt_td_n h1]
        · rw [g2 _ (by omega), hx j c hj z hc, zt_td_o z]
end
theorem i_vc_delete {k : Nat} {u : SX} {v : SY} (I : i_Rel k u v) (hk : k + 5 ≤ 2560) (v1 : Int32) (v2 : Int32) : wpX_delete (fun r u' => wpY_delete (fun r' v' => r' = r ∧ i_Rel (k + 5) u' v') v v1 v2) u v1 v2 := by
  refine zt_el (Q := fun u v => wpX_delete (fun r u' => wpY_delete (fun r' v' => r' = r ∧ i_Rel (k + 5) u' v') v v1 v2) u v1 v2) ?_ I
  intro nv nr h P K X Z C fw pa ki cx cz nu co xk xv bs dr ca la wy cl yk yv kn R
  have hnv := zt_nv R.1
  obtain ⟨T, A, hr, hh, k1, k2, hR⟩ := id R
  unfold wpX_delete wpY_delete
  rcases zt_bad_or (n := nv) (by omega) v1 with hb | ⟨w, hw, rfl⟩
  · exact zx_isv0 hb (br_t rfl (zy_isv0 hb hnv.1 hnv.2 (br_t rfl ⟨rfl, zt_in R⟩)))
  · refine zx_isv1 hw hnv.2 (br_f (by decide) ?_)
    rcases zt_bad_or (n := 100) (by omega) v2 with hb | ⟨q, hq, rfl⟩
    · by_cases z : v2 < 0
      · exact br_t z (zy_isv1 hw hnv.2 (br_f (by decide) (zy_in0 (n := 100) (by omega) (by omega) hb rfl (br_t rfl ⟨rfl, zt_in R⟩))))
      · have hz : ¬ v2 ≤ 99 := by
          obtain ⟨j, hj, e⟩ := nI_of z
          subst e
          have := (nI_leI (by omega) hj).mp (hb.resolve_left z)
          exact nI_ge (a := 99) (by omega) hj
        exact br_f z (br_f hz (zy_isv1 hw hnv.2 (br_f (by decide) (zy_in0 (n := 100) (by omega) (by omega) hb rfl (br_t rfl ⟨rfl, zt_in R⟩)))))
    · refine br_f (nI_pos (by omega)) (br_t (nI_le (a := q) (b := 99) (by omega) (by omega)) ?_)
      rcases zt_find (nI q) hr k1 with ⟨r, hr', fX, fY⟩ | ⟨fX, fY⟩
      · refine fX _ (br_f (nI_pos (by omega)) ?_)
        refine zx_look T A (by omega) hh hw (hR r hr') (fun s ca' la' wy' cl' g1 g2 => br_f (by decide) ?_) (fun s ca' la' wy' cl' => br_t rfl ?_)
        · obtain ⟨m, rfl⟩ : ∃ m, nr = m + 1 := ⟨nr - 1, by omega⟩
          refine ⟨m + 1, zx_del45 (r := r) (xk0 := xk) (xv0 := xv) (bs0 := bs) (by omega) (fun xk' xv' bs' a1 a2 a3 a4 => ?_) (m + 1) r xk xv bs (by omega) (by omega) (by omega) (fun j hj => k2 j (by omega)) (fun j hj hn => by rw [zt_td_0]) (fun j c hj hn hc => by rw [zt_td_0]) (fun j e hj hn he => by rw [zt_td_0])⟩
          refine zy_isv1 hw hnv.2 (br_f (by decide) (zy_in1 (n := 100) (by omega) hq rfl (br_f (by decide) (fY _ (br_f (nI_pos (by omega)) ?_)))))
          refine zy_isShown T A (by omega) hw (fun _ => br_f (by decide) ?_) (fun z => absurd s z)
          refine ⟨m + 1, zy_del46 (r := r) (yk0 := yk) (yv0 := yv) (by omega) (fun yk' yv' b1 b2 => ⟨rfl, ?_⟩) (m + 1) r yk yv (by omega) (by omega) (by omega) (fun j hj hn => by rw [zt_td_0]) (fun j c hj hn hc => by rw [zt_td_0])⟩
          refine zt_in ⟨T, A, by omega, hh, fun j hj => ?_, a2, fun j hj => ?_⟩
          · have hl := zt_td_lt (r := r) (i := m) hj (by omega)
            rw [a1 j hj, b1 j hj, k1 _ hl]
          · have hl := zt_td_lt (r := r) (i := m) hj (by omega)
            refine zt_Rw_F T hh (fun a d ha hd => ?_) (zt_Rw_c T hh (fun c hc => a3 j c hj hc) (fun e he => a4 j e hj he) (hR _ hl))
            show yv' (40 * j + 5 * a + d) = yv (40 * zt_td r m j + 5 * a + d)
            rw [Nat.add_assoc, Nat.add_assoc]
            exact b2 j (5 * a + d) hj (by omega)
        · refine zy_isv1 hw hnv.2 (br_f (by decide) (zy_in1 (n := 100) (by omega) hq rfl (br_f (by decide) (fY _ (br_f (nI_pos (by omega)) ?_)))))
          exact zy_isShown T A (by omega) hw (fun z => absurd z s) (fun _ => br_t rfl ⟨rfl, zt_in R⟩)
      · refine fX _ (br_t (by decide) ?_)
        exact zy_isv1 hw hnv.2 (br_f (by decide) (zy_in1 (n := 100) (by omega) hq rfl (br_f (by decide) (fY _ (br_t (by decide) ⟨rfl, zt_in R⟩)))))
end
section
/-! insert: loops of both sides -/
theorem zt_pos (kk : Nat → Int32) (key : Int32) : ∀ n, ∃ p, p ≤ n ∧ (∀ j, p ≤ j → j < n → ¬ kk j ≤ key) ∧ (0 < p → kk (p - 1) ≤ key)
  | 0 => ⟨0, Nat.le_refl _, fun j _ h => by omega, fun h => by omega⟩
  | n + 1 => by
    by_cases z : kk n ≤ key
    · exact ⟨n + 1, Nat.le_refl _, fun j h1 h2 => by omega, fun _ => z⟩
    · obtain ⟨p, h1, h2, h3⟩ := zt_pos kk key n
      refine ⟨p, by omega, fun j a b => ?_, h3⟩
      by_cases e : j = n
      · rw [e]; exact z
      · exact h2 j a (by omega)
def zt_ti (n i j : Nat) : Nat := if j < i then j else if j = i then n else j - 1
theorem zt_ti_0 {n j : Nat} (h : j ≤ n) : zt_ti n n j = j := by
  unfold zt_ti
  by_cases e : j < n
  · rw [if_pos e]
  · rw [if_neg e, if_pos (by omega)]; omega
theorem zt_ti_l {n i j : Nat} (h : j < i) : zt_ti n i j = j := by unfold zt_ti; rw [if_pos h]
theorem zt_ti_e (n i : Nat) : zt_ti n i i = n := by unfold zt_ti; rw [if_neg (by omega), if_pos rfl]
theorem zt_ti_g {n i j : Nat} (h : i < j) : zt_ti n i j = j - 1 := by unfold zt_ti; rw [if_neg (by omega), if_neg (by omega)]
theorem zt_ti_o {n i j : Nat} (h1 : j ≠ i) (h2 : j ≠ i + 1) : zt_ti n i j = zt_ti n (i + 1) j := by
  rcases Nat.lt_or_ge j i with a | a
  · rw [zt_ti_l a, zt_ti_l (by omega)]
  · rw [zt_ti_g (by omega), zt_ti_g (by omega)]
theorem zt_ti_lt {n i j : Nat} (h : j ≤ n) (hn : j ≠ i) (hi : i ≤ n) : zt_ti n i j < n := by
  rcases Nat.lt_or_ge j i with a | a
  · rw [zt_ti_l a]; omega
  · rw [zt_ti_g (by omega)]; omega
section
variable {nv : Nat} {P K X Z C : Nat → Nat}
variable {fv fh fr fw : Int32} {pa ki cx cz nu co xk xv bs dr ca la wy cl yk yv kn : Nat → Int32}
theorem zx_so7 {post : SX → Prop} {m p : Nat} {key : Int32} {xk0 xv0 bs0 : Nat → Int32} (hm : m < 12) (hkey : xk0 m = key) (hp1 : ∀ j, p ≤ j → j < m → ¬ xk0 j ≤ key) (hp2 : 0 < p → xk0 (p - 1) ≤ key) (J : ∀ xk' xv' bs', (∀ j, j ≤ m → xk' j = xk0 (zt_ti m p j)) → (∀ j, j ≤ m → ∃ q, q < 128 ∧ xk' j = nI q) → (∀ j c, j ≤ m → c < 5 → xv' (5 * j + c) = xv0 (5 * zt_ti m p j + c)) → (∀ j e, j ≤ m → e < 8 → bs' (8 * j + e) = bs0 (8 * zt_ti m p j + e)) → post (fv, fh, fr, fw, pa, ki, cx, cz, nu, co, xk', xv', bs', dr, ca, la, wy, cl)) :
    ∀ n i xk xv bs, p ≤ i → i ≤ m → i - p < n → (∀ j, j ≤ m → ∃ q, q < 128 ∧ xk j = nI q) → (∀ j, j ≤ m → xk j = xk0 (zt_ti m i j)) → (∀ j c, j ≤ m → c < 5 → xv (5 * j + c) = xv0 (5 * zt_ti m i j + c)) → (∀ j e, j ≤ m → e < 8 → bs (8 * j + e) = bs0 (8 * zt_ti m i j + e)) → wX_sortLast_7 post n (nI i) fv fh fr fw pa ki cx cz nu co xk xv bs dr ca la wy cl := by
  intro n
  induction n with
  | zero => intro i xk xv bs h1 h2 h3; omega
  | succ n ih =>
    intro i xk xv bs h1 h2 h3 hq hk hx hb
    refine pk_le i 0 (fun q => ?_) (fun q => ?_)
    · have e1 : p = i := by omega
      subst e1
      exact J xk xv bs hk hq hx hb
    · obtain ⟨i, rfl⟩ : ∃ k, i = k + 1 := ⟨i - 1, by omega⟩
      rw [nI_pred]
      refine And.intro (vp_in_nI (by omega) (by omega)) (And.intro (vp_in_nI (by omega) (by omega)) ?_)
      rw [nI_clamp (by omega), nI_clamp (by omega), hk i (by omega), hk (i + 1) h2, zt_ti_l (by omega), zt_ti_e, hkey]
      by_cases e : p = i + 1
      · subst e
        exact br_t (hp2 (by omega)) (J xk xv bs hk hq hx hb)
      · refine br_f (hp1 i (by omega) (by omega)) ?_
        refine zx_xrows (by omega) (by omega) (by omega) (hq (i + 1) (by omega)) (hq i (by omega)) (fun xk' xv' bs' g1 g2 g3 => ?_)
        have ts : ∀ j, zt_ti m (i + 1) (zt_sw (i + 1) i j) = zt_ti m i j := fun j => by
          by_cases z : j = i + 1
          · subst z; rw [zt_sw_l, zt_ti_l (by omega), zt_ti_g (by omega)]; rfl
          · by_cases z1 : j = i
            · subst z1; rw [zt_sw_r, zt_ti_e, zt_ti_e]
            · rw [zt_sw_n z z1, zt_ti_o z1 z]
        have tl : ∀ j, j ≤ m → zt_sw (i + 1) i j ≤ m := fun j hj => by
          by_cases z : j = i + 1
          · subst z; rw [zt_sw_l]; omega
          · by_cases z1 : j = i
            · subst z1; rw [zt_sw_r]; omega
            · rw [zt_sw_n z z1]; exact hj
        refine nm_r (pk_m1 i) (ih i xk' xv' bs' (by omega) (by omega) (by omega) (fun j hj => ?_) (fun j hj => ?_) (fun j c hj hc => ?_) (fun j e hj he => ?_))
        · rw [g1 j]; exact hq _ (tl j hj)
        · rw [g1 j, hk _ (tl j hj), ts]
        · rw [g2 j c hc, hx _ c (tl j hj) hc, ts]
        · rw [g3 j e he, hb _ e (tl j hj) he, ts]
theorem zy_in106 {post : Int32 → SY → Prop} {m p : Nat} {key : Int32} {yk0 yv0 : Nat → Int32} (hm : m < 12) (hpm : p ≤ m) (hp1 : ∀ j, p ≤ j → j < m → ¬ yk0 j ≤ key) (hp2 : 0 < p → yk0 (p - 1) ≤ key) (J : ∀ yk' yv', yk' p = key → (∀ j, j ≤ m → j ≠ p → yk' j = yk0 (zt_ti m p j)) → (∀ c, c < 40 → yv' (40 * p + c) = yv0 (480 + c)) → (∀ j c, j ≤ m → j ≠ p → c < 40 → yv' (40 * j + c) = yv0 (40 * zt_ti m p j + c)) → post (nI (m + 1)) (fv, nI (m + 1), pa, ki, cx, cz, nu, co, yk', yv', dr, kn)) :
    ∀ n i s yk yv, p ≤ i → i ≤ m → s ≤ 12 → i - p + s ≤ 12 → 12 - s < n → (∀ j, j ≤ m → j ≠ i → yk j = yk0 (zt_ti m i j)) → (∀ j c, j ≤ m → j ≠ i → c < 40 → yv (40 * j + c) = yv0 (40 * zt_ti m i j + c)) → (∀ c, c < 40 → yv (480 + c) = yv0 (480 + c)) → wY_insert_106 post key n (nI i) (nI s) fv (nI m) pa ki cx cz nu co yk yv dr kn := by
  intro n
  induction n with
  | zero => intro i s yk yv h1 h2 h3 h4 h5; omega
  | succ n ih =>
    intro i s yk yv h1 h2 h3 h4 h5 hk hx h12
    refine pk_le 12 s (fun q => ?_) (fun q => ?_)
    · have e1 : p = i := by omega
      subst e1
      refine And.intro (vp_in_nI (by omega) (by omega)) (nm_r (e' := upd yk p key) (by rw [nI_clamp (by omega)]) ?_)
      obtain ⟨yv', ⟨g1, g2⟩, H⟩ := zy_copy (fv := fv) (fr := nI m) (pa := pa) (ki := ki) (cx := cx) (cz := cz) (nu := nu) (co := co) (yk := upd yk p key) (yv := yv) (dr := dr) (kn := kn) (t := p) (f := 12) (by omega) (by omega) (by omega)
      refine H _ (nm_r (nI_1 m) (J _ yv' pk_us (fun j hj hn => ?_) (fun c hc => ?_) (fun j c hj hn hc => ?_)))
      · rw [pk_un hn]; exact hk j hj hn
      · rw [g1 c hc]; exact h12 c hc
      · rw [g2 _ (by omega)]; exact hx j c hj hn hc
    · have skip : p = i → wY_insert_106 post key n (nI i) (nI (s + 1)) fv (nI m) pa ki cx cz nu co yk yv dr kn := fun e => ih i (s + 1) yk yv h1 h2 (by omega) (by omega) (by omega) hk hx h12
      refine pk_le i 0 (fun z => nm_r (nI_1 s) (skip (by omega))) (fun z => ?_)
      obtain ⟨i, rfl⟩ : ∃ k, i = k + 1 := ⟨i - 1, by omega⟩
      have v1 : vp_in (nI i) 12 := vp_in_nI (by omega) (by omega)
      rw [nI_pred]
      refine And.intro v1 ?_
      rw [nI_clamp (by omega), hk i (by omega) (by omega), zt_ti_l (by omega)]
      by_cases e : p = i + 1
      · have h6 := hp2 (by omega)
        rw [e] at h6
        exact br_t h6 (nm_r (nI_1 s) (skip e))
      · refine br_f (hp1 i (by omega) (by omega)) ?_
        refine And.intro v1 (And.intro (vp_in_nI (by omega) (by omega)) (nm_r (e' := upd yk (i + 1) (yk0 i)) (by rw [nI_clamp (by omega)]) ?_))
        obtain ⟨yv', ⟨g1, g2⟩, H⟩ := zy_copy (fv := fv) (fr := nI m) (pa := pa) (ki := ki) (cx := cx) (cz := cz) (nu := nu) (co := co) (yk := upd yk (i + 1) (yk0 i)) (yv := yv) (dr := dr) (kn := kn) (t := i + 1) (f := i) (by omega) (by omega) (by omega)
        refine H _ (nm_r (pk_m1 i) (nm_r (nI_1 s) (ih i (s + 1) _ yv' (by omega) (by omega) (by omega) (by omega) (by omega) (fun j hj hn => ?_) (fun j c hj hn hc => ?_) (fun c hc => ?_))))
        · by_cases w : j = i + 1
          · subst w; rw [pk_us, zt_ti_g (by omega)]; rfl
          · rw [pk_un w, hk j hj w, zt_ti_o hn w]
        · by_cases w : j = i + 1
          · subst w
            rw [g1 c hc, hx i c (by omega) (by omega) hc, zt_ti_l (by omega), zt_ti_g (by omega)]; rfl
          · rw [g2 _ (by omega), hx j c hj w hc, zt_ti_o hn w]
        · rw [g2 _ (by omega)]; exact h12 c hc
theorem zx_in110 {post : Int32 → SX → Prop} {x1 x2 x3 : Int32} (J : ∀ m ca', (∀ c, c < 5 → ca' c = dr c) → wX_insert_110 post x1 x2 x3 fv fh fr fw (m + 1) (nI 5) pa ki cx cz nu co xk xv bs dr ca' la wy cl) : ∀ n i ca, i ≤ 5 → 5 - i < n → (∀ c, c < i → ca c = dr c) → wX_insert_110 post x1 x2 x3 fv fh fr fw n (nI i) pa ki cx cz nu co xk xv bs dr ca la wy cl := by
  intro n
  induction n with
  | zero => intro i ca h1 h2; omega
  | succ n ih =>
    intro i ca h1 h2 h3
    rcases Nat.lt_or_ge i 5 with q | q
    · refine br_f (nI_ge (a := i) (b := 5) q (by omega)) ?_
      refine And.intro (vp_in_nI (by omega) (by omega)) (And.intro (vp_in_nI (by omega) (by omega)) (nm_e (nm_r (nI_1 i) ?_)))
      rw [nI_clamp (by omega)]
      refine ih (i + 1) _ (by omega) (by omega) (fun c hc => ?_)
      by_cases z : c = i
      · subst z; rw [pk_us]
      · rw [pk_un z]; exact h3 c (by omega)
    · have e : i = 5 := by omega
      subst e
      exact J n ca h3
theorem zx_in51 {post : Int32 → SX → Prop} {x2 : Int32} {v m : Nat} {bs0 : Nat → Int32} (hm : m < 12) (hv : v < 8) (hco : co v = nI (C v)) (J : ∀ n bs' la' ca', (∀ j, j < 8 * m → bs' j = bs0 j) → (∀ e, e < 8 → bs' (8 * m + e) = nu e) → (∀ e, e < 8 → la' e = nu e) → (∀ c, c < 5 → ca' c = dr c) → wX_insert_110 post (nI v) x2 (nI m) fv fh fr (nI (C v)) (n + 1) (nI 5) pa ki cx cz nu co xk xv bs' dr ca' la' wy cl) : ∀ n i bs la, i ≤ 8 → 8 - i < n → (∀ j, j < 8 * m → bs j = bs0 j) → (∀ e, e < i → bs (8 * m + e) = nu e) → (∀ e, e < i → la e = nu e) → wX_insert_51 post (nI v) x2 (nI m) fv fh fr fw n (nI i) pa ki cx cz nu co xk xv bs dr ca la wy cl := by
  intro n
  induction n with
  | zero => intro i bs la h1 h2; omega
  | succ n ih =>
    intro i bs la h1 h2 h3 h4 h5
    refine pk_le 8 i (fun q => ?_) (fun q => ?_)
    · refine And.intro (vp_in_nI hv (by omega)) (nm_r (e' := nI (C v)) (by rw [nI_clamp (by omega), hco]) ⟨6, ?_⟩)
      exact zx_in110 (fun n ca' hca => J n bs la ca' h3 (fun e he => h4 e (by omega)) (fun e he => h5 e (by omega)) hca) 6 0 ca (by omega) (by omega) (fun c hc => by omega)
    · have h8 : vp_in (nI i) 8 := vp_in_nI q (by omega)
      rw [zt_i8]
      refine And.intro h8 (And.intro (vp_in_nI (by omega) (by omega)) (nm_e (And.intro h8 (And.intro h8 (nm_e (nm_r (nI_1 i) ?_))))))
      rw [nI_clamp (by omega), nI_clamp (by omega)]
      refine ih (i + 1) _ _ (by omega) (by omega) (fun j hj => ?_) (fun e he => ?_) (fun e he => ?_)
      · rw [pk_un (by omega)]; exact h3 j hj
      · by_cases z : e = i
        · subst z; rw [pk_us]
        · rw [pk_un (by omega)]; exact h4 e (by omega)
      · by_cases z : e = i
        · subst z; rw [pk_us]
        · rw [pk_un z]; exact h5 e (by omega)
theorem zy_in46 {x2 : Int32} {v : Nat} {yv0 : Nat → Int32} (hv : v < 8) : ∀ n i yv, i ≤ 5 → 5 - i < n → (∀ c, c < i → yv (480 + 5 * v + c) = dr c) → (∀ j, j < 480 → yv j = yv0 j) → ∃ yv', ((∀ c, c < 5 → yv' (480 + 5 * v + c) = dr c) ∧ (∀ j, j < 480 → yv' j = yv0 j)) ∧ ∀ post : Int32 → SY → Prop, (∀ m, wY_insert_46 post (nI v) x2 fv fr (m + 1) (nI 5) pa ki cx cz nu co yk yv' dr kn) → wY_insert_46 post (nI v) x2 fv fr n (nI i) pa ki cx cz nu co yk yv dr kn := by
  intro n
  induction n with
  | zero => intro i yv h1 h2; omega
  | succ n ih =>
    intro i yv h1 h2 h3 h4
    rcases Nat.lt_or_ge i 5 with q | q
    · obtain ⟨yv', f, H⟩ := ih (i + 1) (upd yv (480 + 5 * v + i) (dr i)) (by omega) (by omega) (fun c hc => by
        by_cases z : c = i
        · subst z; rw [pk_us]
        · rw [pk_un (by omega)]; exact h3 c (by omega)) (fun j hj => by rw [pk_un (by omega)]; exact h4 j hj)
      refine ⟨yv', f, fun post hp => br_f (nI_ge (a := i) (b := 5) q (by omega)) ?_⟩
      rw [zt_i480, nI_add]
      refine And.intro (vp_in_nI (by omega) (by omega)) (And.intro (vp_in_nI (by omega) (by omega)) (nm_e (nm_r (nI_1 i) ?_)))
      rw [nI_clamp (by omega), nI_clamp (by omega)]
      exact H post hp
    · have e : i = 5 := by omega
      subst e
      exact ⟨yv, ⟨h3, h4⟩, fun post hp => hp n⟩
end
end
section
/-! insert -/
theorem i_vc_insert {k : Nat} {u : SX} {v : SY} (I : i_Rel k u v) (hk : k + 5 ≤ 2560) (v1 : Int32) (v2 : Int32) : wpX_insert (fun r u' => wpY_insert (fun r' v' => r' = r ∧ i_Rel (k + 5) u' v') v v1 v2) u v1 v2 := by
  refine zt_el (Q := fun u v => wpX_insert (fun r u' => wpY_insert (fun r' v' => r' = r ∧ i_Rel (k + 5) u' v') v v1 v2) u v1 v2) ?_ I
  intro nv nr h P K X Z C fw pa ki cx cz nu co xk xv bs dr ca la wy cl yk yv kn R
  have hnv := zt_nv R.1
  obtain ⟨T, A, hr, hh, k1, k2, hR⟩ := id R
  unfold wpX_insert wpY_insert
  rcases zt_bad_or (n := nv) (by omega) v1 with hb | ⟨w, hw, rfl⟩
  · exact zx_isv0 hb (br_t rfl (zy_isv0 hb hnv.1 hnv.2 (br_t rfl ⟨rfl, zt_in R⟩)))
  · have hcw := zt_C T hw
    have hco := (A w).2.2.2.2
    refine zx_isv1 hw hnv.2 (br_f (by decide) ?_)
    rcases zt_bad_or (n := 100) (by omega) v2 with hb | ⟨q, hq, rfl⟩
    · by_cases z : v2 < 0
      · exact br_t z (zy_isv1 hw hnv.2 (br_f (by decide) (zy_in0 (n := 100) (by omega) (by omega) hb rfl (br_t rfl ⟨rfl, zt_in R⟩))))
      · have hz : ¬ v2 ≤ 99 := by
          obtain ⟨j, hj, e⟩ := nI_of z
          subst e
          have := (nI_leI (by omega) hj).mp (hb.resolve_left z)
          exact nI_ge (a := 99) (by omega) hj
        exact br_f z (br_f hz (zy_isv1 hw hnv.2 (br_f (by decide) (zy_in0 (n := 100) (by omega) (by omega) hb rfl (br_t rfl ⟨rfl, zt_in R⟩)))))
    · refine br_f (nI_pos (by omega)) (br_t (nI_le (a := q) (b := 99) (by omega) (by omega)) ?_)
      rcases zt_find (nI q) hr k1 with ⟨r, hr', fX, fY⟩ | ⟨fX, fY⟩
      · refine fX _ (br_f (nI_pos (by omega)) ?_)
        exact zy_isv1 hw hnv.2 (br_f (by decide) (zy_in1 (n := 100) (by omega) hq rfl (br_f (by decide) (fY _ (br_f (nI_pos (by omega)) ⟨rfl, zt_in R⟩)))))
      · refine fX _ (br_t (by decide) ?_)
        rcases Nat.lt_or_ge nr 12 with hm | hm
        · refine br_t (nI_lt (b := 12) hm (by omega)) ?_
          have h12 : ¬ nI nr = 12 := fun z => by have := (nI_eq (b := 12) (by omega) (by omega)).mp z; omega
          have h55 : (5 : Int32) ≤ nI 5 := nI_le (a := 5) (b := 5) (by omega) (by omega)
          obtain ⟨yv1, ⟨a1, a2⟩, H1⟩ := zy_in46 (fv := nI nv) (fr := nI nr) (pa := pa) (ki := ki) (cx := cx) (cz := cz) (nu := nu) (co := co) (yk := yk) (dr := dr) (kn := kn) (x2 := nI q) (v := w) (yv0 := yv) (by omega) 6 0 yv (by omega) (by omega) (fun c hc => by omega) (fun _ _ => rfl)
          obtain ⟨yv3, kn3, ⟨b1, b2, b3, b4⟩, H3⟩ := zy_carry (fr := nI nr) (nu := nu) (yk := yk) (dr := dr) (kn := kn) (yv := yv1) T A (r := 12) (v := w) (b := 1) (by omega) hw (by omega)
          have c2 : ∀ c, c < 5 → zt_F yv3 12 w c = dr c := fun c hc => (b2 c hc).trans (a1 c hc)
          have c3 : ∀ e, 0 < e → e < nv → zt_nd P K w e → zt_fr P K X C (zt_F yv3 12) e = nu e := fun e e0 he hd => by rw [b3 e e0 he hd, if_neg (by decide)]
          have c4 : ∀ j, j < 480 → yv3 j = yv j := fun j hj => by rw [b4 j (by omega), a2 j hj]
          refine ⟨9, zx_in51 (bs0 := bs) hm (by omega) hco (fun n bs1 la1 ca1 s1 s2 s3 s4 => br_t h55 ?_) 9 0 bs la (by omega) (by omega) (fun _ _ => rfl) (fun e he => by omega) (fun e he => by omega)⟩
          have ag : zt_Ag (C w) ca1 (zt_F yv3 12 w) := fun d hd => by rw [c2 d (by omega), s4 d (by omega)]
          have hb3 : ∀ e, 0 < e → e < nv → zt_nd P K w e → zt_nd P K h e → bs1 (8 * nr + e) = zt_fr P K X C (zt_F yv3 12) e := fun e e0 he h1 h2 => by rw [c3 e e0 he h1, s2 e (by omega)]
          have hl3 : ∀ e, 0 < e → e < nv → zt_nd P K w e → ¬ zt_nd P K h e → la1 e = zt_fr P K X C (zt_F yv3 12) e := fun e e0 he h1 h2 => by rw [c3 e e0 he h1, s3 e (by omega)]
          refine zx_isShown T A (by omega) hh hw b1 ag hb3 hl3 (fun sh cl3 => br_f (by decide) ?_) (fun sh cl3 => br_t rfl ?_)
          · refine zx_carry (m := 1) T A (by omega) (by omega) hw hh b1 ag (fun e e0 he h1 h2 => hl3 e e0 he h1 h2) (fun ca4 bs4 la4 wy4 d1 d2 d3 => ?_)
            refine zx_store (by omega) (fun xv4 t1 t2 => ?_)
            refine And.intro (vp_in_nI hm (by omega)) (nm_r (e' := upd xk nr (nI q)) (by rw [nI_clamp (by omega), zt_nb (by omega)]) (nm_r (nI_1 nr) ?_))
            obtain ⟨p, hpm, hp1, hp2⟩ := zt_pos xk (nI q) nr
            refine nm_r (nI_pred nr) ⟨nr + 1, ?_⟩
            refine zx_so7 (p := p) (key := nI q) (xk0 := upd xk nr (nI q)) (xv0 := xv4) (bs0 := bs4) hm pk_us (fun j h1 h2 => ?_) (fun h0 => ?_) (fun xk5 xv5 bs5 e1 e2 e3 e4 => ?_) (nr + 1) nr _ xv4 bs4 hpm (by omega) (by omega) (fun j hj => ?_) (fun j hj => by rw [zt_ti_0 hj]) (fun j c hj hc => by rw [zt_ti_0 hj]) (fun j e hj he => by rw [zt_ti_0 hj])
            · rw [pk_un (by omega)]; exact hp1 j h1 h2
            · rw [pk_un (by omega)]; exact hp2 h0
            · refine zy_isv1 hw hnv.2 (br_f (by decide) (zy_in1 (n := 100) (by omega) hq rfl (br_f (by decide) (fY _ (br_t (by decide) (br_f h12 ⟨6, H1 _ (fun m => br_t h55 (H3 _ ?_))⟩))))))
              refine zy_isShown T A (r := 12) (by omega) hw (fun _ => br_f (by decide) ⟨13, ?_⟩) (fun z => absurd sh z)
              refine zy_in106 (p := p) (yk0 := yk) (yv0 := yv3) hm hpm (fun j h1 h2 => ?_) (fun h0 => ?_) (fun yk6 yv6 f1 f2 f3 f4 => ⟨rfl, ?_⟩) 13 nr 0 yk yv3 hpm (by omega) (by omega) (by omega) (by omega) (fun j hj hn => by rw [zt_ti_0 hj]) (fun j c hj hn hc => by rw [zt_ti_0 hj]) (fun _ _ => rfl)
              · rw [← k1 j h2]; exact hp1 j h1 h2
              · rw [← k1 (p - 1) (by omega)]; exact hp2 h0
              · refine zt_in ⟨T, A, by omega, hh, fun j hj => ?_, fun j hj => e2 j (by omega), fun j hj => ?_⟩
                · rw [e1 j (by omega)]
                  by_cases z : j = p
                  · subst z; rw [zt_ti_e, pk_us, f1]
                  · have hl := zt_ti_lt (n := nr) (i := p) (j := j) (by omega) z hpm
                    rw [pk_un (by omega), f2 j (by omega) z, k1 _ hl]
                · by_cases z : j = p
                  · subst z
                    refine zt_Rw_F T hh (fun a d ha hd => ?_) (zt_Rw_c T hh (fun c hc => ?_) (fun e he => ?_) (zt_Rw_r T hh b1 d1 d2 d3 hb3 t1))
                    · show yv6 (40 * j + 5 * a + d) = yv3 (480 + 5 * a + d)
                      rw [Nat.add_assoc, Nat.add_assoc]
                      exact f3 (5 * a + d) (by omega)
                    · rw [e3 j c (by omega) hc, zt_ti_e]
                    · rw [e4 j e (by omega) he, zt_ti_e]
                  · have hl := zt_ti_lt (n := nr) (i := p) (j := j) (by omega) z hpm
                    refine zt_Rw_F T hh (fun a d ha hd => ?_) (zt_Rw_c T hh (fun c hc => ?_) (fun e he => ?_) (hR _ hl))
                    · show yv6 (40 * j + 5 * a + d) = yv (40 * zt_ti nr p j + 5 * a + d)
                      rw [← c4 _ (by omega), Nat.add_assoc, Nat.add_assoc]
                      exact f4 j (5 * a + d) (by omega) z (by omega)
                    · rw [e3 j c (by omega) hc, t2 _ (by omega)]
                    · rw [e4 j e (by omega) he, d2.2.2.1 _ (by omega), s1 _ (by omega)]
            · by_cases z : j = nr
              · rw [z, pk_us]; exact ⟨q, by omega, rfl⟩
              · rw [pk_un z]; exact k2 j (by omega)
          · refine zy_isv1 hw hnv.2 (br_f (by decide) (zy_in1 (n := 100) (by omega) hq rfl (br_f (by decide) (fY _ (br_t (by decide) (br_f h12 ⟨6, H1 _ (fun m => br_t h55 (H3 _ ?_))⟩))))))
            refine zy_isShown T A (r := 12) (by omega) hw (fun z => absurd z sh) (fun _ => br_t rfl ⟨rfl, ?_⟩)
            refine zt_in ⟨T, A, hr, hh, k1, k2, fun r2 hr2 => zt_Rw_F T hh (fun a d ha hd => ?_) (zt_Rw_c T hh (fun c hc => rfl) (fun e he => s1 _ (by omega)) (hR r2 hr2))⟩
            show yv3 (40 * r2 + 5 * a + d) = yv (40 * r2 + 5 * a + d)
            rw [c4 _ (by omega)]
        · refine br_f (nI_nlt (b := 12) (by omega) (by omega)) ?_
          have h12 : nI nr = 12 := by rw [show nr = 12 by omega]; rfl
          exact zy_isv1 hw hnv.2 (br_f (by decide) (zy_in1 (n := 100) (by omega) hq rfl (br_f (by decide) (fY _ (br_t (by decide) (br_t h12 ⟨rfl, zt_in R⟩))))))
end
