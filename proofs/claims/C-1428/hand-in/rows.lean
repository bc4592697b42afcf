section
theorem pk_us {f : Nat → Int32} {k : Nat} {x : Int32} : upd f k x k = x := if_pos rfl
theorem pk_un {f : Nat → Int32} {k j : Nat} {x : Int32} (h : j ≠ k) : upd f k x j = f j := if_neg h
theorem pk_sub {a b : Nat} (h : b ≤ a) : nI a - nI b = nI (a - b) := by
  obtain ⟨c, rfl⟩ : ∃ c, a = c + b := ⟨a - b, by omega⟩
  rw [← nI_add, Int32.add_sub_cancel, Nat.add_sub_cancel]
theorem pk_m1 (n : Nat) : nI (n + 1) + (-1) = nI n := by
  rw [← nI_1, Int32.add_assoc, show (1 : Int32) + (-1) = 0 from rfl, Int32.add_zero]
theorem pk_mul (a b : Nat) : nI a * nI b = nI (a * b) := (Int32.ofNat_mul a b).symm
theorem pk_div {a d : Nat} (ha : a < 2 ^ 31) (h0 : 0 < d) (hd : d < 2 ^ 31) : nI a / nI d = nI (a / d) := by
  apply Int32.toInt_inj.mp
  rw [lg_idiv_nonneg (by rw [nI_toInt ha]; omega) (by rw [nI_toInt hd]; omega), nI_toInt ha, nI_toInt hd, nI_toInt (Nat.lt_of_le_of_lt (Nat.div_le_self a d) ha)]
  first | rfl | exact (Int.natCast_ediv _ _).symm
theorem pk_rem {a d : Nat} (ha : a < 2 ^ 31) (h0 : 0 < d) (hd : d < 2 ^ 31) : nI a - nI a / nI d * nI d = nI (a % d) := by
  rw [pk_div ha h0 hd, pk_mul, pk_sub (Nat.div_mul_le_self a d)]
  exact congrArg nI (by have := Nat.div_add_mod' a d; omega)
theorem pk_sub_toInt {a b : Nat} (ha : a < 2 ^ 30) (hb : b < 2 ^ 30) : (nI a - nI b).toInt = (a : Int) - b := by
  rw [Int32.toInt_sub, nI_toInt (by omega), nI_toInt (by omega)]
  exact Int.bmod_eq_of_le (by omega) (by omega)
theorem pk_sneg {a b : Nat} (hb : b < 2 ^ 30) (h : a < b) : nI a - nI b < 0 := by
  rw [Int32.lt_iff_toInt_lt, pk_sub_toInt (by omega) hb, show (0 : Int32).toInt = 0 from by decide]
  omega
theorem pk_ix (x : Int32) {n : Nat} (hn : n < 2 ^ 31) : x < 0 ∨ nI n ≤ x ∨ ∃ j : Nat, j < n ∧ x = nI j := by
  by_cases h : x < 0
  · exact Or.inl h
  · obtain ⟨j, hj, rfl⟩ := nI_of h
    by_cases h2 : j < n
    · exact Or.inr (Or.inr ⟨j, h2, rfl⟩)
    · exact Or.inr (Or.inl (nI_le (by omega) hj))
theorem pk_le {x y : Int32} {A B : Prop} (a b : Nat) (f : a ≤ b → A) (g : b < a → B) (hx : x = nI a := by rfl) (hy : y = nI b := by rfl) (ha : a < 2 ^ 31 := by omega) (hb : b < 2 ^ 31 := by omega) : (x ≤ y → A) ∧ (¬ x ≤ y → B) := by
  subst hx hy
  rw [nI_leI ha hb]
  exact ⟨f, fun z => g (by omega)⟩
theorem pk_lt {x y : Int32} {A B : Prop} (a b : Nat) (f : a < b → A) (g : b ≤ a → B) (hx : x = nI a := by rfl) (hy : y = nI b := by rfl) (ha : a < 2 ^ 31 := by omega) (hb : b < 2 ^ 31 := by omega) : (x < y → A) ∧ (¬ x < y → B) := by
  subst hx hy
  rw [nI_ltI ha hb]
  exact ⟨f, fun z => g (by omega)⟩
theorem pk_eq {x y : Int32} {A B : Prop} (a b : Nat) (f : a = b → A) (g : a ≠ b → B) (hx : x = nI a := by rfl) (hy : y = nI b := by rfl) (ha : a < 2 ^ 31 := by omega) (hb : b < 2 ^ 31 := by omega) : (x = y → A) ∧ (¬ x = y → B) := by
  subst hx hy
  rw [nI_eq ha hb]
  exact ⟨f, g⟩
theorem pk_in {x : Int32} (n N : Nat) (h : n < N) (hx : x = nI n := by rfl) (hN : N < 2 ^ 31 := by omega) : vp_in x N := by
  subst hx
  exact vp_in_nI h hN
theorem pk_cl {x : Int32} (n : Nat) (hx : x = nI n := by rfl) (h : n < 2 ^ 31 := by omega) : x.toNatClampNeg = n := by
  subst hx
  exact nI_clamp h
theorem pk_tn {n : Nat} (h : n < 2 ^ 32) : (nI n).toBitVec.toNat = n := Nat.mod_eq_of_lt h
theorem pk_and (x : Int32) {m : Int32} (k : Nat) (hm : m.toBitVec.toNat = 2 ^ k - 1) : x &&& m = nI (x.toBitVec.toNat % 2 ^ k) := by
  apply Int32.toBitVec_inj.mp
  apply BitVec.eq_of_toNat_eq
  rw [Int32.toBitVec_and, BitVec.toNat_and, hm, Nat.and_two_pow_sub_one_eq_mod]
  show _ = (BitVec.ofNat 32 _).toNat
  rw [BitVec.toNat_ofNat]
  exact (Nat.mod_eq_of_lt (Nat.lt_of_le_of_lt (Nat.mod_le _ _) x.toBitVec.isLt)).symm
theorem pk_andN {n : Nat} (h : n < 2 ^ 32) {m : Int32} (k : Nat) (hm : m.toBitVec.toNat = 2 ^ k - 1) : nI n &&& m = nI (n % 2 ^ k) := by
  rw [pk_and _ k hm, pk_tn h]
theorem pk_shr (a s : Int32) (k : Nat) (hs : (s.toBitVec.smod 32).toNat = k) : (a >>> s).toInt = a.toInt >>> k := by
  show (a.toBitVec.sshiftRight (s.toBitVec.smod 32).toNat).toInt = _
  rw [hs, BitVec.toInt_sshiftRight]
  rfl
theorem pk_shrN {n : Nat} (h : n < 2 ^ 31) (s : Int32) (k : Nat) (hs : (s.toBitVec.smod 32).toNat = k) : nI n >>> s = nI (n / 2 ^ k) := by
  apply Int32.toInt_inj.mp
  have h2 : n / 2 ^ k ≤ n := Nat.div_le_self _ _
  rw [pk_shr _ _ k hs, nI_toInt h, nI_toInt (by omega), Int.shiftRight_eq_div_pow]
  rfl
theorem pk_vb (z : Int32) : vp_nar .byte z.toInt8.toInt32 = z.toInt8.toInt32 := by rw [vp_nar_byte]; simp
theorem pk_vs (z : Int32) : vp_nar .short z.toInt16.toInt32 = z.toInt16.toInt32 := by rw [vp_nar_short]; simp
theorem pk_loop {σ : Type} (W : Nat → Nat → σ → Prop) (I : Nat → σ → Prop) (e i0 : Nat) (s : σ) (hi : i0 ≤ e) (h0 : I i0 s) (hx : ∀ n s, I e s → W (n + 1) e s)
    (hs : ∀ n i s, i < e → I i s → (∀ s', I (i + 1) s' → W n (i + 1) s') → W (n + 1) i s) : ∃ n, W n i0 s :=
  ⟨e + 1, loop_i W I e hx hs (e + 1) i0 s hi (by omega) h0⟩
theorem pk_least (P : Nat → Prop) (h : ∃ k, P k) : ∃ k, P k ∧ ∀ j, j < k → ¬ P j := by
  obtain ⟨k, hk⟩ := h
  induction k using Nat.strongRecOn with
  | ind k ih =>
    by_cases e : ∃ j, j < k ∧ P j
    · obtain ⟨j, hj, pj⟩ := e
      exact ih j hj pj
    · exact ⟨k, hk, fun j hj pj => e ⟨j, hj, pj⟩⟩
theorem sb_cl0 : (0 : Int32).toNatClampNeg = 0 := by decide
theorem sb_m1 {p : Nat} (h : 0 < p) : nI p + (-1) = nI (p - 1) := by
  obtain ⟨q, rfl⟩ : ∃ q, p = q + 1 := ⟨p - 1, by omega⟩
  exact pk_m1 q
end
section
/-! the pure picture of a tree: R n the cells of node n (key, first, size); le n = 0 an inner node; a level is a list of nodes (least key, node) -/
abbrev tr_C : Type := Nat × Nat × Nat
abbrev tr_N : Type := Nat × Nat
def tr_fx (lo : Nat) : List tr_C → List tr_C
  | [] => []
  | c :: cs => (lo, c.2) :: cs
def tr_it (R : Nat → List tr_C) (le : Nat → Int32) (x : tr_N) : List tr_C := if le x.2 = 0 then tr_fx x.1 (R x.2) else R x.2
def tr_nd (c : tr_C) : tr_N := (c.1, c.2.1)
def tr_is (R : Nat → List tr_C) (le : Nat → Int32) (P : List tr_N) : List tr_C := P.flatMap (tr_it R le)
def tr_lv (R : Nat → List tr_C) (le : Nat → Int32) (r : Nat) : Nat → List tr_N
  | 0 => [(0, r)]
  | d + 1 => (tr_is R le (tr_lv R le r d)).map tr_nd
def tr_i (P : List tr_N) : List Nat := P.map Prod.snd
def tr_ids (R : Nat → List tr_C) (le : Nat → Int32) (r : Nat) : Nat → List Nat
  | 0 => [r]
  | d + 1 => tr_ids R le r d ++ tr_i (tr_lv R le r (d + 1))
def tr_mk (R : Nat → List tr_C) (P : List tr_N) : List Nat := P.flatMap (fun x => 2 * x.1 :: (R x.2).map (fun c => 2 * c.1 + 1))
def tr_hd (e : Int32) : List Nat → Int32
  | [] => e
  | n :: _ => nI n
def tr_ce (nx : Nat → Int32) (e : Int32) : List Nat → Prop
  | [] => True
  | n :: t => nx n = tr_hd e t ∧ tr_ce nx e t
def tr_fl (nx : Nat → Int32) : Int32 → List Nat → Prop
  | _, [] => True
  | u, n :: F => u = nI n ∧ tr_fl nx (nx n) F
section
variable {R R' : Nat → List tr_C} {le le' nx nx' : Nat → Int32} {r H d e n : Nat} {A B P : List tr_N} {x : tr_N}
theorem tr_is_nil : tr_is R le [] = [] := rfl
theorem tr_is_cons : tr_is R le (x :: P) = tr_it R le x ++ tr_is R le P := List.flatMap_cons
theorem tr_is_app : tr_is R le (A ++ B) = tr_is R le A ++ tr_is R le B := List.flatMap_append
theorem tr_i_app : tr_i (A ++ B) = tr_i A ++ tr_i B := List.map_append
theorem tr_i_cons : tr_i (x :: P) = x.2 :: tr_i P := rfl
theorem tr_i_nil : tr_i [] = [] := rfl
theorem tr_mem_i (h : x ∈ P) : x.2 ∈ tr_i P := List.mem_map_of_mem h
theorem tr_i_mem {n : Nat} (h : n ∈ tr_i P) : ∃ y ∈ P, y.2 = n := by
  unfold tr_i at h
  obtain ⟨y, hy, e⟩ := List.mem_map.mp h
  exact ⟨y, hy, e⟩
theorem tr_mk_app : tr_mk R (A ++ B) = tr_mk R A ++ tr_mk R B := List.flatMap_append
theorem tr_mk_cons : tr_mk R (x :: P) = (2 * x.1 :: (R x.2).map (fun c => 2 * c.1 + 1)) ++ tr_mk R P := List.flatMap_cons
theorem tr_mk_nil : tr_mk R [] = [] := rfl
theorem tr_mk_cg (h : ∀ y ∈ P, R' y.2 = R y.2) : tr_mk R' P = tr_mk R P := by
  induction P with
  | nil => rfl
  | cons y P ih => rw [tr_mk_cons, tr_mk_cons, h y List.mem_cons_self, ih (fun z hz => h z (List.mem_cons_of_mem _ hz))]
theorem tr_it_cg (h : R' x.2 = R x.2 ∧ le' x.2 = le x.2) : tr_it R' le' x = tr_it R le x := by
  unfold tr_it; rw [h.1, h.2]
theorem tr_is_cg (h : ∀ y ∈ P, R' y.2 = R y.2 ∧ le' y.2 = le y.2) : tr_is R' le' P = tr_is R le P := by
  induction P with
  | nil => rfl
  | cons y P ih => rw [tr_is_cons, tr_is_cons, tr_it_cg (h y List.mem_cons_self), ih (fun z hz => h z (List.mem_cons_of_mem _ hz))]
theorem tr_lv_s : tr_lv R le r (d + 1) = (tr_is R le (tr_lv R le r d)).map tr_nd := rfl
theorem tr_lv_cg (h : ∀ i, i < d → ∀ y ∈ tr_lv R le r i, R' y.2 = R y.2 ∧ le' y.2 = le y.2) : tr_lv R' le' r d = tr_lv R le r d := by
  induction d with
  | zero => rfl
  | succ d ih =>
    have e := ih (fun i hi => h i (by omega))
    rw [tr_lv_s, tr_lv_s, e, tr_is_cg (h d (by omega))]
theorem tr_lv_lo (h0 : tr_is R' le' (tr_lv R' le' r d) = tr_is R le (tr_lv R le r d)) : ∀ j, (∀ i, i < j → ∀ y ∈ tr_lv R le r (d + 1 + i), R' y.2 = R y.2 ∧ le' y.2 = le y.2) → tr_lv R' le' r (d + 1 + j) = tr_lv R le r (d + 1 + j) := by
  intro j
  induction j with
  | zero => intro _; show tr_lv R' le' r (d + 1) = tr_lv R le r (d + 1); rw [tr_lv_s, tr_lv_s, h0]
  | succ j ih =>
    intro h
    have e := ih (fun i hi => h i (by omega))
    show tr_lv R' le' r ((d + 1 + j) + 1) = tr_lv R le r ((d + 1 + j) + 1)
    rw [tr_lv_s, tr_lv_s, e, tr_is_cg (h j (by omega))]
theorem tr_ids_cg : ∀ {H : Nat}, (∀ i, i ≤ H → tr_lv R' le' r i = tr_lv R le r i) → tr_ids R' le' r H = tr_ids R le r H
  | 0, _ => rfl
  | H + 1, h => by
    show tr_ids R' le' r H ++ tr_i (tr_lv R' le' r (H + 1)) = tr_ids R le r H ++ tr_i (tr_lv R le r (H + 1))
    rw [tr_ids_cg (fun i hi => h i (by omega)), h (H + 1) (by omega)]
theorem tr_ids_1 {n : Nat} : ∀ {H e : Nat}, e ≤ H → (tr_i (tr_lv R le r e)).count n ≤ (tr_ids R le r H).count n
  | 0, e, h => by
    have : e = 0 := by omega
    subst this
    exact Nat.le_refl _
  | H + 1, e, h => by
    show _ ≤ (tr_ids R le r H ++ tr_i (tr_lv R le r (H + 1))).count n
    rw [List.count_append]
    rcases Nat.lt_or_ge H e with z | z
    · have : e = H + 1 := by omega
      subst this
      omega
    · have := tr_ids_1 (n := n) z
      omega
theorem tr_ids_2 {n : Nat} : ∀ {H d e : Nat}, d < e → e ≤ H → (tr_i (tr_lv R le r d)).count n + (tr_i (tr_lv R le r e)).count n ≤ (tr_ids R le r H).count n
  | 0, d, e, h, h2 => by omega
  | H + 1, d, e, h, h2 => by
    show _ ≤ (tr_ids R le r H ++ tr_i (tr_lv R le r (H + 1))).count n
    rw [List.count_append]
    rcases Nat.lt_or_ge H e with z | z
    · have : e = H + 1 := by omega
      subst this
      have := tr_ids_1 (R := R) (le := le) (r := r) (n := n) (H := H) (e := d) (by omega)
      omega
    · have := tr_ids_2 (n := n) h z
      omega
theorem tr_ids_ed {n e : Nat} : ∀ {H : Nat}, e ≤ H → (∀ i, i ≤ H → i ≠ e → tr_lv R' le' r i = tr_lv R le r i) → (tr_ids R' le' r H).count n + (tr_i (tr_lv R le r e)).count n = (tr_ids R le r H).count n + (tr_i (tr_lv R' le' r e)).count n
  | 0, h, _ => by
    have : e = 0 := by omega
    subst this
    rfl
  | H + 1, h, h2 => by
    show (tr_ids R' le' r H ++ tr_i (tr_lv R' le' r (H + 1))).count n + _ = (tr_ids R le r H ++ tr_i (tr_lv R le r (H + 1))).count n + _
    rw [List.count_append, List.count_append]
    rcases Nat.lt_or_ge H e with z | z
    · have : e = H + 1 := by omega
      subst this
      rw [tr_ids_cg (fun i hi => h2 i (by omega) (by omega))]
      omega
    · have := tr_ids_ed (n := n) z (fun i hi hne => h2 i (by omega) hne)
      rw [h2 (H + 1) (by omega) (by omega)]
      omega
theorem tr_ids_mem {n : Nat} : ∀ {H : Nat}, n ∈ tr_ids R le r H → ∃ d, d ≤ H ∧ ∃ y ∈ tr_lv R le r d, y.2 = n
  | 0, h => ⟨0, Nat.le_refl _, (0, r), List.mem_cons_self, (List.mem_singleton.mp h).symm⟩
  | H + 1, h => by
    rcases List.mem_append.mp h with z | z
    · obtain ⟨d, hd, y, hy, e⟩ := tr_ids_mem z
      exact ⟨d, by omega, y, hy, e⟩
    · obtain ⟨y, hy, e⟩ := tr_i_mem z
      exact ⟨H + 1, Nat.le_refl _, y, hy, e⟩
theorem tr_mem_ids {n : Nat} (hd : d ≤ H) (h : x ∈ tr_lv R le r d) : x.2 ∈ tr_ids R le r H := by
  have h1 := tr_ids_1 (R := R) (le := le) (r := r) (n := x.2) hd
  have h2 := List.count_pos_iff.mpr (tr_mem_i h)
  exact List.count_pos_iff.mp (by omega)
/-! chains of leaves and of unused nodes -/
theorem tr_ce_app {e : Int32} : ∀ {l m : List Nat}, tr_ce nx e (l ++ m) ↔ tr_ce nx (tr_hd e m) l ∧ tr_ce nx e m
  | [], m => ⟨fun h => ⟨trivial, h⟩, fun h => h.2⟩
  | n :: l, m => by
    show (nx n = tr_hd e (l ++ m) ∧ tr_ce nx e (l ++ m)) ↔ (nx n = tr_hd (tr_hd e m) l ∧ tr_ce nx (tr_hd e m) l) ∧ tr_ce nx e m
    rw [tr_ce_app (l := l) (m := m)]
    have : tr_hd e (l ++ m) = tr_hd (tr_hd e m) l := by cases l <;> rfl
    rw [this, and_assoc]
theorem tr_ce_cg {e : Int32} : ∀ {l : List Nat}, (∀ n ∈ l, nx' n = nx n) → tr_ce nx e l → tr_ce nx' e l
  | [], _, _ => trivial
  | n :: l, h, h2 => ⟨(h n List.mem_cons_self).trans h2.1, tr_ce_cg (fun m hm => h m (List.mem_cons_of_mem _ hm)) h2.2⟩
theorem tr_fl_cg : ∀ {F : List Nat} {u : Int32}, (∀ n ∈ F, nx' n = nx n) → tr_fl nx u F → tr_fl nx' u F
  | [], _, _, _ => trivial
  | n :: F, u, h, h2 => ⟨h2.1, by rw [h n List.mem_cons_self]; exact tr_fl_cg (fun m hm => h m (List.mem_cons_of_mem _ hm)) h2.2⟩
/-! first keys -/
theorem tr_fx_len {lo : Nat} : ∀ {l : List tr_C}, (tr_fx lo l).length = l.length
  | [] => rfl
  | _ :: _ => rfl
theorem tr_fx_app {lo : Nat} : ∀ {u v : List tr_C}, u ≠ [] → tr_fx lo (u ++ v) = tr_fx lo u ++ v
  | [], _, h => absurd rfl h
  | _ :: _, _, _ => rfl
theorem tr_fx_ne {lo : Nat} : ∀ {u : List tr_C}, u ≠ [] → tr_fx lo u ≠ []
  | [], h => absurd rfl h
  | _ :: _, _ => List.cons_ne_nil _ _
theorem tr_fx_spl {lo : Nat} {p b : List tr_C} : ∀ {l : List tr_C}, tr_fx lo l = p ++ b → p ≠ [] → ∃ u, l = u ++ b ∧ u.length = p.length ∧ tr_fx lo u = p
  | [], h, hp => by
    have h' : ([] : List tr_C) = p ++ b := h
    exact absurd (List.append_eq_nil_iff.mp h'.symm).1 hp
  | c :: cs, h, hp => by
    cases p with
    | nil => exact absurd rfl hp
    | cons p0 p' =>
      have h' : (lo, c.2) :: cs = p0 :: (p' ++ b) := h
      have h1 := (List.cons.inj h').1
      have h2 := (List.cons.inj h').2
      exact ⟨c :: p', by rw [h2]; rfl, rfl, by show (lo, c.2) :: p' = _; rw [h1]⟩
theorem tr_it_len : (tr_it R le x).length = (R x.2).length := by
  unfold tr_it; split
  · exact tr_fx_len
  · rfl
theorem tr_it_in (h : le x.2 = 0) : tr_it R le x = tr_fx x.1 (R x.2) := if_pos h
theorem tr_it_lf (h : le x.2 = 1) : tr_it R le x = R x.2 := if_neg (by rw [h]; decide)
end
end
section
/-! one level of a tree is edited in one place: what stays -/
def tr_T (R : Nat → List tr_C) (le nx : Nat → Int32) (r H : Nat) (L : List tr_C) (ok : Nat → Nat → Nat → Prop) : Prop :=
  (∀ d, d ≤ H → ∀ y ∈ tr_lv R le r d, (d < H → le y.2 = 0) ∧ (d = H → le y.2 = 1) ∧ ok d y.2 (R y.2).length) ∧
  L = tr_is R le (tr_lv R le r H) ∧ (tr_mk R (tr_lv R le r H)).Pairwise (· < ·) ∧ tr_ce nx (-1) (tr_i (tr_lv R le r H))
/-- each node of the pool is once in the tree, unused or in O -/
def tr_P (R : Nat → List tr_C) (le : Nat → Int32) (r H : Nat) (F O : List Nat) : Prop :=
  ∀ n, (tr_ids R le r H).count n + F.count n + O.count n = if n < 130 then 1 else 0
section
variable {R R' : Nat → List tr_C} {le le' nx nx' : Nat → Int32} {r H d e n : Nat} {A0 B0 A B P : List tr_N} {x : tr_N} {F F' O : List Nat} {a b ms ms' L : List tr_C} {ok ok' : Nat → Nat → Nat → Prop}
theorem tr_P_le (h : tr_P R le r H F O) (n : Nat) : (tr_ids R le r H).count n + F.count n + O.count n ≤ 1 := by
  have := h n
  split at this <;> omega
theorem tr_P_lt (h : tr_P R le r H F O) (hd : d ≤ H) (hx : x ∈ tr_lv R le r d) : x.2 < 130 := by
  have h1 := h x.2
  have h2 := List.count_pos_iff.mpr (tr_mem_ids (n := 0) hd hx)
  split at h1
  · assumption
  · omega
theorem tr_P_ltF (h : tr_P R le r H F O) (hn : n ∈ F) : n < 130 := by
  have h1 := h n
  have h2 := List.count_pos_iff.mpr hn
  split at h1
  · assumption
  · omega
/-- two different levels, or the two sides of a place in one, share no node -/
theorem tr_P_dif {y z : tr_N} (h : tr_P R le r H F O) (hd : d ≤ H) (he : e ≤ H) (hne : d ≠ e) (hy : y ∈ tr_lv R le r d) (hz : z ∈ tr_lv R le r e) : y.2 ≠ z.2 := by
  intro eq
  have h1 := tr_P_le h z.2
  have c1 := List.count_pos_iff.mpr (tr_mem_i hy)
  have c2 := List.count_pos_iff.mpr (tr_mem_i hz)
  rw [eq] at c1
  rcases Nat.lt_or_gt_of_ne hne with g | g
  · have := tr_ids_2 (R := R) (le := le) (r := r) (n := z.2) g he
    omega
  · have := tr_ids_2 (R := R) (le := le) (r := r) (n := z.2) g hd
    omega
theorem tr_P_nF (h : tr_P R le r H F O) (hd : d ≤ H) (hx : x ∈ tr_lv R le r d) : x.2 ∉ F := by
  intro hf
  have h1 := tr_P_le h x.2
  have c1 := List.count_pos_iff.mpr (tr_mem_ids (n := 0) hd hx)
  have c2 := List.count_pos_iff.mpr hf
  omega
theorem tr_P_nO (h : tr_P R le r H F O) (hd : d ≤ H) (hx : x ∈ tr_lv R le r d) : x.2 ∉ O := by
  intro hf
  have h1 := tr_P_le h x.2
  have c1 := List.count_pos_iff.mpr (tr_mem_ids (n := 0) hd hx)
  have c2 := List.count_pos_iff.mpr hf
  omega
theorem tr_P_FO (h : tr_P R le r H F O) (hn : n ∈ F) : n ∉ O := by
  intro hf
  have h1 := tr_P_le h n
  have c1 := List.count_pos_iff.mpr hn
  have c2 := List.count_pos_iff.mpr hf
  omega
theorem tr_P_two {M N Z : List tr_N} (h : tr_P R le r H F O) (hd : d ≤ H) (hL : tr_lv R le r d = M ++ (N ++ Z)) {y z : tr_N} (hy : y ∈ M ∨ y ∈ Z) (hz : z ∈ N) : y.2 ≠ z.2 := by
  intro eq
  have h1 := tr_P_le h z.2
  have h2 := tr_ids_1 (R := R) (le := le) (r := r) (n := z.2) hd
  rw [hL, tr_i_app, tr_i_app, List.count_append, List.count_append] at h2
  have c2 := List.count_pos_iff.mpr (tr_mem_i hz)
  rcases hy with hy | hy
  · have c1 := List.count_pos_iff.mpr (tr_mem_i hy)
    rw [eq] at c1
    omega
  · have c1 := List.count_pos_iff.mpr (tr_mem_i hy)
    rw [eq] at c1
    omega
/-- the level below a place -/
theorem tr_lv_dn (hP : tr_lv R le r e = A0 ++ x :: B0) (hx : tr_it R le x = a ++ (ms ++ b)) : tr_lv R le r (e + 1) = (tr_is R le A0 ++ a).map tr_nd ++ (ms.map tr_nd ++ (b ++ tr_is R le B0).map tr_nd) := by
  rw [tr_lv_s, hP, tr_is_app, tr_is_cons, hx]
  simp only [List.map_append, List.append_assoc]
/-- the edit's agreement -/
theorem tr_ed_ag (hc : tr_P R le r H F O) (he : e < H) (hP : tr_lv R le r e = A0 ++ x :: B0) (hx : tr_it R le x = a ++ (ms ++ b)) {S : Nat → Prop}
    (hR : ∀ n, n ≠ x.2 → n ∉ tr_i (ms.map tr_nd) → n ∉ F → S n) :
    (∀ i, i ≤ H → i ≠ e → i ≠ e + 1 → ∀ y ∈ tr_lv R le r i, S y.2) ∧ (∀ y, y ∈ A0 ∨ y ∈ B0 → S y.2) ∧ (∀ y, y ∈ (tr_is R le A0 ++ a).map tr_nd ∨ y ∈ (b ++ tr_is R le B0).map tr_nd → S y.2) ∧ (∀ n ∈ O, S n) := by
  have s1 := tr_lv_dn hP hx
  have hxm : x ∈ tr_lv R le r e := by rw [hP]; simp
  refine ⟨?_, ?_, ?_, ?_⟩
  · intro i hi h1 h2 y hy
    refine hR _ (tr_P_dif hc hi (by omega) h1 hy hxm) ?_ (tr_P_nF hc hi hy)
    intro hm
    obtain ⟨z, hz, ez⟩ := tr_i_mem hm
    exact tr_P_dif hc (e := e + 1) hi (by omega) h2 hy (z := z) (by rw [s1]; simp only [List.mem_append]; exact Or.inr (Or.inl hz)) ez.symm
  · intro y hy
    have hy' : y ∈ tr_lv R le r e := by
      rw [hP]; rcases hy with hy | hy <;> simp [hy]
    refine hR _ (tr_P_two hc (d := e) (by omega) (M := A0) (N := [x]) (Z := B0) (by rw [hP]; rfl) hy (by simp)) ?_ (tr_P_nF hc (by omega) hy')
    intro hm
    obtain ⟨z, hz, ez⟩ := tr_i_mem hm
    exact tr_P_dif hc (d := e) (e := e + 1) (by omega) (by omega) (by omega) hy' (z := z) (by rw [s1]; simp only [List.mem_append]; exact Or.inr (Or.inl hz)) ez.symm
  · intro y hy
    have hy' : y ∈ tr_lv R le r (e + 1) := by
      rw [s1]; simp only [List.mem_append]; rcases hy with hy | hy
      · exact Or.inl hy
      · exact Or.inr (Or.inr hy)
    refine hR _ (tr_P_dif hc (d := e + 1) (e := e) (by omega) (by omega) (by omega) hy' hxm) ?_ (tr_P_nF hc (d := e + 1) (by omega) hy')
    intro hm
    obtain ⟨z, hz, ez⟩ := tr_i_mem hm
    exact tr_P_two hc (d := e + 1) (by omega) s1 hy hz ez.symm
  · intro n hn
    refine hR _ ?_ ?_ (fun hf => tr_P_FO hc hf hn)
    · intro en; rw [en] at hn; exact tr_P_nO hc (by omega) hxm hn
    · intro hm
      obtain ⟨z, hz, ez⟩ := tr_i_mem hm
      rw [← ez] at hn
      exact tr_P_nO hc (d := e + 1) (x := z) (by omega) (by rw [s1]; simp only [List.mem_append]; exact Or.inr (Or.inl hz)) hn
theorem tr_edit (hc : tr_P R le r H F O) (he : e < H) (hP : tr_lv R le r e = A0 ++ x :: B0) (hx : tr_it R le x = a ++ (ms ++ b)) (hx' : tr_it R' le' x = a ++ (ms' ++ b))
    (hm : tr_is R' le' (ms'.map tr_nd) = tr_is R le (ms.map tr_nd))
    (hF : ∀ n, (tr_i (ms'.map tr_nd)).count n + F'.count n = (tr_i (ms.map tr_nd)).count n + F.count n)
    (hR : ∀ n, n ≠ x.2 → n ∉ tr_i (ms.map tr_nd) → n ∉ F → R' n = R n ∧ le' n = le n) :
    (∀ i, i ≤ H → i ≠ e + 1 → tr_lv R' le' r i = tr_lv R le r i) ∧
    tr_lv R' le' r (e + 1) = (tr_is R le A0 ++ a).map tr_nd ++ (ms'.map tr_nd ++ (b ++ tr_is R le B0).map tr_nd) ∧
    tr_is R' le' (tr_lv R' le' r H) = tr_is R le (tr_lv R le r H) ∧ tr_P R' le' r H F' O := by
  obtain ⟨g1, g2, g3, g4⟩ := tr_ed_ag hc he hP hx hR
  have s1 := tr_lv_dn hP hx
  have s3 : ∀ i, i ≤ e → tr_lv R' le' r i = tr_lv R le r i := fun i hi => tr_lv_cg (fun j hj => g1 j (by omega) (by omega) (by omega))
  have s4 : tr_lv R' le' r (e + 1) = (tr_is R le A0 ++ a).map tr_nd ++ (ms'.map tr_nd ++ (b ++ tr_is R le B0).map tr_nd) := by
    rw [tr_lv_s, s3 e (Nat.le_refl _), hP, tr_is_app, tr_is_cons, hx', tr_is_cg (fun y hy => g2 y (Or.inl hy)), tr_is_cg (fun y hy => g2 y (Or.inr hy))]
    simp only [List.map_append, List.append_assoc]
  have s5 : tr_is R' le' (tr_lv R' le' r (e + 1)) = tr_is R le (tr_lv R le r (e + 1)) := by
    rw [s4, s1, tr_is_app, tr_is_app, tr_is_app, tr_is_app, tr_is_cg (fun y hy => g3 y (Or.inl hy)), tr_is_cg (fun y hy => g3 y (Or.inr hy)), hm]
  have s6 : ∀ i, e + 1 < i → i ≤ H → tr_lv R' le' r i = tr_lv R le r i := by
    intro i h1 h2
    have := tr_lv_lo s5 (i - (e + 2)) (fun j hj => g1 _ (by omega) (by omega) (by omega))
    have ei : e + 1 + 1 + (i - (e + 2)) = i := by omega
    rw [ei] at this
    exact this
  have s7 : ∀ i, i ≤ H → i ≠ e + 1 → tr_lv R' le' r i = tr_lv R le r i := by
    intro i h1 h2
    rcases Nat.lt_or_ge (e + 1) i with z | z
    · exact s6 i z h1
    · exact s3 i (by omega)
  refine ⟨s7, s4, ?_, ?_⟩
  · rcases Nat.lt_or_ge (e + 1) H with z | z
    · rw [s6 H z (Nat.le_refl _)]
      exact tr_is_cg (g1 H (Nat.le_refl _) (by omega) (by omega))
    · have : H = e + 1 := by omega
      subst this
      exact s5
  · intro n
    have h1 := hc n
    have h2 := tr_ids_ed (R := R) (R' := R') (le := le) (le' := le') (r := r) (n := n) (e := e + 1) (H := H) (by omega) s7
    have h3 := hF n
    rw [s4, s1, tr_i_app, tr_i_app, tr_i_app, tr_i_app, List.count_append, List.count_append, List.count_append, List.count_append] at h2
    rw [← h1]
    omega
/-- .. and the tree's conditions -/
theorem tr_T_edit (hT : tr_T R le nx r H L ok) (hc : tr_P R le r H F O) (he : e < H) (hP : tr_lv R le r e = A0 ++ x :: B0) (hx : tr_it R le x = a ++ (ms ++ b)) (hx' : tr_it R' le' x = a ++ (ms' ++ b))
    (hm : tr_is R' le' (ms'.map tr_nd) = tr_is R le (ms.map tr_nd))
    (hF : ∀ n, (tr_i (ms'.map tr_nd)).count n + F'.count n = (tr_i (ms.map tr_nd)).count n + F.count n)
    (hR : ∀ n, n ≠ x.2 → n ∉ tr_i (ms.map tr_nd) → n ∉ F → R' n = R n ∧ le' n = le n ∧ nx' n = nx n)
    (hlx : le' x.2 = 0) (hokx : ok' e x.2 (R' x.2).length)
    (hmid : ∀ y ∈ ms'.map tr_nd, (e + 1 < H → le' y.2 = 0) ∧ (e + 1 = H → le' y.2 = 1) ∧ ok' (e + 1) y.2 (R' y.2).length)
    (hok : ∀ d n l, n ≠ x.2 → n ∉ tr_i (ms.map tr_nd) → ok d n l → ok' d n l)
    (hlf : e + 1 = H → ∀ A B, (∀ y, y ∈ A ∨ y ∈ B → R' y.2 = R y.2 ∧ le' y.2 = le y.2 ∧ nx' y.2 = nx y.2) → (tr_mk R (A ++ (ms.map tr_nd ++ B))).Pairwise (· < ·) → tr_ce nx (-1) (tr_i (A ++ (ms.map tr_nd ++ B))) →
      (tr_mk R' (A ++ (ms'.map tr_nd ++ B))).Pairwise (· < ·) ∧ tr_ce nx' (-1) (tr_i (A ++ (ms'.map tr_nd ++ B)))) :
    tr_T R' le' nx' r H L ok' ∧ tr_P R' le' r H F' O ∧ (∀ n ∈ O, R' n = R n ∧ le' n = le n ∧ nx' n = nx n) ∧ (∀ i, i ≤ e → tr_lv R' le' r i = tr_lv R le r i) := by
  obtain ⟨g1, g2, g3, g4⟩ := tr_ed_ag hc he hP hx hR
  have s1 := tr_lv_dn hP hx
  obtain ⟨s7, s4, s8, s9⟩ := tr_edit hc he hP hx hx' hm hF (fun n h1 h2 h3 => ⟨(hR n h1 h2 h3).1, (hR n h1 h2 h3).2.1⟩)
  obtain ⟨t1, t2, t3, t4⟩ := hT
  have hxm : x ∈ tr_lv R le r e := by rw [hP]; simp
  have nomid : ∀ i, i ≤ H → i ≠ e + 1 → ∀ y ∈ tr_lv R le r i, y.2 ∉ tr_i (ms.map tr_nd) := by
    intro i hi hne y hy hmm
    obtain ⟨z, hz, ez⟩ := tr_i_mem hmm
    exact tr_P_dif hc (e := e + 1) hi (by omega) hne hy (z := z) (by rw [s1]; simp only [List.mem_append]; exact Or.inr (Or.inl hz)) ez.symm
  refine ⟨⟨?_, ?_, ?_⟩, s9, g4, fun i hi => s7 i (by omega) (by omega)⟩
  · intro d hd y hy
    by_cases h1 : d = e + 1
    · subst h1
      rw [s4] at hy
      simp only [List.mem_append] at hy
      have side : y ∈ (tr_is R le A0 ++ a).map tr_nd ∨ y ∈ (b ++ tr_is R le B0).map tr_nd → (e + 1 < H → le' y.2 = 0) ∧ (e + 1 = H → le' y.2 = 1) ∧ ok' (e + 1) y.2 (R' y.2).length := by
        intro hs
        have hy' : y ∈ tr_lv R le r (e + 1) := by
          rw [s1]; simp only [List.mem_append]; rcases hs with hs | hs
          · exact Or.inl hs
          · exact Or.inr (Or.inr hs)
        have q := g3 y hs
        have p := t1 (e + 1) hd y hy'
        rw [q.1, q.2.1]
        refine ⟨p.1, p.2.1, hok _ _ _ (tr_P_dif hc (d := e + 1) (e := e) (by omega) (by omega) (by omega) hy' hxm) ?_ p.2.2⟩
        intro hmm
        obtain ⟨z, hz, ez⟩ := tr_i_mem hmm
        exact tr_P_two hc (d := e + 1) (by omega) s1 hs hz ez.symm
      rcases hy with hy | hy | hy
      · exact side (Or.inl hy)
      · exact hmid y hy
      · exact side (Or.inr hy)
    · rw [s7 d hd h1] at hy
      have p := t1 d hd y hy
      by_cases h2 : d = e
      · subst h2
        have hy2 := hy
        rw [hP] at hy2
        simp only [List.mem_append, List.mem_cons] at hy2
        have side : y ∈ A0 ∨ y ∈ B0 → (d < H → le' y.2 = 0) ∧ (d = H → le' y.2 = 1) ∧ ok' d y.2 (R' y.2).length := by
          intro hs
          have q := g2 y hs
          rw [q.1, q.2.1]
          exact ⟨p.1, p.2.1, hok _ _ _ (tr_P_two hc (d := d) (by omega) (M := A0) (N := [x]) (Z := B0) (by rw [hP]; rfl) hs (by simp)) (nomid d hd h1 y hy) p.2.2⟩
        rcases hy2 with hy2 | hy2 | hy2
        · exact side (Or.inl hy2)
        · subst hy2
          exact ⟨fun _ => hlx, fun z => by omega, hokx⟩
        · exact side (Or.inr hy2)
      · have q := g1 d hd h2 h1 y hy
        rw [q.1, q.2.1]
        exact ⟨p.1, p.2.1, hok _ _ _ (tr_P_dif hc hd (by omega) h2 hy hxm) (nomid d hd h1 y hy) p.2.2⟩
  · rw [t2, s8]
  · by_cases z : e + 1 = H
    · have k := hlf z _ _ g3 (by rw [← s1, z]; exact t3) (by rw [← s1, z]; exact t4)
      rw [← s4, z] at k
      exact k
    · have zz := s7 H (Nat.le_refl _) (fun q => z q.symm)
      have ag := g1 H (Nat.le_refl _) (by omega) (fun q => z q.symm)
      rw [zz]
      refine ⟨?_, tr_ce_cg (fun n hn => ?_) t4⟩
      · rw [tr_mk_cg (fun y hy => (ag y hy).1)]; exact t3
      · obtain ⟨y, hy, ey⟩ := tr_i_mem hn
        rw [← ey]; exact (ag y hy).2.2
end
end
section
/-! the edits one by one: an entry in a leaf, a split, a grown root -/
def tr_ru (R : Nat → List tr_C) (n : Nat) (l : List tr_C) : Nat → List tr_C := fun m => if m = n then l else R m
def tr_ok (H d n l : Nat) : Prop := l ≤ 8 ∧ (d = 0 → 0 < H → 2 ≤ l) ∧ (0 < d → 4 ≤ l)
def tr_oi (H m d n l : Nat) : Prop := (n ≠ m → l ≤ 8) ∧ l ≤ 9 ∧ (d = 0 → 0 < H → 2 ≤ l) ∧ (0 < d → 4 ≤ l)
def tr_or (H m d n l : Nat) : Prop := l ≤ 8 ∧ (d = 0 → 0 < H → 1 ≤ l) ∧ (0 < d → 3 ≤ l) ∧ (n ≠ m → tr_ok H d n l)
section
variable {R R' : Nat → List tr_C} {le le' nx nx' : Nat → Int32} {r H d e n m q : Nat} {A0 B0 A B P : List tr_N} {x : tr_N} {F F' O : List Nat} {a b L w1 w2 u : List tr_C} {c k : tr_C} {ok ok' : Nat → Nat → Nat → Prop}
theorem tr_ru_s {l : List tr_C} : tr_ru R n l n = l := if_pos rfl
theorem tr_ru_n {l : List tr_C} (h : m ≠ n) : tr_ru R n l m = R m := if_neg h
theorem tr_pw_lo {X Y : List Nat} {p q : Nat} (h : (X ++ (2 * p + 1) :: (2 * q + 1) :: Y).Pairwise (· < ·)) : (X ++ (2 * p + 1) :: (2 * q) :: (2 * q + 1) :: Y).Pairwise (· < ·) := by
  rw [List.pairwise_append] at h ⊢
  obtain ⟨h1, h2, h3⟩ := h
  rw [List.pairwise_cons, List.pairwise_cons] at h2
  have hpq := h2.1 (2 * q + 1) List.mem_cons_self
  refine ⟨h1, ?_, ?_⟩
  · rw [List.pairwise_cons, List.pairwise_cons, List.pairwise_cons]
    refine ⟨fun y hy => ?_, fun y hy => ?_, h2.2.1, h2.2.2⟩
    · rcases List.mem_cons.mp hy with rfl | hy
      · omega
      · exact h2.1 y hy
    · rcases List.mem_cons.mp hy with rfl | hy
      · omega
      · have := h2.2.1 y hy
        omega
  · intro z hz y hy
    rcases List.mem_cons.mp hy with rfl | hy
    · exact h3 z hz _ List.mem_cons_self
    · rcases List.mem_cons.mp hy with rfl | hy
      · have := h3 z hz (2 * p + 1) List.mem_cons_self
        omega
      · exact h3 z hz y (List.mem_cons_of_mem _ hy)
theorem tr_pw_in {X Y : List Nat} {v : Nat} (h : (X ++ Y).Pairwise (· < ·)) (h1 : ∀ y ∈ X, y < v) (h2 : ∀ y ∈ Y, v < y) : (X ++ v :: Y).Pairwise (· < ·) := by
  rw [List.pairwise_append] at h ⊢
  refine ⟨h.1, List.pairwise_cons.mpr ⟨h2, h.2.1⟩, fun z hz y hy => ?_⟩
  rcases List.mem_cons.mp hy with rfl | hy
  · exact h1 z hz
  · exact h.2.2 z hz y hy
theorem tr_pw_de {X Y : List Nat} {v : Nat} (h : (X ++ v :: Y).Pairwise (· < ·)) : (X ++ Y).Pairwise (· < ·) :=
  h.sublist (List.Sublist.append (List.Sublist.refl _) (List.sublist_cons_self _ _))
/-- a leaf gets another content -/
theorem tr_T_leaf (hT : tr_T R le nx r H L ok) (hc : tr_P R le r H F O) (hP : tr_lv R le r H = A ++ x :: B) (hR : ∀ n, n ≠ x.2 → R' n = R n)
    (hmk : (tr_mk R A ++ ((2 * x.1 :: (R' x.2).map (fun c => 2 * c.1 + 1)) ++ tr_mk R B)).Pairwise (· < ·))
    (hokx : ok' H x.2 (R' x.2).length) (hok : ∀ d n l, n ≠ x.2 → ok d n l → ok' d n l) :
    tr_T R' le nx r H (tr_is R le A ++ (R' x.2 ++ tr_is R le B)) ok' ∧ tr_P R' le r H F O ∧ (∀ i, i ≤ H → tr_lv R' le r i = tr_lv R le r i) ∧ (∀ n ∈ O, R' n = R n) := by
  have hxm : x ∈ tr_lv R le r H := by rw [hP]; simp
  obtain ⟨t1, t2, t3, t4⟩ := hT
  have lf := (t1 H (Nat.le_refl _) x hxm).2.1 rfl
  have ag : ∀ i, i < H → ∀ y ∈ tr_lv R le r i, R' y.2 = R y.2 ∧ le y.2 = le y.2 := fun i hi y hy => ⟨hR _ (tr_P_dif hc (by omega) (Nat.le_refl _) (by omega) hy hxm), rfl⟩
  have s1 : ∀ i, i ≤ H → tr_lv R' le r i = tr_lv R le r i := fun i hi => tr_lv_cg (fun j hj => ag j (by omega))
  have sd : ∀ y, y ∈ A ∨ y ∈ B → R' y.2 = R y.2 ∧ le y.2 = le y.2 := fun y hy => ⟨hR _ (tr_P_two hc (Nat.le_refl _) (M := A) (N := [x]) (Z := B) (by rw [hP]; rfl) hy (by simp)), rfl⟩
  have ex : tr_it R' le x = R' x.2 := tr_it_lf lf
  refine ⟨⟨?_, ?_, ?_, ?_⟩, ?_, s1, fun n hn => hR n (fun en => tr_P_nO hc (Nat.le_refl _) hxm (by rw [← en]; exact hn))⟩
  · intro d hd y hy
    rw [s1 d hd] at hy
    have p := t1 d hd y hy
    by_cases h : y.2 = x.2
    · have hdH : d = H := by
        rcases Nat.lt_or_ge d H with z | z
        · exact absurd h (tr_P_dif hc (by omega) (Nat.le_refl _) (by omega) hy hxm)
        · omega
      subst hdH
      rw [h]
      exact ⟨fun z => by omega, fun _ => lf, hokx⟩
    · rw [hR _ h]
      exact ⟨p.1, p.2.1, hok _ _ _ h p.2.2⟩
  · rw [s1 H (Nat.le_refl _), hP, tr_is_app, tr_is_cons, ex, tr_is_cg (fun y hy => sd y (Or.inl hy)), tr_is_cg (fun y hy => sd y (Or.inr hy))]
  · rw [s1 H (Nat.le_refl _), hP, tr_mk_app, tr_mk_cons, tr_mk_cg (fun y hy => (sd y (Or.inl hy)).1), tr_mk_cg (fun y hy => (sd y (Or.inr hy)).1)]
    exact hmk
  · rw [s1 H (Nat.le_refl _)]; exact t4
  · intro n
    rw [tr_ids_cg s1]
    exact hc n
/-- a node of nine is split, its right part goes to the node above -/
theorem tr_split (hT : tr_T R le nx r H L (tr_oi H c.2.1)) (hc : tr_P R le r H (q :: F) O) (he : e < H) (hP : tr_lv R le r e = A0 ++ x :: B0) (hx : tr_it R le x = a ++ c :: b)
    (hw : R c.2.1 = w1 ++ k :: w2) (h5 : w1.length = 5) (h3 : w2.length = 3) (hu : R x.2 = u ++ b) (hfu : tr_fx x.1 u = a ++ [c])
    (n1 : ∀ n, n ≠ c.2.1 → n ≠ q → nx' n = nx n) (n2 : le c.2.1 = 1 → nx' q = nx c.2.1 ∧ nx' c.2.1 = nI q) :
    tr_T (tr_ru (tr_ru (tr_ru R c.2.1 w1) q (k :: w2)) x.2 (u ++ (k.1, q, 0) :: b)) (upd le q (le c.2.1)) nx' r H L (tr_oi H x.2) ∧
    tr_P (tr_ru (tr_ru (tr_ru R c.2.1 w1) q (k :: w2)) x.2 (u ++ (k.1, q, 0) :: b)) (upd le q (le c.2.1)) r H F O ∧
    (∀ n ∈ O, tr_ru (tr_ru (tr_ru R c.2.1 w1) q (k :: w2)) x.2 (u ++ (k.1, q, 0) :: b) n = R n ∧ upd le q (le c.2.1) n = le n ∧ nx' n = nx n) ∧
    (∀ i, i ≤ e → tr_lv (tr_ru (tr_ru (tr_ru R c.2.1 w1) q (k :: w2)) x.2 (u ++ (k.1, q, 0) :: b)) (upd le q (le c.2.1)) r i = tr_lv R le r i) := by
  have hx2 : tr_it R le x = a ++ ([c] ++ b) := hx
  have s1 := tr_lv_dn hP hx2
  have hxm : x ∈ tr_lv R le r e := by rw [hP]; simp
  have hcm : tr_nd c ∈ tr_lv R le r (e + 1) := by rw [s1]; simp
  have d1 : c.2.1 ≠ x.2 := tr_P_dif hc (d := e + 1) (e := e) (by omega) (by omega) (by omega) hcm hxm
  have d2 : q ≠ x.2 := fun z => tr_P_nF hc (by omega) hxm (by rw [← z]; simp)
  have d3 : q ≠ c.2.1 := fun z => tr_P_nF hc (d := e + 1) (by omega) hcm (by show c.2.1 ∈ _; rw [← z]; simp)
  have tx := hT.1 e (by omega) x hxm
  have tc := hT.1 (e + 1) (by omega) _ hcm
  have hlx : le x.2 = 0 := tx.1 he
  have hune : u ≠ [] := by
    intro z; rw [z] at hfu; have := congrArg List.length hfu; rw [tr_fx_len] at this; simp at this
  have hw1 : w1 ≠ [] := by intro z; rw [z] at h5; exact absurd h5 (by decide)
  have lc : upd le q (le c.2.1) c.2.1 = le c.2.1 := pk_un (fun z => d3 z.symm)
  have lq : upd le q (le c.2.1) q = le c.2.1 := pk_us
  have Rc : tr_ru (tr_ru (tr_ru R c.2.1 w1) q (k :: w2)) x.2 (u ++ (k.1, q, 0) :: b) c.2.1 = w1 := by
    rw [tr_ru_n d1, tr_ru_n (fun z => d3 z.symm), tr_ru_s]
  have Rq : tr_ru (tr_ru (tr_ru R c.2.1 w1) q (k :: w2)) x.2 (u ++ (k.1, q, 0) :: b) q = k :: w2 := by
    rw [tr_ru_n d2, tr_ru_s]
  refine tr_T_edit (ms := [c]) (ms' := [c, (k.1, q, 0)]) hT hc he hP hx2 ?_ ?_ ?_ ?_ ?_ ?_ ?_ ?_ ?_
  · rw [tr_it_in (by rw [pk_un (fun z => d2 z.symm)]; exact hlx), tr_ru_s, tr_fx_app hune, hfu]
    simp
  · show tr_is _ _ [tr_nd c, (k.1, q)] = tr_is _ _ [tr_nd c]
    rw [tr_is_cons, tr_is_cons, tr_is_cons, tr_is_nil, tr_is_nil, List.append_nil, List.append_nil]
    have z1 : (tr_nd c).2 = c.2.1 := rfl
    unfold tr_it
    rw [z1, lc, Rc]
    show _ ++ (if upd le q (le c.2.1) q = 0 then tr_fx k.1 (tr_ru _ _ _ q) else tr_ru _ _ _ q) = _
    rw [lq, Rq, hw]
    by_cases hl : le c.2.1 = 0
    · rw [if_pos hl, if_pos hl, if_pos hl, tr_fx_app hw1]; rfl
    · rw [if_neg hl, if_neg hl, if_neg hl]
  · intro n
    show [c.2.1, q].count n + F.count n = [c.2.1].count n + (q :: F).count n
    simp only [List.count_cons, List.count_nil]
    omega
  · intro n hn1 hn2 hn3
    have e1 : n ≠ c.2.1 := fun z => hn2 (by rw [z]; show c.2.1 ∈ [c.2.1]; simp)
    have e2 : n ≠ q := fun z => hn3 (by rw [z]; simp)
    exact ⟨by rw [tr_ru_n hn1, tr_ru_n e2, tr_ru_n e1], pk_un e2, n1 n e1 e2⟩
  · rw [pk_un (fun z => d2 z.symm)]; exact hlx
  · rw [tr_ru_s]
    have t := tx.2.2
    have hlen : (R x.2).length = u.length + b.length := by rw [hu, List.length_append]
    have l2 : (u ++ (k.1, q, 0) :: b).length = (R x.2).length + 1 := by rw [hlen, List.length_append, List.length_cons]; omega
    rw [l2]
    have := t.1 (fun z => d1 z.symm)
    exact ⟨fun z => absurd rfl z, by omega, fun y1 y2 => by have := t.2.2.1 y1 y2; omega, fun y1 => by have := t.2.2.2 y1; omega⟩
  · intro y hy
    have hy' : y = tr_nd c ∨ y = (k.1, q) := by
      have : y ∈ [tr_nd c, (k.1, q)] := hy
      simpa using this
    rcases hy' with rfl | rfl
    · show (e + 1 < H → upd le q (le c.2.1) c.2.1 = 0) ∧ (e + 1 = H → upd le q (le c.2.1) c.2.1 = 1) ∧ tr_oi H x.2 (e + 1) c.2.1 (tr_ru _ _ _ c.2.1).length
      rw [lc, Rc, h5]
      exact ⟨tc.1, tc.2.1, fun _ => by omega, by omega, fun z => by omega, fun _ => by omega⟩
    · show (e + 1 < H → upd le q (le c.2.1) q = 0) ∧ (e + 1 = H → upd le q (le c.2.1) q = 1) ∧ tr_oi H x.2 (e + 1) q (tr_ru _ _ _ q).length
      rw [lq, Rq, List.length_cons, h3]
      exact ⟨tc.1, tc.2.1, fun _ => by omega, by omega, fun z => by omega, fun _ => by omega⟩
  · intro d n l hn1 hn2 ho
    have e1 : n ≠ c.2.1 := fun z => hn2 (by rw [z]; show c.2.1 ∈ [c.2.1]; simp)
    exact ⟨fun _ => ho.1 e1, by have := ho.1 e1; omega, ho.2.2.1, ho.2.2.2⟩
  · intro hz A B hab hpw hch
    have lc1 : le c.2.1 = 1 := tc.2.1 hz
    obtain ⟨nq, nc⟩ := n2 lc1
    obtain ⟨w1', w, rfl⟩ : ∃ w1' w, w1 = w1' ++ [w] := by
      rcases List.eq_nil_or_concat w1 with z | ⟨w1', w, z⟩
      · exact absurd z hw1
      · exact ⟨w1', w, by rw [z]; simp⟩
    constructor
    · show (tr_mk _ (A ++ ([tr_nd c, (k.1, q)] ++ B))).Pairwise (· < ·)
      have hpw' : (tr_mk R (A ++ ([tr_nd c] ++ B))).Pairwise (· < ·) := hpw
      rw [tr_mk_app, tr_mk_app, tr_mk_cons, tr_mk_nil] at hpw' 
      rw [tr_mk_app, tr_mk_app, tr_mk_cons, tr_mk_cons, tr_mk_nil, tr_mk_cg (fun y hy => (hab y (Or.inl hy)).1), tr_mk_cg (fun y hy => (hab y (Or.inr hy)).1)]
      have z1 : (tr_nd c).2 = c.2.1 := rfl
      rw [z1, hw] at hpw'
      rw [z1, Rc]
      show (tr_mk R A ++ (((2 * (tr_nd c).1 :: (w1' ++ [w]).map _) ++ ((2 * k.1 :: (tr_ru _ _ _ q).map _) ++ [])) ++ tr_mk R B)).Pairwise (· < ·)
      rw [Rq]
      simp only [List.map_append, List.map_cons, List.map_nil, List.append_assoc, List.cons_append, List.nil_append, List.append_nil] at hpw' ⊢
      have := tr_pw_lo (X := tr_mk R A ++ 2 * (tr_nd c).1 :: w1'.map (fun c => 2 * c.1 + 1)) (p := w.1) (q := k.1) (Y := w2.map (fun c => 2 * c.1 + 1) ++ tr_mk R B) (by simpa using hpw')
      simpa using this
    · show tr_ce nx' (-1) (tr_i (A ++ ([tr_nd c, (k.1, q)] ++ B)))
      have hch' : tr_ce nx (-1) (tr_i (A ++ ([tr_nd c] ++ B))) := hch
      rw [tr_i_app, tr_i_app, tr_ce_app] at hch'
      rw [tr_i_app, tr_i_app, tr_ce_app]
      refine ⟨tr_ce_cg (fun n hn => ?_) hch'.1, ?_, ?_, tr_ce_cg (fun n hn => ?_) hch'.2.2⟩
      · obtain ⟨y, hy, ey⟩ := tr_i_mem hn
        rw [← ey]; exact (hab y (Or.inl hy)).2.2
      · exact nc
      · exact nq.trans hch'.2.1
      · obtain ⟨y, hy, ey⟩ := tr_i_mem hn
        rw [← ey]; exact (hab y (Or.inr hy)).2.2
end
end
section
/-! a grown root, a borrowed cell, two nodes joined, a root given up -/
section
variable {R R' : Nat → List tr_C} {le le' nx nx' : Nat → Int32} {r H d e n m q g : Nat} {A0 B0 A B P : List tr_N} {x : tr_N} {F F' O : List Nat} {a b L w1 w2 u : List tr_C} {c k : tr_C} {ok ok' : Nat → Nat → Nat → Prop}
theorem tr_ids_up {r' : Nat} {n : Nat} : ∀ {H : Nat}, (∀ i, 0 < i → i ≤ H → tr_lv R' le' r' (i + 1) = tr_lv R le r i) → (tr_ids R' le' r' (H + 1)).count n + [r].count n = (tr_ids R le r H).count n + [r'].count n + (tr_i (tr_lv R' le' r' 1)).count n
  | 0, _ => by
    show ([r'] ++ tr_i (tr_lv R' le' r' 1)).count n + [r].count n = [r].count n + [r'].count n + _
    rw [List.count_append]; omega
  | H + 1, h => by
    show (tr_ids R' le' r' (H + 1) ++ tr_i (tr_lv R' le' r' (H + 2))).count n + _ = (tr_ids R le r H ++ tr_i (tr_lv R le r (H + 1))).count n + _ + _
    rw [List.count_append, List.count_append, h (H + 1) (by omega) (by omega)]
    have := tr_ids_up (n := n) (H := H) (fun i h1 h2 => h i h1 (by omega))
    omega
/-- the root of nine is split, and a new root stands above -/
theorem tr_grow (hT : tr_T R le nx r H L (tr_oi H r)) (hc : tr_P R le r H (q :: g :: F) O)
    (hw : R r = w1 ++ k :: w2) (h5 : w1.length = 5) (h3 : w2.length = 3)
    (n1 : ∀ n, n ≠ r → n ≠ q → n ≠ g → nx' n = nx n) (n2 : le r = 1 → nx' q = nx r ∧ nx' r = nI q) :
    tr_T (tr_ru (tr_ru (tr_ru R r w1) q (k :: w2)) g [(0, r, 0), (k.1, q, 0)]) (upd (upd le q (le r)) g 0) nx' g (H + 1) L (tr_ok (H + 1)) ∧
    tr_P (tr_ru (tr_ru (tr_ru R r w1) q (k :: w2)) g [(0, r, 0), (k.1, q, 0)]) (upd (upd le q (le r)) g 0) g (H + 1) F O ∧
    (∀ n ∈ O, tr_ru (tr_ru (tr_ru R r w1) q (k :: w2)) g [(0, r, 0), (k.1, q, 0)] n = R n ∧ upd (upd le q (le r)) g 0 n = le n ∧ nx' n = nx n) := by
  have hrm : ((0, r) : tr_N) ∈ tr_lv R le r 0 := by show _ ∈ [((0, r) : tr_N)]; simp
  have dq : ∀ i, i ≤ H → ∀ y ∈ tr_lv R le r i, y.2 ≠ q := fun i hi y hy z => tr_P_nF hc hi hy (by rw [z]; simp)
  have dg : ∀ i, i ≤ H → ∀ y ∈ tr_lv R le r i, y.2 ≠ g := fun i hi y hy z => tr_P_nF hc hi hy (by rw [z]; simp)
  have drq : r ≠ q := dq 0 (by omega) _ hrm
  have drg : r ≠ g := dg 0 (by omega) _ hrm
  have dqg : q ≠ g := by
    intro z
    have := tr_P_le hc g
    rw [z] at this
    simp only [List.count_cons_self] at this
    omega
  have dr : ∀ i, 0 < i → i ≤ H → ∀ y ∈ tr_lv R le r i, y.2 ≠ r := fun i h0 hi y hy => tr_P_dif hc hi (Nat.zero_le _) (by omega) hy hrm
  have Rr : tr_ru (tr_ru (tr_ru R r w1) q (k :: w2)) g [(0, r, 0), (k.1, q, 0)] r = w1 := by rw [tr_ru_n drg, tr_ru_n drq, tr_ru_s]
  have Rq : tr_ru (tr_ru (tr_ru R r w1) q (k :: w2)) g [(0, r, 0), (k.1, q, 0)] q = k :: w2 := by rw [tr_ru_n dqg, tr_ru_s]
  have Rg : tr_ru (tr_ru (tr_ru R r w1) q (k :: w2)) g [(0, r, 0), (k.1, q, 0)] g = [(0, r, 0), (k.1, q, 0)] := tr_ru_s
  have Rn : ∀ n, n ≠ r → n ≠ q → n ≠ g → tr_ru (tr_ru (tr_ru R r w1) q (k :: w2)) g [(0, r, 0), (k.1, q, 0)] n = R n := fun n a1 a2 a3 => by rw [tr_ru_n a3, tr_ru_n a2, tr_ru_n a1]
  have lr : upd (upd le q (le r)) g 0 r = le r := by rw [pk_un drg, pk_un drq]
  have lq : upd (upd le q (le r)) g 0 q = le r := by rw [pk_un dqg, pk_us]
  have lg : upd (upd le q (le r)) g 0 g = 0 := pk_us
  have ln : ∀ n, n ≠ q → n ≠ g → upd (upd le q (le r)) g 0 n = le n := fun n a2 a3 => by rw [pk_un a3, pk_un a2]
  generalize hR' : tr_ru (tr_ru (tr_ru R r w1) q (k :: w2)) g [(0, r, 0), (k.1, q, 0)] = R' at *
  generalize hle' : upd (upd le q (le r)) g 0 = le' at *
  have hw1 : w1 ≠ [] := by intro z; rw [z] at h5; exact absurd h5 (by decide)
  have v1 : tr_lv R' le' g 1 = [(0, r), (k.1, q)] := by
    show (tr_is R' le' [(0, g)]).map tr_nd = _
    rw [tr_is_cons, tr_is_nil, tr_it_in lg, List.append_nil]
    show (tr_fx 0 (R' g)).map tr_nd = _
    rw [Rg]; rfl
  have i1 : tr_is R' le' (tr_lv R' le' g 1) = tr_is R le (tr_lv R le r 0) := by
    rw [v1]
    show tr_is R' le' [(0, r), (k.1, q)] = tr_is R le [(0, r)]
    rw [tr_is_cons, tr_is_cons, tr_is_cons, tr_is_nil, tr_is_nil, List.append_nil, List.append_nil]
    unfold tr_it
    show (if le' r = 0 then tr_fx 0 (R' r) else R' r) ++ (if le' q = 0 then tr_fx k.1 (R' q) else R' q) = (if le r = 0 then tr_fx 0 (R r) else R r)
    rw [lr, lq, Rr, Rq, hw]
    by_cases hl : le r = 0
    · rw [if_pos hl, if_pos hl, if_pos hl, tr_fx_app hw1]; rfl
    · rw [if_neg hl, if_neg hl, if_neg hl]
  have ag : ∀ i, 0 < i → i ≤ H → ∀ y ∈ tr_lv R le r i, R' y.2 = R y.2 ∧ le' y.2 = le y.2 := fun i h0 hi y hy =>
    ⟨Rn _ (dr i h0 hi y hy) (dq i hi y hy) (dg i hi y hy), ln _ (dq i hi y hy) (dg i hi y hy)⟩
  have vs : ∀ i, i < H → tr_lv R' le' g (i + 2) = tr_lv R le r (i + 1) := by
    intro i
    induction i with
    | zero => intro _; rw [tr_lv_s, i1]; rfl
    | succ i ih =>
      intro hi
      rw [tr_lv_s, ih (by omega), tr_is_cg (ag (i + 1) (by omega) (by omega))]; rfl
  have vs' : ∀ i, 0 < i → i ≤ H → tr_lv R' le' g (i + 1) = tr_lv R le r i := by
    intro i h0 hi
    obtain ⟨j, rfl⟩ : ∃ j, i = j + 1 := ⟨i - 1, by omega⟩
    exact vs j (by omega)
  have tr0 := hT.1 0 (Nat.zero_le _) _ hrm
  obtain ⟨t1, t2, t3, t4⟩ := hT
  refine ⟨⟨?_, ?_, ?_⟩, ?_, ?_⟩
  · intro d hd y hy
    rcases Nat.eq_zero_or_pos d with z | z
    · subst z
      have : y = (0, g) := by simpa [tr_lv] using hy
      subst this
      refine ⟨fun _ => lg, fun z => by omega, ?_⟩
      show tr_ok (H + 1) 0 g (R' g).length
      rw [Rg]
      exact ⟨show 2 ≤ 8 by decide, fun _ _ => Nat.le_refl 2, fun z => by omega⟩
    · obtain ⟨j, rfl⟩ : ∃ j, d = j + 1 := ⟨d - 1, by omega⟩
      rcases Nat.eq_zero_or_pos j with z2 | z2
      · subst z2
        rw [v1] at hy
        have hy' : y = (0, r) ∨ y = (k.1, q) := by simpa using hy
        rcases hy' with rfl | rfl
        · show (0 + 1 < H + 1 → le' r = 0) ∧ (0 + 1 = H + 1 → le' r = 1) ∧ tr_ok (H + 1) (0 + 1) r (R' r).length
          rw [lr, Rr, h5]
          exact ⟨fun z => tr0.1 (by omega), fun z => tr0.2.1 (by omega), by decide, fun z => by omega, fun _ => by decide⟩
        · show (0 + 1 < H + 1 → le' q = 0) ∧ (0 + 1 = H + 1 → le' q = 1) ∧ tr_ok (H + 1) (0 + 1) q (R' q).length
          rw [lq, Rq, List.length_cons, h3]
          exact ⟨fun z => tr0.1 (by omega), fun z => tr0.2.1 (by omega), by decide, fun z => by omega, fun _ => by decide⟩
      · rw [vs' j z2 (by omega)] at hy
        have p := t1 j (by omega) y hy
        have q1 := ag j z2 (by omega) y hy
        rw [q1.1, q1.2]
        have o := p.2.2
        exact ⟨fun z => p.1 (by omega), fun z => p.2.1 (by omega), o.1 (dr j z2 (by omega) y hy), fun z => by omega, fun _ => o.2.2.2 z2⟩
  · rcases Nat.eq_zero_or_pos H with z | z
    · subst z; rw [i1]; exact t2
    · rw [vs' H z (Nat.le_refl _), t2]
      exact (tr_is_cg (ag H z (Nat.le_refl _))).symm
  · rcases Nat.eq_zero_or_pos H with z | z
    · subst z
      have lr1 : le r = 1 := tr0.2.1 rfl
      obtain ⟨nq, nr⟩ := n2 lr1
      show (tr_mk R' (tr_lv R' le' g 1)).Pairwise (· < ·) ∧ tr_ce nx' (-1) (tr_i (tr_lv R' le' g 1))
      rw [v1]
      obtain ⟨w1', w, rfl⟩ : ∃ w1' w, w1 = w1' ++ [w] := by
        rcases List.eq_nil_or_concat w1 with z | ⟨w1', w, z⟩
        · exact absurd z hw1
        · exact ⟨w1', w, by rw [z]; simp⟩
      constructor
      · have t3' : (tr_mk R [(0, r)]).Pairwise (· < ·) := t3
        rw [tr_mk_cons, tr_mk_nil] at t3'
        rw [tr_mk_cons, tr_mk_cons, tr_mk_nil]
        have t3'' : ((2 * 0 :: (R r).map (fun c : tr_C => 2 * c.1 + 1)) ++ []).Pairwise (· < ·) := t3'
        rw [hw] at t3''
        show ((2 * 0 :: (R' r).map (fun c : tr_C => 2 * c.1 + 1)) ++ ((2 * k.1 :: (R' q).map (fun c : tr_C => 2 * c.1 + 1)) ++ [])).Pairwise (· < ·)
        rw [Rr, Rq]
        have := tr_pw_lo (X := 2 * 0 :: w1'.map (fun c : tr_C => 2 * c.1 + 1)) (p := w.1) (q := k.1) (Y := w2.map (fun c : tr_C => 2 * c.1 + 1)) (by simpa using t3'')
        simpa using this
      · have t4' : nx r = -1 ∧ True := t4
        exact ⟨nr, nq.trans t4'.1, trivial⟩
    · rw [vs' H z (Nat.le_refl _)]
      refine ⟨?_, tr_ce_cg (fun n hn => ?_) t4⟩
      · rw [tr_mk_cg (fun y hy => (ag H z (Nat.le_refl _) y hy).1)]; exact t3
      · obtain ⟨y, hy, ey⟩ := tr_i_mem hn
        rw [← ey]; exact n1 _ (dr H z (Nat.le_refl _) y hy) (dq H (Nat.le_refl _) y hy) (dg H (Nat.le_refl _) y hy)
  · intro n
    have h1 := hc n
    have h2 := tr_ids_up (R := R) (R' := R') (le := le) (le' := le') (r := r) (r' := g) (n := n) vs'
    rw [v1] at h2
    have h4 : tr_i [((0, r) : tr_N), (k.1, q)] = [r, q] := rfl
    rw [h4] at h2
    rw [← h1]
    simp only [List.count_cons, List.count_nil] at h2 ⊢
    omega
  · intro n hn
    have a1 : n ≠ r := fun z => tr_P_nO hc (Nat.zero_le _) hrm (by show r ∈ O; rw [← z]; exact hn)
    have a2 : n ≠ q := fun z => tr_P_FO hc (n := q) (by simp) (by rw [← z]; exact hn)
    have a3 : n ≠ g := fun z => tr_P_FO hc (n := g) (by simp) (by rw [← z]; exact hn)
    exact ⟨Rn n a1 a2 a3, ln n a2 a3, n1 n a1 a2 a3⟩
end
end
section
/-! a borrowed cell, two nodes joined, a root given up -/
section
variable {R R' : Nat → List tr_C} {le le' nx nx' : Nat → Int32} {r H d e n m q g : Nat} {A0 B0 A B P : List tr_N} {x : tr_N} {F F' O : List Nat} {a b L wl wr u : List tr_C} {c cl cr k v w y z : tr_C} {ok ok' : Nat → Nat → Nat → Prop}
theorem tr_or_ok {l : Nat} (h : tr_ok H d n l) : tr_or H m d n l := ⟨h.1, fun z1 z2 => by have := h.2.1 z1 z2; omega, fun z => by have := h.2.2 z; omega, fun _ => h⟩
/-- a node below gets the last cell of its left neighbour -/
theorem tr_bl (hT : tr_T R le nx r H L (tr_or H c.2.1)) (hc : tr_P R le r H F O) (he : e < H) (hP : tr_lv R le r e = A0 ++ x :: B0) (hx : tr_it R le x = a ++ ([cl, c] ++ b))
    (hl : R cl.2.1 = wl ++ [v]) (h4 : 4 ≤ wl.length) (h3 : (R c.2.1).length ≤ 3) (hu : R x.2 = u ++ c :: b) (hfu : tr_fx x.1 u = a ++ [cl])
    (hR' : ∀ n, n ≠ x.2 → n ≠ cl.2.1 → n ≠ c.2.1 → R' n = R n) (hRx : R' x.2 = u ++ (v.1, c.2) :: b) (hRl : R' cl.2.1 = wl) (hRc : R' c.2.1 = v :: tr_it R le (tr_nd c)) :
    tr_T R' le nx r H L (tr_or H x.2) ∧ tr_P R' le r H F O ∧ (∀ n ∈ O, R' n = R n ∧ le n = le n ∧ nx n = nx n) ∧ (∀ i, i ≤ e → tr_lv R' le r i = tr_lv R le r i) := by
  have s1 := tr_lv_dn hP hx
  have hxm : x ∈ tr_lv R le r e := by rw [hP]; simp
  have hcm : tr_nd c ∈ tr_lv R le r (e + 1) := by rw [s1]; simp
  have hlm : tr_nd cl ∈ tr_lv R le r (e + 1) := by rw [s1]; simp
  have d1 : x.2 ≠ c.2.1 := tr_P_dif hc (d := e) (e := e + 1) (by omega) (by omega) (by omega) hxm hcm
  have tx := hT.1 e (by omega) x hxm
  have tc := hT.1 (e + 1) (by omega) _ hcm
  have tl := hT.1 (e + 1) (by omega) _ hlm
  have hune : u ≠ [] := by
    intro z; rw [z] at hfu; have := congrArg List.length hfu; rw [tr_fx_len] at this; simp at this
  have hwl : wl ≠ [] := by intro z; rw [z] at h4; exact absurd h4 (by decide)
  have hc3 : 3 ≤ (R c.2.1).length := tc.2.2.2.2.1 (by omega)
  refine tr_T_edit (ms := [cl, c]) (ms' := [cl, (v.1, c.2)]) hT hc he hP hx ?_ ?_ ?_ ?_ ?_ ?_ ?_ ?_ ?_
  · rw [tr_it_in (tx.1 he), hRx, tr_fx_app hune, hfu]
    simp
  · show tr_is _ _ [tr_nd cl, (v.1, c.2.1)] = tr_is _ _ [tr_nd cl, tr_nd c]
    rw [tr_is_cons, tr_is_cons, tr_is_cons, tr_is_cons, tr_is_nil, tr_is_nil, List.append_nil, List.append_nil]
    have e1 : tr_it R' le (v.1, c.2.1) = v :: tr_it R le (tr_nd c) := by
      unfold tr_it
      show (if le c.2.1 = 0 then tr_fx v.1 (R' c.2.1) else R' c.2.1) = _
      rw [hRc]
      by_cases hz : le c.2.1 = 0
      · rw [if_pos hz]; rfl
      · rw [if_neg hz]; rfl
    have e2 : tr_it R' le (tr_nd cl) ++ [v] = tr_it R le (tr_nd cl) := by
      unfold tr_it
      show (if le cl.2.1 = 0 then tr_fx cl.1 (R' cl.2.1) else R' cl.2.1) ++ [v] = (if le cl.2.1 = 0 then tr_fx cl.1 (R cl.2.1) else R cl.2.1)
      rw [hRl, hl]
      by_cases hz : le cl.2.1 = 0
      · rw [if_pos hz, if_pos hz, tr_fx_app hwl]
      · rw [if_neg hz, if_neg hz]
    rw [e1, ← e2]
    simp
  · intro n; rfl
  · intro n hn1 hn2 hn3
    have hn2' : n ∉ [cl.2.1, c.2.1] := hn2
    simp only [List.mem_cons, List.not_mem_nil, or_false, not_or] at hn2'
    exact ⟨hR' n hn1 hn2'.1 hn2'.2, rfl, rfl⟩
  · exact tx.1 he
  · have ll : (R' x.2).length = (R x.2).length := by rw [hRx, hu]; simp
    rw [ll]
    exact tr_or_ok (tx.2.2.2.2.2 d1)
  · intro y hy
    have hy' : y = tr_nd cl ∨ y = (v.1, c.2.1) := by
      have : y ∈ [tr_nd cl, (v.1, c.2.1)] := hy
      simpa using this
    have lw : (R cl.2.1).length = wl.length + 1 := by rw [hl]; simp
    have lc : (R' c.2.1).length = (R c.2.1).length + 1 := by rw [hRc, List.length_cons, tr_it_len]; rfl
    rcases hy' with rfl | rfl
    · refine ⟨tl.1, tl.2.1, tr_or_ok ?_⟩
      show tr_ok H (e + 1) cl.2.1 (R' cl.2.1).length
      have l8 : (R cl.2.1).length ≤ 8 := tl.2.2.1
      rw [hRl]
      exact ⟨by omega, fun z => by omega, fun _ => h4⟩
    · refine ⟨tc.1, tc.2.1, tr_or_ok ?_⟩
      show tr_ok H (e + 1) c.2.1 (R' c.2.1).length
      rw [lc]
      exact ⟨by omega, fun z => by omega, fun _ => by omega⟩
  · intro d n l hn1 hn2 ho
    have hn2' : n ∉ [cl.2.1, c.2.1] := hn2
    simp only [List.mem_cons, List.not_mem_nil, or_false, not_or] at hn2'
    exact tr_or_ok (ho.2.2.2 hn2'.2)
  · intro hz A B hab hpw hch
    have lc1 : le c.2.1 = 1 := tc.2.1 hz
    obtain ⟨w1', w, rfl⟩ : ∃ w1' w, wl = w1' ++ [w] := by
      rcases List.eq_nil_or_concat wl with z | ⟨w1', w, z⟩
      · exact absurd z hwl
      · exact ⟨w1', w, by rw [z]; simp⟩
    refine ⟨?_, by rw [tr_i_app, tr_i_app] at hch ⊢; exact hch⟩
    show (tr_mk _ (A ++ ([tr_nd cl, (v.1, c.2.1)] ++ B))).Pairwise (· < ·)
    have hpw' : (tr_mk R (A ++ ([tr_nd cl, tr_nd c] ++ B))).Pairwise (· < ·) := hpw
    rw [tr_mk_app, tr_mk_app, tr_mk_cons, tr_mk_cons, tr_mk_nil] at hpw'
    rw [tr_mk_app, tr_mk_app, tr_mk_cons, tr_mk_cons, tr_mk_nil, tr_mk_cg (fun y hy => (hab y (Or.inl hy)).1), tr_mk_cg (fun y hy => (hab y (Or.inr hy)).1)]
    have z1 : (tr_nd c).2 = c.2.1 := rfl
    have z2 : (tr_nd cl).2 = cl.2.1 := rfl
    rw [z1, z2, hl] at hpw'
    rw [z2, hRl]
    show (tr_mk R A ++ (((2 * (tr_nd cl).1 :: (w1' ++ [w]).map _) ++ ((2 * v.1 :: (R' c.2.1).map _) ++ [])) ++ tr_mk R B)).Pairwise (· < ·)
    have ei : tr_it R le (tr_nd c) = R c.2.1 := tr_it_lf lc1
    rw [hRc, ei]
    have q1 : (tr_mk R A ++ 2 * (tr_nd cl).1 :: w1'.map (fun c : tr_C => 2 * c.1 + 1) ++ (2 * w.1 + 1) :: (2 * v.1 + 1) :: ((R c.2.1).map (fun c : tr_C => 2 * c.1 + 1) ++ tr_mk R B)).Pairwise (· < ·) := by
      have := tr_pw_de (X := tr_mk R A ++ 2 * (tr_nd cl).1 :: w1'.map (fun c : tr_C => 2 * c.1 + 1) ++ [2 * w.1 + 1, 2 * v.1 + 1]) (v := 2 * (tr_nd c).1) (Y := (R c.2.1).map (fun c : tr_C => 2 * c.1 + 1) ++ tr_mk R B) (by simpa using hpw')
      simpa using this
    have := tr_pw_lo q1
    simpa using this
/-- a node below gets the first cell of its right neighbour -/
theorem tr_br (hT : tr_T R le nx r H L (tr_or H c.2.1)) (hc : tr_P R le r H F O) (he : e < H) (hP : tr_lv R le r e = A0 ++ x :: B0) (hx : tr_it R le x = a ++ ([c, cr] ++ b))
    (hr : tr_it R le (tr_nd cr) = v :: w :: wr) (h4 : 3 ≤ wr.length) (h3 : (R c.2.1).length ≤ 3) (hu : R x.2 = u ++ cr :: b) (hfu : tr_fx x.1 u = a ++ [c])
    (hR' : ∀ n, n ≠ x.2 → n ≠ cr.2.1 → n ≠ c.2.1 → R' n = R n) (hRx : R' x.2 = u ++ (w.1, cr.2) :: b) (hRr : R' cr.2.1 = w :: wr) (hRc : R' c.2.1 = R c.2.1 ++ [v]) :
    tr_T R' le nx r H L (tr_or H x.2) ∧ tr_P R' le r H F O ∧ (∀ n ∈ O, R' n = R n ∧ le n = le n ∧ nx n = nx n) ∧ (∀ i, i ≤ e → tr_lv R' le r i = tr_lv R le r i) := by
  have s1 := tr_lv_dn hP hx
  have hxm : x ∈ tr_lv R le r e := by rw [hP]; simp
  have hcm : tr_nd c ∈ tr_lv R le r (e + 1) := by rw [s1]; simp
  have hlm : tr_nd cr ∈ tr_lv R le r (e + 1) := by rw [s1]; simp
  have d1 : x.2 ≠ c.2.1 := tr_P_dif hc (d := e) (e := e + 1) (by omega) (by omega) (by omega) hxm hcm
  have tx := hT.1 e (by omega) x hxm
  have tc := hT.1 (e + 1) (by omega) _ hcm
  have tl := hT.1 (e + 1) (by omega) _ hlm
  have hune : u ≠ [] := by
    intro z; rw [z] at hfu; have := congrArg List.length hfu; rw [tr_fx_len] at this; simp at this
  have hc3 : 3 ≤ (R c.2.1).length := tc.2.2.2.2.1 (by omega)
  have hcne : R c.2.1 ≠ [] := by intro z; rw [z] at hc3; exact absurd hc3 (by decide)
  have lr : (R cr.2.1).length = wr.length + 2 := by
    have h := tr_it_len (R := R) (le := le) (x := tr_nd cr)
    rw [hr] at h
    exact h.symm
  refine tr_T_edit (ms := [c, cr]) (ms' := [c, (w.1, cr.2)]) hT hc he hP hx ?_ ?_ ?_ ?_ ?_ ?_ ?_ ?_ ?_
  · rw [tr_it_in (tx.1 he), hRx, tr_fx_app hune, hfu]
    simp
  · show tr_is _ _ [tr_nd c, (w.1, cr.2.1)] = tr_is _ _ [tr_nd c, tr_nd cr]
    rw [tr_is_cons, tr_is_cons, tr_is_cons, tr_is_cons, tr_is_nil, tr_is_nil, List.append_nil, List.append_nil, hr]
    have e1 : tr_it R' le (w.1, cr.2.1) = w :: wr := by
      unfold tr_it
      show (if le cr.2.1 = 0 then tr_fx w.1 (R' cr.2.1) else R' cr.2.1) = _
      rw [hRr]
      by_cases hz : le cr.2.1 = 0
      · rw [if_pos hz]; rfl
      · rw [if_neg hz]
    have e2 : tr_it R' le (tr_nd c) = tr_it R le (tr_nd c) ++ [v] := by
      unfold tr_it
      show (if le c.2.1 = 0 then tr_fx c.1 (R' c.2.1) else R' c.2.1) = (if le c.2.1 = 0 then tr_fx c.1 (R c.2.1) else R c.2.1) ++ [v]
      rw [hRc]
      by_cases hz : le c.2.1 = 0
      · rw [if_pos hz, if_pos hz, tr_fx_app hcne]
      · rw [if_neg hz, if_neg hz]
    rw [e1, e2]
    simp
  · intro n; rfl
  · intro n hn1 hn2 hn3
    have hn2' : n ∉ [c.2.1, cr.2.1] := hn2
    simp only [List.mem_cons, List.not_mem_nil, or_false, not_or] at hn2'
    exact ⟨hR' n hn1 hn2'.2 hn2'.1, rfl, rfl⟩
  · exact tx.1 he
  · have ll : (R' x.2).length = (R x.2).length := by rw [hRx, hu]; simp
    rw [ll]
    exact tr_or_ok (tx.2.2.2.2.2 d1)
  · intro y hy
    have hy' : y = tr_nd c ∨ y = (w.1, cr.2.1) := by
      have : y ∈ [tr_nd c, (w.1, cr.2.1)] := hy
      simpa using this
    have lc : (R' c.2.1).length = (R c.2.1).length + 1 := by rw [hRc]; simp
    rcases hy' with rfl | rfl
    · refine ⟨tc.1, tc.2.1, tr_or_ok ?_⟩
      show tr_ok H (e + 1) c.2.1 (R' c.2.1).length
      rw [lc]
      exact ⟨by omega, fun z => by omega, fun _ => by omega⟩
    · refine ⟨tl.1, tl.2.1, tr_or_ok ?_⟩
      show tr_ok H (e + 1) cr.2.1 (R' cr.2.1).length
      have l8 : (R cr.2.1).length ≤ 8 := tl.2.2.1
      rw [hRr, List.length_cons]
      exact ⟨by omega, fun z => by omega, fun _ => by omega⟩
  · intro d n l hn1 hn2 ho
    have hn2' : n ∉ [c.2.1, cr.2.1] := hn2
    simp only [List.mem_cons, List.not_mem_nil, or_false, not_or] at hn2'
    exact tr_or_ok (ho.2.2.2 hn2'.1)
  · intro hz A B hab hpw hch
    have lc1 : le c.2.1 = 1 := tc.2.1 hz
    have lr1 : le cr.2.1 = 1 := tl.2.1 hz
    refine ⟨?_, by rw [tr_i_app, tr_i_app] at hch ⊢; exact hch⟩
    show (tr_mk _ (A ++ ([tr_nd c, (w.1, cr.2.1)] ++ B))).Pairwise (· < ·)
    have hpw' : (tr_mk R (A ++ ([tr_nd c, tr_nd cr] ++ B))).Pairwise (· < ·) := hpw
    rw [tr_mk_app, tr_mk_app, tr_mk_cons, tr_mk_cons, tr_mk_nil] at hpw'
    rw [tr_mk_app, tr_mk_app, tr_mk_cons, tr_mk_cons, tr_mk_nil, tr_mk_cg (fun y hy => (hab y (Or.inl hy)).1), tr_mk_cg (fun y hy => (hab y (Or.inr hy)).1)]
    have z1 : (tr_nd c).2 = c.2.1 := rfl
    have z2 : (tr_nd cr).2 = cr.2.1 := rfl
    have ei : R cr.2.1 = v :: w :: wr := by rw [← hr]; exact (tr_it_lf (x := tr_nd cr) lr1).symm
    rw [z1, z2, ei] at hpw'
    rw [z1, hRc]
    show (tr_mk R A ++ (((2 * (tr_nd c).1 :: (R c.2.1 ++ [v]).map _) ++ ((2 * w.1 :: (R' cr.2.1).map _) ++ [])) ++ tr_mk R B)).Pairwise (· < ·)
    rw [hRr]
    have q1 : (tr_mk R A ++ 2 * (tr_nd c).1 :: (R c.2.1).map (fun c : tr_C => 2 * c.1 + 1) ++ (2 * v.1 + 1) :: (2 * w.1 + 1) :: (wr.map (fun c : tr_C => 2 * c.1 + 1) ++ tr_mk R B)).Pairwise (· < ·) := by
      have := tr_pw_de (X := tr_mk R A ++ 2 * (tr_nd c).1 :: (R c.2.1).map (fun c : tr_C => 2 * c.1 + 1)) (v := 2 * (tr_nd cr).1) (Y := (2 * v.1 + 1) :: (2 * w.1 + 1) :: (wr.map (fun c : tr_C => 2 * c.1 + 1) ++ tr_mk R B)) (by simpa using hpw')
      simpa using this
    have := tr_pw_lo q1
    simpa using this
/-- two neighbours are joined -/
theorem tr_jn (hm : m = y.2.1 ∨ m = z.2.1) (hT : tr_T R le nx r H L (tr_or H m)) (hc : tr_P R le r H F O) (he : e < H) (hP : tr_lv R le r e = A0 ++ x :: B0) (hx : tr_it R le x = a ++ ([y, z] ++ b))
    (h8 : (R y.2.1).length + (R z.2.1).length ≤ 8) (hu : R x.2 = u ++ z :: b) (hfu : tr_fx x.1 u = a ++ [y])
    (hR' : ∀ n, n ≠ x.2 → n ≠ y.2.1 → n ≠ z.2.1 → R' n = R n) (hRx : R' x.2 = u ++ b) (hRy : R' y.2.1 = R y.2.1 ++ tr_it R le (tr_nd z))
    (n1 : ∀ n, n ≠ y.2.1 → n ≠ z.2.1 → nx' n = nx n) (n2 : le z.2.1 = 1 → nx' y.2.1 = nx z.2.1) :
    tr_T R' le nx' r H L (tr_or H x.2) ∧ tr_P R' le r H (z.2.1 :: F) O ∧ (∀ n ∈ O, R' n = R n ∧ le n = le n ∧ nx' n = nx n) ∧ (∀ i, i ≤ e → tr_lv R' le r i = tr_lv R le r i) := by
  have s1 := tr_lv_dn hP hx
  have hxm : x ∈ tr_lv R le r e := by rw [hP]; simp
  have hym : tr_nd y ∈ tr_lv R le r (e + 1) := by rw [s1]; simp
  have hzm : tr_nd z ∈ tr_lv R le r (e + 1) := by rw [s1]; simp
  have d1 : x.2 ≠ y.2.1 := tr_P_dif hc (d := e) (e := e + 1) (by omega) (by omega) (by omega) hxm hym
  have d2 : x.2 ≠ z.2.1 := tr_P_dif hc (d := e) (e := e + 1) (by omega) (by omega) (by omega) hxm hzm
  have dm : x.2 ≠ m := by rcases hm with rfl | rfl <;> assumption
  have tx := hT.1 e (by omega) x hxm
  have ty := hT.1 (e + 1) (by omega) _ hym
  have tz := hT.1 (e + 1) (by omega) _ hzm
  have hune : u ≠ [] := by
    intro z; rw [z] at hfu; have := congrArg List.length hfu; rw [tr_fx_len] at this; simp at this
  have hy3 : 3 ≤ (R y.2.1).length := ty.2.2.2.2.1 (by omega)
  have hz3 : 3 ≤ (R z.2.1).length := tz.2.2.2.2.1 (by omega)
  have hyne : R y.2.1 ≠ [] := by intro z; rw [z] at hy3; exact absurd hy3 (by decide)
  refine tr_T_edit (ms := [y, z]) (ms' := [y]) hT hc he hP hx ?_ ?_ ?_ ?_ ?_ ?_ ?_ ?_ ?_
  · rw [tr_it_in (tx.1 he), hRx, tr_fx_app hune, hfu]
    simp
  · show tr_is _ _ [tr_nd y] = tr_is _ _ [tr_nd y, tr_nd z]
    rw [tr_is_cons, tr_is_cons, tr_is_cons, tr_is_nil, tr_is_nil, List.append_nil, List.append_nil]
    have e2 : tr_it R' le (tr_nd y) = tr_it R le (tr_nd y) ++ tr_it R le (tr_nd z) := by
      have : tr_it R' le (tr_nd y) = (if le y.2.1 = 0 then tr_fx y.1 (R' y.2.1) else R' y.2.1) := rfl
      have h2 : tr_it R le (tr_nd y) = (if le y.2.1 = 0 then tr_fx y.1 (R y.2.1) else R y.2.1) := rfl
      rw [this, h2, hRy]
      by_cases hz : le y.2.1 = 0
      · rw [if_pos hz, if_pos hz, tr_fx_app hyne]
      · rw [if_neg hz, if_neg hz]
    exact e2
  · intro n
    show [y.2.1].count n + (z.2.1 :: F).count n = [y.2.1, z.2.1].count n + F.count n
    simp only [List.count_cons, List.count_nil]
    omega
  · intro n hn1 hn2 hn3
    have hn2' : n ∉ [y.2.1, z.2.1] := hn2
    simp only [List.mem_cons, List.not_mem_nil, or_false, not_or] at hn2'
    exact ⟨hR' n hn1 hn2'.1 hn2'.2, rfl, n1 n hn2'.1 hn2'.2⟩
  · exact tx.1 he
  · have ll : (R' x.2).length + 1 = (R x.2).length := by rw [hRx, hu]; simp; omega
    have t := tx.2.2.2.2.2 dm
    refine ⟨by have := t.1; omega, fun q1 q2 => by have := t.2.1 q1 q2; omega, fun q1 => by have := t.2.2 q1; omega, fun q => absurd rfl q⟩
  · intro p hp
    have hp' : p = tr_nd y := by
      have : p ∈ [tr_nd y] := hp
      simpa using this
    subst hp'
    refine ⟨ty.1, ty.2.1, tr_or_ok ?_⟩
    show tr_ok H (e + 1) y.2.1 (R' y.2.1).length
    have lz : (tr_it R le (tr_nd z)).length = (R z.2.1).length := tr_it_len
    rw [hRy, List.length_append, lz]
    exact ⟨by omega, fun z => by omega, fun _ => by omega⟩
  · intro d n l hn1 hn2 ho
    have hn2' : n ∉ [y.2.1, z.2.1] := hn2
    simp only [List.mem_cons, List.not_mem_nil, or_false, not_or] at hn2'
    refine tr_or_ok (ho.2.2.2 ?_)
    rcases hm with rfl | rfl
    · exact hn2'.1
    · exact hn2'.2
  · intro hz A B hab hpw hch
    have lz1 : le z.2.1 = 1 := tz.2.1 hz
    constructor
    · show (tr_mk _ (A ++ ([tr_nd y] ++ B))).Pairwise (· < ·)
      have hpw' : (tr_mk R (A ++ ([tr_nd y, tr_nd z] ++ B))).Pairwise (· < ·) := hpw
      rw [tr_mk_app, tr_mk_app, tr_mk_cons, tr_mk_cons, tr_mk_nil] at hpw'
      rw [tr_mk_app, tr_mk_app, tr_mk_cons, tr_mk_nil, tr_mk_cg (fun y hy => (hab y (Or.inl hy)).1), tr_mk_cg (fun y hy => (hab y (Or.inr hy)).1)]
      have z1 : (tr_nd y).2 = y.2.1 := rfl
      have z2 : (tr_nd z).2 = z.2.1 := rfl
      have ei : tr_it R le (tr_nd z) = R z.2.1 := tr_it_lf lz1
      rw [z1, z2] at hpw'
      rw [z1, hRy, ei]
      have := tr_pw_de (X := tr_mk R A ++ 2 * (tr_nd y).1 :: (R y.2.1).map (fun c : tr_C => 2 * c.1 + 1)) (v := 2 * (tr_nd z).1) (Y := (R z.2.1).map (fun c : tr_C => 2 * c.1 + 1) ++ tr_mk R B) (by simpa using hpw')
      simpa using this
    · show tr_ce nx' (-1) (tr_i (A ++ ([tr_nd y] ++ B)))
      have hch' : tr_ce nx (-1) (tr_i (A ++ ([tr_nd y, tr_nd z] ++ B))) := hch
      rw [tr_i_app, tr_i_app, tr_ce_app] at hch'
      rw [tr_i_app, tr_i_app, tr_ce_app]
      refine ⟨tr_ce_cg (fun n hn => ?_) hch'.1, ?_, tr_ce_cg (fun n hn => ?_) hch'.2.2.2⟩
      · obtain ⟨y, hy, ey⟩ := tr_i_mem hn
        rw [← ey]; exact (hab y (Or.inl hy)).2.2
      · exact (n2 lz1).trans hch'.2.2.1
      · obtain ⟨y, hy, ey⟩ := tr_i_mem hn
        rw [← ey]; exact (hab y (Or.inr hy)).2.2
/-- a root with one child is given up -/
theorem tr_col (hT : tr_T R le nx r (H + 1) L (tr_or (H + 1) r)) (hc : tr_P R le r (H + 1) F O) (hr : R r = [c]) (n1 : ∀ n, n ≠ r → nx' n = nx n) :
    tr_T R le nx' c.2.1 H L (tr_ok H) ∧ tr_P R le c.2.1 H (r :: F) O ∧ (∀ n ∈ O, nx' n = nx n) := by
  have hrm : ((0, r) : tr_N) ∈ tr_lv R le r 0 := by show _ ∈ [((0, r) : tr_N)]; simp
  have t0 := hT.1 0 (Nat.zero_le _) _ hrm
  have vs : ∀ i, tr_lv R le r (i + 1) = tr_lv R le c.2.1 i := by
    intro i
    induction i with
    | zero =>
      show (tr_is R le [(0, r)]).map tr_nd = [(0, c.2.1)]
      rw [tr_is_cons, tr_is_nil, tr_it_in (t0.1 (by omega)), List.append_nil]
      show (tr_fx 0 (R r)).map tr_nd = _
      rw [hr]; rfl
    | succ i ih => rw [tr_lv_s, ih]; rfl
  have dr : ∀ i, i ≤ H → ∀ y ∈ tr_lv R le c.2.1 i, y.2 ≠ r := fun i hi y hy => tr_P_dif hc (d := i + 1) (e := 0) (by omega) (by omega) (by omega) (by rw [vs]; exact hy) hrm
  obtain ⟨t1, t2, t3, t4⟩ := hT
  refine ⟨⟨?_, ?_, ?_, ?_⟩, ?_, ?_⟩
  · intro d hd y hy
    have p := t1 (d + 1) (by omega) y (by rw [vs]; exact hy)
    have o := p.2.2.2.2.2 (dr d hd y hy)
    exact ⟨fun z => p.1 (by omega), fun z => p.2.1 (by omega), o.1, fun _ _ => by have := o.2.2 (by omega); omega, fun _ => o.2.2 (by omega)⟩
  · rw [t2, vs]
  · rw [← vs]; exact t3
  · rw [← vs]
    refine tr_ce_cg (fun n hn => ?_) t4
    obtain ⟨y, hy, ey⟩ := tr_i_mem hn
    rw [← ey]
    exact n1 _ (dr H (Nat.le_refl _) y (by rw [← vs]; exact hy))
  · intro n
    have h1 := hc n
    have h2 := tr_ids_up (R := R) (R' := R) (le := le) (le' := le) (r := c.2.1) (r' := r) (n := n) (H := H) (fun i _ _ => vs i)
    rw [vs 0] at h2
    have h3 : tr_i (tr_lv R le c.2.1 0) = [c.2.1] := rfl
    rw [h3] at h2
    rw [← h1]
    simp only [List.count_cons, List.count_nil] at h2 ⊢
    omega
  · intro n hn
    exact n1 n (fun z => tr_P_nO hc (Nat.zero_le _) hrm (by show r ∈ O; rw [← z]; exact hn))
end
end
section
/-! counting nodes; order; the way down -/
theorem tr_at {α : Type} : ∀ {l : List α} {i : Nat}, i < l.length → ∃ a c b, l = a ++ c :: b ∧ a.length = i
  | [], _, h => absurd h (Nat.not_lt_zero _)
  | c :: l, 0, _ => ⟨[], c, l, rfl, rfl⟩
  | x :: l, i + 1, h => by
    obtain ⟨a, c, b, e, h2⟩ := tr_at (l := l) (i := i) (by simpa using h)
    exact ⟨x :: a, c, b, by rw [e]; rfl, by simp [h2]⟩
theorem tr_gm {α : Type} {a b : List α} {c : α} : (a ++ c :: b)[a.length]? = some c := by simp
def tr_Pa (R : Nat → List tr_C) (le : Nat → Int32) (r : Nat) (pa sl : Nat → Int32) : Nat → List tr_N → tr_N → List tr_N → Prop
  | 0, A, x, B => A = [] ∧ x = (0, r) ∧ B = [] ∧ pa 0 = nI r
  | d + 1, A, x, B => ∃ A' x' B' a c b, tr_Pa R le r pa sl d A' x' B' ∧ sl d = nI (List.length a) ∧ tr_it R le x' = a ++ c :: b ∧ A = (tr_is R le A' ++ a).map tr_nd ∧ x = tr_nd c ∧ B = (b ++ tr_is R le B').map tr_nd ∧ pa (d + 1) = nI x.2
section
variable {R R' : Nat → List tr_C} {le le' nx nx' pa sl pa' sl' : Nat → Int32} {r H d e n m q g k : Nat} {A0 B0 A B P : List tr_N} {x : tr_N} {F F' O : List Nat} {a b L u c1 c2 : List tr_C} {c v w y z : tr_C} {ok ok' : Nat → Nat → Nat → Prop}
theorem tr_is_len {j : Nat} (h : ∀ y ∈ P, j ≤ (R y.2).length) : j * P.length ≤ (tr_is R le P).length := by
  induction P with
  | nil => simp
  | cons y P ih =>
    rw [tr_is_cons, List.length_append, tr_it_len, List.length_cons, Nat.mul_add]
    have h1 := h y List.mem_cons_self
    have h2 := ih (fun z hz => h z (List.mem_cons_of_mem _ hz))
    omega
theorem tr_lv_len : (tr_lv R le r (d + 1)).length = (tr_is R le (tr_lv R le r d)).length := by rw [tr_lv_s, List.length_map]
theorem tr_ids_len : ∀ {d : Nat}, (tr_ids R le r (d + 1)).length = (tr_ids R le r d).length + (tr_lv R le r (d + 1)).length := by
  intro d
  show (tr_ids R le r d ++ tr_i (tr_lv R le r (d + 1))).length = _
  rw [List.length_append]
  unfold tr_i
  rw [List.length_map]
theorem tr_cnt (hT : tr_T R le nx r H L ok) (hb : ∀ d n l, ok d n l → (d = 0 → 0 < H → 2 ≤ l) ∧ (0 < d → 4 ≤ l)) : 3 * (tr_ids R le r H).length ≤ L.length + 3 := by
  obtain ⟨t1, t2, t3, t4⟩ := hT
  have s : ∀ d, d ≤ H → 3 * (tr_ids R le r d).length ≤ 4 * (tr_lv R le r d).length + 1 := by
    intro d
    induction d with
    | zero => intro _; show 3 * 1 ≤ 4 * 1 + 1; omega
    | succ d ih =>
      intro hd
      have i := ih (by omega)
      rw [tr_ids_len]
      rcases Nat.eq_zero_or_pos d with z | z
      · subst z
        have : 2 * (tr_lv R le r 0).length ≤ (tr_is R le (tr_lv R le r 0)).length := tr_is_len (fun y hy => (hb _ _ _ (t1 0 (by omega) y hy).2.2).1 rfl (by omega))
        rw [← tr_lv_len] at this
        have h0 : (tr_lv R le r 0).length = 1 := rfl
        have h1 : (tr_ids R le r 0).length = 1 := rfl
        omega
      · have : 4 * (tr_lv R le r d).length ≤ (tr_is R le (tr_lv R le r d)).length := tr_is_len (fun y hy => (hb _ _ _ (t1 d (by omega) y hy).2.2).2 z)
        rw [← tr_lv_len] at this
        omega
  rcases Nat.eq_zero_or_pos H with z | z
  · subst z
    have h1 : (tr_ids R le r 0).length = 1 := rfl
    omega
  · have h1 := s H (Nat.le_refl _)
    have : 4 * (tr_lv R le r H).length ≤ (tr_is R le (tr_lv R le r H)).length := tr_is_len (fun y hy => (hb _ _ _ (t1 H (Nat.le_refl _) y hy).2.2).2 z)
    rw [← t2] at this
    omega
theorem tr_hgt (hT : tr_T R le nx r H L ok) (hb : ∀ d n l, ok d n l → (d = 0 → 0 < H → 2 ≤ l) ∧ (0 < d → 4 ≤ l)) (hL : L.length ≤ 400) : H ≤ 8 := by
  obtain ⟨t1, t2, t3, t4⟩ := hT
  have s : ∀ d, d ≤ H → 2 ^ d ≤ (tr_lv R le r d).length := by
    intro d
    induction d with
    | zero => intro _; exact Nat.le_refl _
    | succ d ih =>
      intro hd
      have i := ih (by omega)
      have : 2 * (tr_lv R le r d).length ≤ (tr_is R le (tr_lv R le r d)).length := tr_is_len (fun y hy => by
        have o := hb _ _ _ (t1 d (by omega) y hy).2.2
        rcases Nat.eq_zero_or_pos d with z | z
        · exact o.1 z (by omega)
        · have := o.2 z; omega)
      rw [← tr_lv_len] at this
      rw [Nat.pow_succ]
      omega
  rcases Nat.lt_or_ge 8 H with z | z
  · have h1 := s H (Nat.le_refl _)
    have h2 : 2 ^ 9 ≤ 2 ^ H := Nat.pow_le_pow_right (by decide) z
    have : 4 * (tr_lv R le r H).length ≤ (tr_is R le (tr_lv R le r H)).length := tr_is_len (fun y hy => (hb _ _ _ (t1 H (Nat.le_refl _) y hy).2.2).2 (by omega))
    rw [← t2] at this
    have h9 : 2 ^ 9 = 512 := by decide
    omega
  · exact z
theorem tr_P_len (h : tr_P R le r H F O) : (tr_ids R le r H).length + F.length + O.length = 130 := by
  have hp : (tr_ids R le r H ++ (F ++ O)).Perm (List.range 130) := by
    rw [List.perm_iff_count]
    intro n
    rw [List.count_append, List.count_append, List.count_range]
    have := h n
    omega
  have := hp.length_eq
  simpa [Nat.add_assoc] using this
theorem tr_ok_b : ∀ d n l, tr_ok H d n l → (d = 0 → 0 < H → 2 ≤ l) ∧ (0 < d → 4 ≤ l) := fun _ _ _ h => h.2
theorem tr_oi_b : ∀ d n l, tr_oi H m d n l → (d = 0 → 0 < H → 2 ≤ l) ∧ (0 < d → 4 ≤ l) := fun _ _ _ h => h.2.2
/-! order -/
theorem tr_mk_l {y : tr_N} (h : y ∈ P) : 2 * y.1 ∈ tr_mk R P := List.mem_flatMap.mpr ⟨y, h, List.mem_cons_self⟩
theorem tr_mk_e {y : tr_N} {e : tr_C} (h : y ∈ P) (he : e ∈ R y.2) : 2 * e.1 + 1 ∈ tr_mk R P := List.mem_flatMap.mpr ⟨y, h, List.mem_cons_of_mem _ (List.mem_map_of_mem (f := fun c : tr_C => 2 * c.1 + 1) he)⟩
theorem tr_mk_m {v : Nat} (h : v ∈ tr_mk R P) : ∃ y ∈ P, v = 2 * y.1 ∨ ∃ e ∈ R y.2, v = 2 * e.1 + 1 := by
  obtain ⟨y, hy, hv⟩ := List.mem_flatMap.mp h
  refine ⟨y, hy, ?_⟩
  rcases List.mem_cons.mp hv with h1 | h1
  · exact Or.inl h1
  · obtain ⟨e, he, ee⟩ := List.mem_map.mp h1
    exact Or.inr ⟨e, he, ee.symm⟩
theorem tr_is_m {e : tr_C} (h : e ∈ tr_is R le P) : ∃ y ∈ P, e ∈ tr_it R le y := by
  obtain ⟨y, hy, hv⟩ := List.mem_flatMap.mp h
  exact ⟨y, hy, hv⟩
theorem tr_mk_los (h : (tr_mk R P).Pairwise (· < ·)) : (P.map Prod.fst).Pairwise (· < ·) := by
  induction P with
  | nil => exact List.Pairwise.nil
  | cons y P ih =>
    rw [tr_mk_cons, List.pairwise_append] at h
    refine List.pairwise_cons.mpr ⟨fun z hz => ?_, ih h.2.1⟩
    obtain ⟨w, hw, ew⟩ := List.mem_map.mp hz
    have := h.2.2 _ List.mem_cons_self _ (tr_mk_l (R := R) hw)
    omega
theorem tr_mk_in {y : tr_N} {e : tr_C} (h : (tr_mk R P).Pairwise (· < ·)) (hy : y ∈ P) (he : e ∈ R y.2) : y.1 ≤ e.1 := by
  induction P with
  | nil => exact absurd hy List.not_mem_nil
  | cons z P ih =>
    rw [tr_mk_cons, List.pairwise_append] at h
    rcases List.mem_cons.mp hy with rfl | hy
    · have := (List.pairwise_cons.mp h.1).1 _ (List.mem_map_of_mem (f := fun c : tr_C => 2 * c.1 + 1) he)
      omega
    · exact ih h.2.1 hy
theorem tr_los (hT : tr_T R le nx r H L ok) (hb : ∀ d n l, ok d n l → d < H → 1 ≤ l) : ∀ j, j ≤ H → ((tr_lv R le r (H - j)).map Prod.fst).Pairwise (· < ·) := by
  intro j
  induction j with
  | zero => intro _; exact tr_mk_los hT.2.2.1
  | succ j ih =>
    intro hj
    have i := ih (by omega)
    have e1 : H - j = (H - (j + 1)) + 1 := by omega
    rw [e1, tr_lv_s] at i
    refine i.sublist ?_
    have hn : ∀ y ∈ tr_lv R le r (H - (j + 1)), le y.2 = 0 ∧ 1 ≤ (R y.2).length := fun y hy => by
      have p := hT.1 _ (by omega) y hy
      exact ⟨p.1 (by omega), hb _ _ _ p.2.2 (by omega)⟩
    generalize tr_lv R le r (H - (j + 1)) = P at hn ⊢
    clear i ih
    induction P with
    | nil => exact List.Sublist.slnil
    | cons y P ih =>
      have ny := hn y List.mem_cons_self
      rw [tr_is_cons, tr_it_in ny.1, List.map_cons, List.map_append, List.map_append]
      cases hR : R y.2 with
      | nil => rw [hR] at ny; exact absurd ny.2 (by decide)
      | cons c cs =>
        show List.Sublist (y.1 :: P.map Prod.fst) (y.1 :: ((cs.map tr_nd).map Prod.fst ++ ((tr_is R le P).map tr_nd).map Prod.fst))
        refine List.Sublist.cons_cons _ ?_
        exact (ih (fun z hz => hn z (List.mem_cons_of_mem _ hz))).trans (List.sublist_append_right _ _)
theorem tr_losd (hT : tr_T R le nx r H L ok) (hb : ∀ d n l, ok d n l → d < H → 1 ≤ l) (hd : d ≤ H) : ((tr_lv R le r d).map Prod.fst).Pairwise (· < ·) := by
  have := tr_los hT hb (H - d) (by omega)
  have e1 : H - (H - d) = d := by omega
  rw [e1] at this
  exact this
/-- the entries stand in order -/
theorem tr_srt (hT : tr_T R le nx r H L ok) : (L.map Prod.fst).Pairwise (· < ·) := by
  obtain ⟨t1, t2, t3, t4⟩ := hT
  have hl : ∀ y ∈ tr_lv R le r H, le y.2 = 1 := fun y hy => (t1 H (Nat.le_refl _) y hy).2.1 rfl
  rw [t2]
  generalize tr_lv R le r H = P at hl t3
  clear t1 t2 t4
  induction P with
  | nil => exact List.Pairwise.nil
  | cons y P ih =>
    have hl2 : ∀ z ∈ P, le z.2 = 1 := fun z hz => hl z (List.mem_cons_of_mem _ hz)
    rw [tr_mk_cons, List.pairwise_append] at t3
    rw [tr_is_cons, tr_it_lf (hl y List.mem_cons_self), List.map_append, List.pairwise_append]
    refine ⟨?_, ih hl2 t3.2.1, fun v hv w hw => ?_⟩
    · have := (List.pairwise_cons.mp t3.1).2
      rw [List.pairwise_map] at this ⊢
      exact this.imp (fun h => by omega)
    · obtain ⟨c, hc, rfl⟩ := List.mem_map.mp hv
      obtain ⟨e, he, rfl⟩ := List.mem_map.mp hw
      obtain ⟨z, hz, hez⟩ := tr_is_m he
      rw [tr_it_lf (hl2 z hz)] at hez
      have := t3.2.2 _ (List.mem_cons_of_mem _ (List.mem_map_of_mem (f := fun c : tr_C => 2 * c.1 + 1) hc)) _ (tr_mk_e hz hez)
      omega
/-! the way down -/
theorem tr_Pa_lv : ∀ {d : Nat} {A B : List tr_N} {x : tr_N}, tr_Pa R le r pa sl d A x B → tr_lv R le r d = A ++ x :: B
  | 0, A, B, x, h => by
    obtain ⟨rfl, rfl, rfl, _⟩ := h
    rfl
  | d + 1, A, B, x, h => by
    obtain ⟨A', x', B', a, c, b, h1, h2, h3, rfl, rfl, rfl, h4⟩ := h
    rw [tr_lv_dn (tr_Pa_lv h1) (ms := [c]) h3]
    rfl
theorem tr_Pa_x : ∀ {d : Nat} {A B : List tr_N} {x : tr_N}, tr_Pa R le r pa sl d A x B → pa d = nI x.2
  | 0, A, B, x, h => by
    obtain ⟨rfl, rfl, rfl, h⟩ := h
    exact h
  | d + 1, A, B, x, h => by
    obtain ⟨A', x', B', a, c, b, h1, h2, h3, rfl, rfl, rfl, h4⟩ := h
    exact h4
theorem tr_Pa_cg : ∀ {d : Nat} {A B : List tr_N} {x : tr_N}, (∀ i, i < d → ∀ y ∈ tr_lv R le r i, R' y.2 = R y.2 ∧ le' y.2 = le y.2) → (∀ i, i ≤ d → pa' i = pa i) → (∀ i, i < d → sl' i = sl i) → tr_Pa R le r pa sl d A x B → tr_Pa R' le' r pa' sl' d A x B
  | 0, A, B, x, _, hp, _, h => by
    obtain ⟨h1, h2, h3, h4⟩ := h
    exact ⟨h1, h2, h3, (hp 0 (Nat.le_refl _)).trans h4⟩
  | d + 1, A, B, x, ha, hp, hs, h => by
    obtain ⟨A', x', B', a, c, b, h1, h2, h3, e1, e2, e3, h4⟩ := h
    have hl := tr_Pa_lv h1
    have hA : ∀ y, y ∈ A' ∨ y = x' ∨ y ∈ B' → R' y.2 = R y.2 ∧ le' y.2 = le y.2 := fun y hy => ha d (by omega) y (by
      rw [hl]; simp only [List.mem_append, List.mem_cons]; exact hy)
    refine ⟨A', x', B', a, c, b, tr_Pa_cg (fun i hi => ha i (by omega)) (fun i hi => hp i (by omega)) (fun i hi => hs i (by omega)) h1, (hs d (by omega)).trans h2, ?_, ?_, e2, ?_, (hp _ (Nat.le_refl _)).trans h4⟩
    · rw [tr_it_cg (hA x' (Or.inr (Or.inl rfl)))]; exact h3
    · rw [tr_is_cg (fun y hy => hA y (Or.inl hy))]; exact e1
    · rw [tr_is_cg (fun y hy => hA y (Or.inr (Or.inr hy)))]; exact e3
theorem tr_fx_g {lo i : Nat} : ∀ {l : List tr_C}, (tr_fx lo l)[i + 1]? = l[i + 1]?
  | [] => rfl
  | _ :: _ => rfl
/-- one step down -/
theorem tr_step (hT : tr_T R le nx r H L ok) (hb : ∀ d n l, ok d n l → d < H → 1 ≤ l) (hd : d < H) (hp : tr_Pa R le r pa sl d A x B) (hk : x.1 ≤ k) (hB : ∀ y ∈ B, k < y.1) {j : Nat}
    (hj : j < (R x.2).length) (h1 : ∀ i e, 1 ≤ i → i ≤ j → (R x.2)[i]? = some e → e.1 ≤ k) (h2 : ∀ e, (R x.2)[j + 1]? = some e → k < e.1) {e : tr_C} (he : (R x.2)[j]? = some e) :
    ∃ A' B' x', tr_Pa R le r (upd pa (d + 1) (nI e.2.1)) (upd sl d (nI j)) (d + 1) A' x' B' ∧ x'.2 = e.2.1 ∧ x'.1 ≤ k ∧ ∀ y ∈ B', k < y.1 := by
  have hlv := tr_Pa_lv hp
  have hxm : x ∈ tr_lv R le r d := by rw [hlv]; simp
  have tx := hT.1 d (by omega) x hxm
  have hit := tr_it_in (R := R) (tx.1 hd)
  obtain ⟨a, c, b, hab, haj⟩ := tr_at (l := tr_it R le x) (i := j) (by rw [tr_it_len]; exact hj)
  have hcj : (tr_it R le x)[j]? = some c := by rw [hab, ← haj]; exact tr_gm
  have hce : c.2 = e.2 ∧ c.1 ≤ k := by
    rw [hit] at hcj
    cases j with
    | zero =>
      cases hR : R x.2 with
      | nil => rw [hR] at hj; exact absurd hj (Nat.not_lt_zero _)
      | cons f fs =>
        rw [hR] at hcj he
        have q1 : (x.1, f.2) = c := Option.some.inj hcj
        have q2 : f = e := Option.some.inj he
        rw [← q1, ← q2]
        exact ⟨rfl, hk⟩
    | succ j =>
      rw [tr_fx_g, he] at hcj
      have q : e = c := Option.some.inj hcj
      rw [← q]
      exact ⟨rfl, h1 (j + 1) e (by omega) (by omega) he⟩
  have hms : tr_it R le x = a ++ ([c] ++ b) := hab
  have hl2 := tr_lv_dn hlv hms
  have hso := tr_losd hT hb (d := d + 1) (by omega)
  refine ⟨(tr_is R le A ++ a).map tr_nd, (b ++ tr_is R le B).map tr_nd, tr_nd c, ⟨A, x, B, a, c, b, tr_Pa_cg (fun _ _ _ _ => ⟨rfl, rfl⟩) (fun i hi => pk_un (by omega)) (fun i hi => pk_un (by omega)) hp, by rw [pk_us, haj], hab, rfl, rfl, rfl, ?_⟩, congrArg Prod.fst hce.1, hce.2, ?_⟩
  · rw [pk_us]
    exact congrArg nI (congrArg Prod.fst hce.1).symm
  · have head : (b ++ tr_is R le B).map tr_nd = [] ∨ ∃ h t, (b ++ tr_is R le B).map tr_nd = h :: t ∧ k < h.1 := by
      cases b with
      | cons b0 bt =>
        refine Or.inr ⟨tr_nd b0, (bt ++ tr_is R le B).map tr_nd, rfl, ?_⟩
        have : (tr_it R le x)[j + 1]? = some b0 := by
          rw [hab, ← haj]; simp
        rw [hit, tr_fx_g] at this
        exact h2 _ this
      | nil =>
        cases hBc : B with
        | nil => exact Or.inl rfl
        | cons z Z =>
          have hz : z ∈ B := by rw [hBc]; simp
          have tz := hT.1 d (by omega) z (by rw [hlv]; simp [hz])
          cases hR : R z.2 with
          | nil =>
            have := hb _ _ _ tz.2.2 hd
            rw [hR] at this
            exact absurd this (by decide)
          | cons f fs =>
            refine Or.inr ⟨(z.1, f.2.1), (fs ++ tr_is R le Z).map tr_nd, ?_, hB z hz⟩
            rw [List.nil_append, tr_is_cons, tr_it_in (tz.1 hd), hR]
            rfl
    intro y hy
    rcases head with h0 | ⟨h, t, h0, hh⟩
    · rw [h0] at hy; exact absurd hy List.not_mem_nil
    · rw [h0] at hy
      rcases List.mem_cons.mp hy with rfl | hy
      · exact hh
      · rw [hl2, h0, List.map_append, List.pairwise_append] at hso
        have q := hso.2.1
        rw [List.map_append, List.pairwise_append] at q
        have q2 := q.2.1
        rw [List.map_cons, List.pairwise_cons] at q2
        have := q2.1 _ (List.mem_map_of_mem (f := Prod.fst) hy)
        omega
end
end
section
/-! entries come into a leaf, go, change their size -/
section
variable {R R' : Nat → List tr_C} {le le' nx nx' pa sl pa' sl' : Nat → Int32} {r H d e n m q g k : Nat} {A0 B0 A B P : List tr_N} {x : tr_N} {F F' O : List Nat} {a b L u c1 c2 : List tr_C} {c v w y z : tr_C} {ok ok' : Nat → Nat → Nat → Prop}
theorem tr_lf_mk (hT : tr_T R le nx r H L ok) (hP : tr_lv R le r H = A ++ x :: B) (hR : R x.2 = c1 ++ c2) :
    ((tr_mk R A ++ 2 * x.1 :: c1.map (fun c : tr_C => 2 * c.1 + 1)) ++ (c2.map (fun c : tr_C => 2 * c.1 + 1) ++ tr_mk R B)).Pairwise (· < ·) := by
  have t := hT.2.2.1
  rw [hP, tr_mk_app, tr_mk_cons, hR] at t
  simpa using t
theorem tr_lf_L (hT : tr_T R le nx r H L ok) (hP : tr_lv R le r H = A ++ x :: B) (hR : R x.2 = c1 ++ c2) : L = (tr_is R le A ++ c1) ++ (c2 ++ tr_is R le B) := by
  have lf := (hT.1 H (Nat.le_refl _) x (by rw [hP]; simp)).2.1 rfl
  rw [hT.2.1, hP, tr_is_app, tr_is_cons, tr_it_lf lf, hR]
  simp
theorem tr_lf_ord (hT : tr_T R le nx r H L ok) (hP : tr_lv R le r H = A ++ x :: B) (hk : x.1 ≤ k) (hB : ∀ y ∈ B, k < y.1) (hR : R x.2 = c1 ++ c2) (h2 : ∀ e, (R x.2)[c1.length]? = some e → k < e.1) :
    (∀ v ∈ tr_mk R A, v < 2 * x.1) ∧ (∀ e ∈ tr_is R le A, e.1 < x.1) ∧ (∀ e ∈ c2, k < e.1) ∧ (∀ v ∈ tr_mk R B, 2 * k + 1 < v) ∧ (∀ e ∈ tr_is R le B, k < e.1) := by
  have t3 := hT.2.2.1
  have hl : ∀ y ∈ tr_lv R le r H, le y.2 = 1 := fun y hy => (hT.1 H (Nat.le_refl _) y hy).2.1 rfl
  rw [hP] at hl
  have t := tr_lf_mk hT hP hR
  rw [List.pairwise_append] at t
  have q1 : ∀ v ∈ tr_mk R A, v < 2 * x.1 := by
    have := t.1
    rw [List.pairwise_append] at this
    exact fun v hv => this.2.2 v hv _ List.mem_cons_self
  have q3 : ∀ e ∈ c2, k < e.1 := by
    intro e he
    cases c2 with
    | nil => exact absurd he List.not_mem_nil
    | cons f fs =>
      have hf : k < f.1 := h2 f (by rw [hR]; exact tr_gm)
      rcases List.mem_cons.mp he with rfl | he
      · exact hf
      · have p := t.2.1
        rw [List.pairwise_append] at p
        have : 2 * f.1 + 1 < 2 * e.1 + 1 := (List.pairwise_cons.mp p.1).1 _ (List.mem_map_of_mem (f := fun c : tr_C => 2 * c.1 + 1) he)
        omega
  have hBm : (tr_mk R B).Pairwise (· < ·) := (List.pairwise_append.mp t.2.1).2.1
  refine ⟨q1, ?_, q3, ?_, ?_⟩
  · intro e he
    obtain ⟨y, hy, hey⟩ := tr_is_m he
    rw [tr_it_lf (hl y (by simp [hy]))] at hey
    have := q1 _ (tr_mk_e hy hey)
    omega
  · intro v hv
    obtain ⟨y, hy, h | ⟨e, he, h⟩⟩ := tr_mk_m hv
    · have := hB y hy
      omega
    · have h1 := hB y hy
      have h3 := tr_mk_in hBm hy he
      omega
  · intro e he
    obtain ⟨y, hy, hey⟩ := tr_is_m he
    rw [tr_it_lf (hl y (by simp [hy]))] at hey
    have h1 := hB y hy
    have h3 := tr_mk_in hBm hy hey
    omega
theorem tr_ins_leaf (hT : tr_T R le nx r H L (tr_ok H)) (hc : tr_P R le r H F O) (hP : tr_lv R le r H = A ++ x :: B) (hk : x.1 ≤ k) (hB : ∀ y ∈ B, k < y.1) (hR : R x.2 = c1 ++ c2)
    (h1 : ∀ e ∈ c1, e.1 < k) (h2 : ∀ e, (R x.2)[c1.length]? = some e → k < e.1) (hv : v.1 = k) (hR' : ∀ n, n ≠ x.2 → R' n = R n) (hRx : R' x.2 = c1 ++ v :: c2) :
    tr_T R' le nx r H ((tr_is R le A ++ c1) ++ v :: (c2 ++ tr_is R le B)) (tr_oi H x.2) ∧ tr_P R' le r H F O ∧ (∀ i, i ≤ H → tr_lv R' le r i = tr_lv R le r i) ∧ (∀ n ∈ O, R' n = R n) := by
  obtain ⟨o1, o2, o3, o4, o5⟩ := tr_lf_ord hT hP hk hB hR h2
  have hmk := tr_lf_mk hT hP hR
  have tx := hT.1 H (Nat.le_refl _) x (by rw [hP]; simp)
  have := tr_T_leaf (R' := R') (ok' := tr_oi H x.2) hT hc hP hR' (by
    rw [hRx]
    have := tr_pw_in (v := 2 * k + 1) hmk (by
      intro y hy
      rcases List.mem_append.mp hy with h | h
      · have := o1 y h; omega
      · rcases List.mem_cons.mp h with h | h
        · omega
        · obtain ⟨e, he, ee⟩ := List.mem_map.mp h
          have := h1 e he
          omega) (by
      intro y hy
      rcases List.mem_append.mp hy with h | h
      · obtain ⟨e, he, ee⟩ := List.mem_map.mp h
        have := o3 e he
        omega
      · exact o4 y h)
    rw [← hv] at this
    simpa using this) (by
    have o := tx.2.2
    have ll : (R' x.2).length = (R x.2).length + 1 := by rw [hRx, hR]; simp; omega
    rw [ll]
    exact ⟨fun z => absurd rfl z, by have := o.1; omega, fun z1 z2 => by omega, fun z => by have := o.2.2 z; omega⟩) (fun d n l hn o => ⟨fun _ => o.1, by have := o.1; omega, o.2.1, o.2.2⟩)
  rw [hRx] at this
  simpa using this
theorem tr_del_leaf (hT : tr_T R le nx r H L (tr_ok H)) (hc : tr_P R le r H F O) (hP : tr_lv R le r H = A ++ x :: B) (hR : R x.2 = c1 ++ v :: c2) (hR' : ∀ n, n ≠ x.2 → R' n = R n) (hRx : R' x.2 = c1 ++ c2) :
    tr_T R' le nx r H ((tr_is R le A ++ c1) ++ (c2 ++ tr_is R le B)) (tr_or H x.2) ∧ tr_P R' le r H F O ∧ (∀ i, i ≤ H → tr_lv R' le r i = tr_lv R le r i) ∧ (∀ n ∈ O, R' n = R n) := by
  have hmk := tr_lf_mk hT hP hR
  have tx := hT.1 H (Nat.le_refl _) x (by rw [hP]; simp)
  have := tr_T_leaf (R' := R') (ok' := tr_or H x.2) hT hc hP hR' (by
    rw [hRx]
    have := tr_pw_de (X := tr_mk R A ++ 2 * x.1 :: c1.map (fun c : tr_C => 2 * c.1 + 1)) (v := 2 * v.1 + 1) (Y := c2.map (fun c : tr_C => 2 * c.1 + 1) ++ tr_mk R B) (by simpa using hmk)
    simpa using this) (by
    have o := tx.2.2
    have ll : (R' x.2).length + 1 = (R x.2).length := by rw [hRx, hR]; simp; omega
    refine ⟨by have := o.1; omega, fun z1 z2 => by omega, fun z => by have := o.2.2 z; omega, fun z => absurd rfl z⟩) (fun d n l hn o => tr_or_ok o)
  rw [hRx] at this
  simpa using this
theorem tr_set_leaf {s : Nat} (hT : tr_T R le nx r H L (tr_ok H)) (hc : tr_P R le r H F O) (hP : tr_lv R le r H = A ++ x :: B) (hR : R x.2 = c1 ++ v :: c2) (hR' : ∀ n, n ≠ x.2 → R' n = R n) (hRx : R' x.2 = c1 ++ (v.1, v.2.1, s) :: c2) :
    tr_T R' le nx r H ((tr_is R le A ++ c1) ++ (v.1, v.2.1, s) :: (c2 ++ tr_is R le B)) (tr_ok H) ∧ tr_P R' le r H F O ∧ (∀ i, i ≤ H → tr_lv R' le r i = tr_lv R le r i) ∧ (∀ n ∈ O, R' n = R n) := by
  have hmk := tr_lf_mk hT hP hR
  have tx := hT.1 H (Nat.le_refl _) x (by rw [hP]; simp)
  have := tr_T_leaf (R' := R') (ok' := tr_ok H) hT hc hP hR' (by
    rw [hRx]
    simpa using hmk) (by
    have o := tx.2.2
    have ll : (R' x.2).length = (R x.2).length := by rw [hRx, hR]; simp
    rw [ll]
    exact o) (fun d n l hn o => o)
  rw [hRx] at this
  simpa using this
/-- the other tree -/
theorem tr_T_cg (hT : tr_T R le nx r H L ok) (ha : ∀ n ∈ tr_ids R le r H, R' n = R n ∧ le' n = le n ∧ nx' n = nx n) : tr_T R' le' nx' r H L ok ∧ tr_ids R' le' r H = tr_ids R le r H ∧ ∀ i, i ≤ H → tr_lv R' le' r i = tr_lv R le r i := by
  have ag : ∀ i, i ≤ H → ∀ y ∈ tr_lv R le r i, R' y.2 = R y.2 ∧ le' y.2 = le y.2 ∧ nx' y.2 = nx y.2 := fun i hi y hy => ha _ (tr_mem_ids (n := 0) hi hy)
  have s1 : ∀ i, i ≤ H → tr_lv R' le' r i = tr_lv R le r i := fun i hi => tr_lv_cg (fun j hj y hy => ⟨(ag j (by omega) y hy).1, (ag j (by omega) y hy).2.1⟩)
  obtain ⟨t1, t2, t3, t4⟩ := hT
  refine ⟨⟨?_, ?_, ?_, ?_⟩, tr_ids_cg s1, s1⟩
  · intro d hd y hy
    rw [s1 d hd] at hy
    have p := t1 d hd y hy
    have q := ag d hd y hy
    rw [q.1, q.2.1]
    exact p
  · rw [s1 H (Nat.le_refl _), tr_is_cg (fun y hy => ⟨(ag H (Nat.le_refl _) y hy).1, (ag H (Nat.le_refl _) y hy).2.1⟩)]
    exact t2
  · rw [s1 H (Nat.le_refl _), tr_mk_cg (fun y hy => (ag H (Nat.le_refl _) y hy).1)]
    exact t3
  · rw [s1 H (Nat.le_refl _)]
    refine tr_ce_cg (fun n hn => ?_) t4
    obtain ⟨y, hy, ey⟩ := tr_i_mem hn
    rw [← ey]
    exact (ag H (Nat.le_refl _) y hy).2.2
end
end
section
/-! cells: what the small stores do -/
def ar_SH (a : Nat → Int32) : Prop := ∀ i, vp_nar .short (a i) = a i
def ar_SB (a : Nat → Int32) : Prop := ∀ i, vp_nar .byte (a i) = a i
theorem ar_s16 {n : Nat} (h : n < 32768) : vp_nar .short (nI n) = nI n := by
  rw [vp_nar_short]
  exact lg_i2s_small (by rw [nI_toInt (by omega)]; omega) (by rw [nI_toInt (by omega)]; omega)
theorem ar_c16 {n : Nat} (h : n < 32768) : (nI n).toInt16.toInt32 = nI n :=
  lg_i2s_small (by rw [nI_toInt (by omega)]; omega) (by rw [nI_toInt (by omega)]; omega)
theorem ar_s8 {n : Nat} (h : n < 128) : vp_nar .byte (nI n) = nI n := by
  rw [vp_nar_byte]
  exact lg_i2b_small (by rw [nI_toInt (by omega)]; omega) (by rw [nI_toInt (by omega)]; omega)
theorem ar_c8 {n : Nat} (h : n < 128) : (nI n).toInt8.toInt32 = nI n :=
  lg_i2b_small (by rw [nI_toInt (by omega)]; omega) (by rw [nI_toInt (by omega)]; omega)
theorem ar_m16 : vp_nar .short (-1) = -1 := by rw [vp_nar_short]; decide
theorem ar_vv (x : Int32) : vp_nar .short (vp_nar .short x) = vp_nar .short x := by rw [vp_nar_short x]; exact pk_vs x
theorem ar_bb (x : Int32) : vp_nar .byte (vp_nar .byte x) = vp_nar .byte x := by rw [vp_nar_byte x]; exact pk_vb x
section
variable {a : Nat → Int32} {k : Nat} {x : Int32}
theorem ar_SH_u (h : ar_SH a) (hx : vp_nar .short x = x) : ar_SH (upd a k x) := by
  intro i
  unfold upd
  split
  · exact hx
  · exact h i
theorem ar_SB_u (h : ar_SB a) (hx : vp_nar .byte x = x) : ar_SB (upd a k x) := by
  intro i
  unfold upd
  split
  · exact hx
  · exact h i
end
theorem n9 (n : Nat) : (9 : Int32) * nI n = nI (9 * n) := pk_mul 9 n
/-- cells lo + 1 .. hi get what stood one before -/
def ar_sr (a : Nat → Int32) (lo hi : Nat) : Nat → Int32 := fun i => if lo < i ∧ i ≤ hi then a (i - 1) else a i
/-- cells lo .. hi - 1 get what stood one behind -/
def ar_sl (a : Nat → Int32) (lo hi : Nat) : Nat → Int32 := fun i => if lo ≤ i ∧ i < hi then a (i + 1) else a i
/-- cells t .. t + j - 1 get what stands at f .. f + j - 1 -/
def ar_cp (a : Nat → Int32) (f t j : Nat) : Nat → Int32 := fun i => if t ≤ i ∧ i < t + j then a (f + (i - t)) else a i
theorem ar_sr_0 {a : Nat → Int32} {lo : Nat} : ar_sr a lo lo = a := by
  funext i
  exact if_neg (by omega)
theorem ar_sr_s {a : Nat → Int32} {lo j : Nat} : ar_sr (upd a (lo + j + 1) (a (lo + j))) lo (lo + j) = ar_sr a lo (lo + j + 1) := by
  funext i
  unfold ar_sr
  by_cases c1 : lo < i ∧ i ≤ lo + j
  · rw [if_pos c1, if_pos (by omega)]
    exact pk_un (by omega)
  · rw [if_neg c1]
    by_cases c2 : i = lo + j + 1
    · subst c2
      rw [pk_us, if_pos (by omega)]
      rfl
    · rw [pk_un c2, if_neg (by omega)]
theorem ar_sl_0 {a : Nat → Int32} {lo : Nat} : ar_sl a lo lo = a := by
  funext i
  exact if_neg (by omega)
theorem ar_sl_s {a : Nat → Int32} {lo hi : Nat} (h : lo < hi) : ar_sl (upd a lo (a (lo + 1))) (lo + 1) hi = ar_sl a lo hi := by
  funext i
  unfold ar_sl
  by_cases c1 : lo + 1 ≤ i ∧ i < hi
  · rw [if_pos c1, if_pos (by omega)]
    exact pk_un (by omega)
  · rw [if_neg c1]
    by_cases c2 : i = lo
    · subst c2
      rw [pk_us, if_pos (by omega)]
    · rw [pk_un c2, if_neg (by omega)]
theorem ar_cp_0 {a : Nat → Int32} {f t : Nat} : ar_cp a f t 0 = a := by
  funext i
  exact if_neg (by omega)
theorem ar_cp_s {a : Nat → Int32} {f t j : Nat} (h : f + (j + 1) ≤ t ∨ t + (j + 1) ≤ f) : upd (ar_cp a f t j) (t + j) (ar_cp a f t j (f + j)) = ar_cp a f t (j + 1) := by
  have e : ar_cp a f t j (f + j) = a (f + j) := if_neg (by omega)
  rw [e]
  funext i
  by_cases c2 : i = t + j
  · subst c2
    rw [pk_us]
    unfold ar_cp
    rw [if_pos (by omega)]
    exact congrArg a (by omega)
  · rw [pk_un c2]
    unfold ar_cp
    by_cases c1 : t ≤ i ∧ i < t + j
    · rw [if_pos c1, if_pos (by omega)]
    · rw [if_neg c1, if_neg (by omega)]
section
variable {a : Nat → Int32} {lo hi f t j : Nat}
theorem ar_SH_sr (h : ar_SH a) : ar_SH (ar_sr a lo hi) := by
  intro i
  unfold ar_sr
  split
  · exact h _
  · exact h _
theorem ar_SB_sr (h : ar_SB a) : ar_SB (ar_sr a lo hi) := by
  intro i
  unfold ar_sr
  split
  · exact h _
  · exact h _
theorem ar_SH_sl (h : ar_SH a) : ar_SH (ar_sl a lo hi) := by
  intro i
  unfold ar_sl
  split
  · exact h _
  · exact h _
theorem ar_SB_sl (h : ar_SB a) : ar_SB (ar_sl a lo hi) := by
  intro i
  unfold ar_sl
  split
  · exact h _
  · exact h _
theorem ar_SH_cp (h : ar_SH a) : ar_SH (ar_cp a f t j) := by
  intro i
  unfold ar_cp
  split
  · exact h _
  · exact h _
theorem ar_SB_cp (h : ar_SB a) : ar_SB (ar_cp a f t j) := by
  intro i
  unfold ar_cp
  split
  · exact h _
  · exact h _
end
section
variable {g md ll un dp : Int32} {da nw hd ct bf th lg ws il ke fi si us le nx ro pa sl : Nat → Int32}
theorem xa_move {post : SX → Prop} {f t : Nat} (hf : f < 1170) (ht : t < 1170) (h1 : ar_SH ke) (h2 : ar_SH fi) (h3 : ar_SB si)
    (h : post (g, md, ll, un, dp, da, nw, hd, ct, bf, th, lg, ws, il, upd ke t (ke f), upd fi t (fi f), upd si t (si f), us, le, nx, ro, pa, sl)) : wpX_move post (g, md, ll, un, dp, da, nw, hd, ct, bf, th, lg, ws, il, ke, fi, si, us, le, nx, ro, pa, sl) (nI f) (nI t) := by
  have e1 : (nI f).toNatClampNeg = f := nI_clamp (by omega)
  have e2 : (nI t).toNatClampNeg = t := nI_clamp (by omega)
  have i1 : vp_in (nI f) 1170 := vp_in_nI hf (by omega)
  have i2 : vp_in (nI t) 1170 := vp_in_nI ht (by omega)
  unfold wpX_move
  simp only [e1, e2, h1 f, h2 f, h3 f, forall_eq]
  exact ⟨i1, i2, i1, i2, i1, i2, h⟩
theorem xa_fill {post : SX → Prop} {c k p s : Nat} (hc : c < 1170) (hk : k < 32768) (hp : p < 32768) (hs : s < 128)
    (h : post (g, md, ll, un, dp, da, nw, hd, ct, bf, th, lg, ws, il, upd ke c (nI k), upd fi c (nI p), upd si c (nI s), us, le, nx, ro, pa, sl)) : wpX_fill post (g, md, ll, un, dp, da, nw, hd, ct, bf, th, lg, ws, il, ke, fi, si, us, le, nx, ro, pa, sl) (nI c) (nI k) (nI p) (nI s) := by
  have e1 : (nI c).toNatClampNeg = c := nI_clamp (by omega)
  have i1 : vp_in (nI c) 1170 := vp_in_nI hc (by omega)
  unfold wpX_fill
  simp only [e1, ar_c16 hk, ar_c16 hp, ar_c8 hs, ar_s16 hk, ar_s16 hp, ar_s8 hs, forall_eq]
  exact ⟨i1, i1, i1, h⟩
theorem xa_open_l {post : SX → Prop} {n c : Nat} (hn : n < 130) : ∀ (j : Nat) (ke fi si : Nat → Int32), ar_SH ke → ar_SH fi → ar_SB si → c + j ≤ 8 →
    post (g, md, ll, un, dp, da, nw, hd, ct, bf, th, lg, ws, il, ar_sr ke (9 * n + c) (9 * n + c + j), ar_sr fi (9 * n + c) (9 * n + c + j), ar_sr si (9 * n + c) (9 * n + c + j), us, le, nx, ro, pa, sl) →
    ∀ f, j < f → wX_open_18 post (nI n) (nI c) f (nI (9 * n + c + j)) g md ll un dp da nw hd ct bf th lg ws il ke fi si us le nx ro pa sl := by
  intro j
  induction j with
  | zero =>
    intro ke fi si _ _ _ hc h f hf
    obtain ⟨f, rfl⟩ : ∃ m, f = m + 1 := ⟨f - 1, by omega⟩
    rw [Nat.add_zero, ar_sr_0, ar_sr_0, ar_sr_0] at h
    refine br_t ?_ h
    rw [n9, nI_add]
    exact nI_le (by omega) (by omega)
  | succ j ih =>
    intro ke fi si h1 h2 h3 hc h f hf
    obtain ⟨f, rfl⟩ : ∃ m, f = m + 1 := ⟨f - 1, by omega⟩
    refine br_f ?_ ?_
    · rw [n9, nI_add]
      exact nI_ge (by omega) (by omega)
    · rw [show nI (9 * n + c + (j + 1)) - 1 = nI (9 * n + c + j) from nI_pred _]
      refine xa_move (by omega) (by omega) h1 h2 h3 ?_
      intro y ey
      rw [ey, show nI (9 * n + c + (j + 1)) + (-1) = nI (9 * n + c + j) from pk_m1 _]
      refine ih _ _ _ (ar_SH_u h1 (h1 _)) (ar_SH_u h2 (h2 _)) (ar_SB_u h3 (h3 _)) (by omega) ?_ f (by omega)
      have e1 := ar_sr_s (a := ke) (lo := 9 * n + c) (j := j)
      have e2 := ar_sr_s (a := fi) (lo := 9 * n + c) (j := j)
      have e3 := ar_sr_s (a := si) (lo := 9 * n + c) (j := j)
      rw [show 9 * n + c + (j + 1) = 9 * n + c + j + 1 from rfl, e1, e2, e3]
      exact h
theorem xa_open {post : SX → Prop} {n c l : Nat} (hn : n < 130) (hu : us n = nI l) (hl : l ≤ 8) (hc : c ≤ l) (h1 : ar_SH ke) (h2 : ar_SH fi) (h3 : ar_SB si)
    (h : post (g, md, ll, un, dp, da, nw, hd, ct, bf, th, lg, ws, il, ar_sr ke (9 * n + c) (9 * n + l), ar_sr fi (9 * n + c) (9 * n + l), ar_sr si (9 * n + c) (9 * n + l), upd us n (nI (l + 1)), le, nx, ro, pa, sl)) : wpX_open post (g, md, ll, un, dp, da, nw, hd, ct, bf, th, lg, ws, il, ke, fi, si, us, le, nx, ro, pa, sl) (nI n) (nI c) := by
  have e1 : (nI n).toNatClampNeg = n := nI_clamp (by omega)
  have i1 : vp_in (nI n) 130 := vp_in_nI hn (by omega)
  unfold wpX_open
  simp only [e1, hu, n9, nI_add, nI_1, ar_c8 (show l + 1 < 128 by omega), ar_s8 (show l + 1 < 128 by omega), forall_eq]
  refine ⟨i1, i1, 9, ?_⟩
  have e2 : 9 * n + l = 9 * n + c + (l - c) := by omega
  rw [e2] at h ⊢
  exact xa_open_l hn (l - c) ke fi si h1 h2 h3 (by omega) h 9 (by omega)
theorem xa_shut_l {post : SX → Prop} {n l : Nat} (hn : n < 130) (hu : us n = nI l) (hl : l ≤ 8) : ∀ (j c : Nat) (ke fi si : Nat → Int32), ar_SH ke → ar_SH fi → ar_SB si → c + j = l →
    post (g, md, ll, un, dp, da, nw, hd, ct, bf, th, lg, ws, il, ar_sl ke (9 * n + c) (9 * n + l), ar_sl fi (9 * n + c) (9 * n + l), ar_sl si (9 * n + c) (9 * n + l), us, le, nx, ro, pa, sl) →
    ∀ f, j < f → wX_shut_18 post (nI n) f (nI (9 * n + c)) g md ll un dp da nw hd ct bf th lg ws il ke fi si us le nx ro pa sl := by
  have e1 : (nI n).toNatClampNeg = n := nI_clamp (by omega)
  have i1 : vp_in (nI n) 130 := vp_in_nI hn (by omega)
  intro j
  induction j with
  | zero =>
    intro c ke fi si _ _ _ hc h f hf
    obtain ⟨f, rfl⟩ : ∃ m, f = m + 1 := ⟨f - 1, by omega⟩
    have : c = l := by omega
    subst this
    rw [ar_sl_0, ar_sl_0, ar_sl_0] at h
    refine ⟨i1, br_t ?_ h⟩
    rw [e1, hu, n9, nI_add]
    exact nI_le (by omega) (by omega)
  | succ j ih =>
    intro c ke fi si h1 h2 h3 hc h f hf
    obtain ⟨f, rfl⟩ : ∃ m, f = m + 1 := ⟨f - 1, by omega⟩
    refine ⟨i1, br_f ?_ ?_⟩
    · rw [e1, hu, n9, nI_add]
      exact nI_ge (by omega) (by omega)
    · rw [nI_1]
      refine xa_move (by omega) (by omega) h1 h2 h3 ?_
      intro y ey
      rw [ey]
      refine ih (c + 1) _ _ _ (ar_SH_u h1 (h1 _)) (ar_SH_u h2 (h2 _)) (ar_SB_u h3 (h3 _)) (by omega) ?_ f (by omega)
      rw [show 9 * n + (c + 1) = 9 * n + c + 1 from rfl, ar_sl_s (by omega), ar_sl_s (by omega), ar_sl_s (by omega)]
      exact h
theorem xa_shut {post : SX → Prop} {n c l : Nat} (hn : n < 130) (hu : us n = nI (l + 1)) (hl : l ≤ 8) (hc : c ≤ l) (h1 : ar_SH ke) (h2 : ar_SH fi) (h3 : ar_SB si)
    (h : post (g, md, ll, un, dp, da, nw, hd, ct, bf, th, lg, ws, il, ar_sl ke (9 * n + c) (9 * n + l), ar_sl fi (9 * n + c) (9 * n + l), ar_sl si (9 * n + c) (9 * n + l), upd us n (nI l), le, nx, ro, pa, sl)) : wpX_shut post (g, md, ll, un, dp, da, nw, hd, ct, bf, th, lg, ws, il, ke, fi, si, us, le, nx, ro, pa, sl) (nI n) (nI c) := by
  have e1 : (nI n).toNatClampNeg = n := nI_clamp (by omega)
  have i1 : vp_in (nI n) 130 := vp_in_nI hn (by omega)
  unfold wpX_shut
  simp only [e1, hu, n9, nI_add, nI_pred, ar_c8 (show l < 128 by omega), ar_s8 (show l < 128 by omega), forall_eq]
  exact ⟨i1, i1, 10, xa_shut_l hn pk_us hl (l - c) c ke fi si h1 h2 h3 (by omega) h 10 (by omega)⟩
theorem xa_newNode {post : Int32 → SX → Prop} {n : Nat} {p : Int32} (hn : n < 130) (hp : p = 0 ∨ p = 1) (h : post (nI n) (g, md, ll, nx n, dp, da, nw, hd, ct, bf, th, lg, ws, il, ke, fi, si, upd us n 0, upd le n p, upd nx n (-1), ro, pa, sl)) : wpX_newNode post (g, md, ll, nI n, dp, da, nw, hd, ct, bf, th, lg, ws, il, ke, fi, si, us, le, nx, ro, pa, sl) p := by
  have e1 : (nI n).toNatClampNeg = n := nI_clamp (by omega)
  have i1 : vp_in (nI n) 130 := vp_in_nI hn (by omega)
  have hz : vp_nar .byte 0 = 0 := ar_s8 (n := 0) (by omega)
  have hb : vp_nar .boolean p = p := by rcases hp with rfl | rfl <;> rfl
  unfold wpX_newNode
  simp only [e1, hz, hb, ar_m16, forall_eq]
  exact ⟨i1, i1, i1, i1, h⟩
theorem xa_giveUp {post : SX → Prop} {n : Nat} (hn : n < 130) (hu : vp_nar .short un = un) (h : post (g, md, ll, nI n, dp, da, nw, hd, ct, bf, th, lg, ws, il, ke, fi, si, us, le, upd nx n un, ro, pa, sl)) : wpX_giveUp post (g, md, ll, un, dp, da, nw, hd, ct, bf, th, lg, ws, il, ke, fi, si, us, le, nx, ro, pa, sl) (nI n) := by
  have e1 : (nI n).toNatClampNeg = n := nI_clamp (by omega)
  have i1 : vp_in (nI n) 130 := vp_in_nI hn (by omega)
  have hu2 : un.toInt16.toInt32 = un := by rw [← vp_nar_short]; exact hu
  unfold wpX_giveUp
  simp only [e1, hu2, hu, forall_eq]
  exact ⟨i1, h⟩
end
end
section
/-! node contents against the arrays -/
def ar_ce (ke fi si : Nat → Int32) (i : Nat) (e : tr_C) : Prop := ke i = nI e.1 ∧ fi i = nI e.2.1 ∧ si i = nI e.2.2 ∧ e.1 < 32768 ∧ e.2.1 < 32768 ∧ e.2.2 < 128
def ar_AB (ke fi si us : Nat → Int32) (R : Nat → List tr_C) : Prop :=
  ar_SH ke ∧ ar_SH fi ∧ ar_SB si ∧ ∀ n, n < 130 → us n = nI (R n).length ∧ (R n).length ≤ 9 ∧ ∀ c e, (R n)[c]? = some e → ar_ce ke fi si (9 * n + c) e
section
variable {ke fi si us ke' fi' si' us' : Nat → Int32} {R : Nat → List tr_C} {n q c k : Nat} {a b l : List tr_C} {e v : tr_C}
theorem ar_lt (h : l[c]? = some e) : c < l.length := (List.getElem?_eq_some_iff.mp h).1
theorem ar_upd (h : ar_AB ke fi si us R) (s1 : ar_SH ke') (s2 : ar_SH fi') (s3 : ar_SB si') (hl : l.length ≤ 9) (hu : us' n = nI l.length) (hu2 : ∀ m, m ≠ n → us' m = us m)
    (hot : ∀ i, i < 9 * n ∨ 9 * n + 9 ≤ i → ke' i = ke i ∧ fi' i = fi i ∧ si' i = si i) (hc : ∀ c e, l[c]? = some e → ar_ce ke' fi' si' (9 * n + c) e) : ar_AB ke' fi' si' us' (tr_ru R n l) := by
  refine ⟨s1, s2, s3, fun m hm => ?_⟩
  by_cases z : m = n
  · subst z
    rw [tr_ru_s]
    exact ⟨hu, hl, hc⟩
  · rw [tr_ru_n z]
    have p := h.2.2.2 m hm
    refine ⟨(hu2 m z).trans p.1, p.2.1, fun c e he => ?_⟩
    have hlt := ar_lt he
    have o := hot (9 * m + c) (by have := p.2.1; omega)
    have p3 := p.2.2 c e he
    unfold ar_ce at p3 ⊢
    rw [o.1, o.2.1, o.2.2]
    exact p3
theorem ar_get (h : ar_AB ke fi si us R) (hn : n < 130) (he : (R n)[c]? = some e) : ar_ce ke fi si (9 * n + c) e := (h.2.2.2 n hn).2.2 c e he
theorem ar_gp (h : ar_AB ke fi si us R) (hn : n < 130) (hR : R n = a ++ e :: b) : ar_ce ke fi si (9 * n + a.length) e := ar_get h hn (by rw [hR]; exact tr_gm)
theorem ar_ins (h : ar_AB ke fi si us R) (hn : n < 130) (hR : R n = a ++ b) (hl : a.length + b.length ≤ 8) (h1 : e.1 < 32768) (h2 : e.2.1 < 32768) (h3 : e.2.2 < 128) :
    ar_AB (upd (ar_sr ke (9 * n + a.length) (9 * n + (a.length + b.length))) (9 * n + a.length) (nI e.1)) (upd (ar_sr fi (9 * n + a.length) (9 * n + (a.length + b.length))) (9 * n + a.length) (nI e.2.1)) (upd (ar_sr si (9 * n + a.length) (9 * n + (a.length + b.length))) (9 * n + a.length) (nI e.2.2)) (upd us n (nI (a.length + b.length + 1))) (tr_ru R n (a ++ e :: b)) := by
  refine ar_upd h (ar_SH_u (ar_SH_sr h.1) (ar_s16 h1)) (ar_SH_u (ar_SH_sr h.2.1) (ar_s16 h2)) (ar_SB_u (ar_SB_sr h.2.2.1) (ar_s8 h3)) (by simp; omega) ?_ (fun m hm => pk_un hm) ?_ ?_
  · rw [pk_us]; exact congrArg nI (by simp; omega)
  · intro i hi
    rw [pk_un (by omega), pk_un (by omega), pk_un (by omega)]
    unfold ar_sr
    rw [if_neg (by omega), if_neg (by omega), if_neg (by omega)]
    exact ⟨rfl, rfl, rfl⟩
  · intro c f hf
    have hlt := ar_lt hf
    rw [List.length_append, List.length_cons] at hlt
    by_cases z : c = a.length
    · subst z
      rw [tr_gm] at hf
      have : e = f := Option.some.inj hf
      subst this
      unfold ar_ce
      rw [pk_us, pk_us, pk_us]
      exact ⟨rfl, rfl, rfl, h1, h2, h3⟩
    · unfold ar_ce
      rw [pk_un (by omega), pk_un (by omega), pk_un (by omega)]
      unfold ar_sr
      rcases Nat.lt_or_ge c a.length with z2 | z2
      · rw [if_neg (by omega), if_neg (by omega), if_neg (by omega)]
        refine ar_get h hn ?_
        rw [List.getElem?_append_left z2] at hf
        rw [hR, List.getElem?_append_left z2]
        exact hf
      · rw [if_pos (by omega), if_pos (by omega), if_pos (by omega)]
        obtain ⟨d, rfl⟩ : ∃ d, c = a.length + d + 1 := ⟨c - a.length - 1, by omega⟩
        have e1 : 9 * n + (a.length + d + 1) - 1 = 9 * n + (a.length + d) := by omega
        rw [e1]
        refine ar_get h hn ?_
        rw [List.getElem?_append_right (by omega)] at hf
        rw [hR, List.getElem?_append_right (by omega)]
        have e2 : a.length + d + 1 - a.length = d + 1 := by omega
        have e3 : a.length + d - a.length = d := by omega
        rw [e2, List.getElem?_cons_succ] at hf
        rw [e3]
        exact hf
theorem ar_del (h : ar_AB ke fi si us R) (hn : n < 130) (hR : R n = a ++ e :: b) :
    ar_AB (ar_sl ke (9 * n + a.length) (9 * n + (a.length + b.length))) (ar_sl fi (9 * n + a.length) (9 * n + (a.length + b.length))) (ar_sl si (9 * n + a.length) (9 * n + (a.length + b.length))) (upd us n (nI (a.length + b.length))) (tr_ru R n (a ++ b)) := by
  have hl := (h.2.2.2 n hn).2.1
  rw [hR, List.length_append, List.length_cons] at hl
  refine ar_upd h (ar_SH_sl h.1) (ar_SH_sl h.2.1) (ar_SB_sl h.2.2.1) (by rw [List.length_append]; omega) ?_ (fun m hm => pk_un hm) ?_ ?_
  · rw [pk_us]; exact congrArg nI (by simp)
  · intro i hi
    unfold ar_sl
    rw [if_neg (by omega), if_neg (by omega), if_neg (by omega)]
    exact ⟨rfl, rfl, rfl⟩
  · intro c f hf
    have hlt := ar_lt hf
    rw [List.length_append] at hlt
    unfold ar_ce ar_sl
    rcases Nat.lt_or_ge c a.length with z2 | z2
    · rw [if_neg (by omega), if_neg (by omega), if_neg (by omega)]
      refine ar_get h hn ?_
      rw [List.getElem?_append_left z2] at hf
      rw [hR, List.getElem?_append_left z2]
      exact hf
    · rw [if_pos (by omega), if_pos (by omega), if_pos (by omega)]
      have e1 : 9 * n + c + 1 = 9 * n + (c + 1) := by omega
      rw [e1]
      refine ar_get h hn ?_
      rw [List.getElem?_append_right z2] at hf
      rw [hR, List.getElem?_append_right (by omega)]
      have e2 : c + 1 - a.length = (c - a.length) + 1 := by omega
      rw [e2, List.getElem?_cons_succ]
      exact hf
/-- one cell anew -/
theorem ar_put (h : ar_AB ke fi si us R) (hn : n < 130) (hR : R n = a ++ e :: b) (h1 : v.1 < 32768) (h2 : v.2.1 < 32768) (h3 : v.2.2 < 128)
    (hk : ke' = upd ke (9 * n + a.length) (nI v.1)) (hf : fi' = upd fi (9 * n + a.length) (nI v.2.1)) (hs : si' = upd si (9 * n + a.length) (nI v.2.2)) :
    ar_AB ke' fi' si' us (tr_ru R n (a ++ v :: b)) := by
  subst hk hf hs
  have hl := (h.2.2.2 n hn).2.1
  have hu := (h.2.2.2 n hn).1
  rw [hR, List.length_append, List.length_cons] at hl hu
  refine ar_upd h (ar_SH_u h.1 (ar_s16 h1)) (ar_SH_u h.2.1 (ar_s16 h2)) (ar_SB_u h.2.2.1 (ar_s8 h3)) (by rw [List.length_append, List.length_cons]; exact hl) ?_ (fun m hm => rfl) ?_ ?_
  · rw [List.length_append, List.length_cons]; exact hu
  · intro i hi
    rw [pk_un (by omega), pk_un (by omega), pk_un (by omega)]
    exact ⟨rfl, rfl, rfl⟩
  · intro c f hf
    by_cases z : c = a.length
    · subst z
      rw [tr_gm] at hf
      have : v = f := Option.some.inj hf
      subst this
      unfold ar_ce
      rw [pk_us, pk_us, pk_us]
      exact ⟨rfl, rfl, rfl, h1, h2, h3⟩
    · unfold ar_ce
      rw [pk_un (by omega), pk_un (by omega), pk_un (by omega)]
      refine ar_get h hn ?_
      rcases Nat.lt_or_ge c a.length with z2 | z2
      · rw [List.getElem?_append_left z2] at hf
        rw [hR, List.getElem?_append_left z2]
        exact hf
      · rw [List.getElem?_append_right z2] at hf
        rw [hR, List.getElem?_append_right z2]
        obtain ⟨d, hd⟩ : ∃ d, c - a.length = d + 1 := ⟨c - a.length - 1, by omega⟩
        rw [hd, List.getElem?_cons_succ] at hf ⊢
        exact hf
theorem ar_upds (i : Nat) (f : Nat → Int32) {x : Int32} (h : f i = x) : f = upd f i x := by
  funext j
  unfold upd
  split
  · next z => rw [z, h]
  · rfl
theorem ar_key (h : ar_AB ke fi si us R) (hn : n < 130) (hR : R n = a ++ e :: b) (h1 : k < 32768) : ar_AB (upd ke (9 * n + a.length) (nI k)) fi si us (tr_ru R n (a ++ (k, e.2) :: b)) := by
  have g := ar_gp h hn hR
  exact ar_put (v := (k, e.2)) h hn hR h1 g.2.2.2.2.1 g.2.2.2.2.2 rfl (ar_upds _ _ g.2.1) (ar_upds _ _ g.2.2.1)
theorem ar_siz (h : ar_AB ke fi si us R) (hn : n < 130) (hR : R n = a ++ e :: b) (h1 : k < 128) : ar_AB ke fi (upd si (9 * n + a.length) (nI k)) us (tr_ru R n (a ++ (e.1, e.2.1, k) :: b)) := by
  have g := ar_gp h hn hR
  exact ar_put (v := (e.1, e.2.1, k)) h hn hR g.2.2.2.1 g.2.2.2.2.1 h1 (ar_upds _ _ g.1) (ar_upds _ _ g.2.1) rfl
/-- the last cell goes -/
theorem ar_pop (h : ar_AB ke fi si us R) (hn : n < 130) (hR : R n = a ++ [e]) : ar_AB ke fi si (upd us n (nI a.length)) (tr_ru R n a) := by
  have hl := (h.2.2.2 n hn).2.1
  rw [hR, List.length_append] at hl
  refine ar_upd h h.1 h.2.1 h.2.2.1 (by omega) pk_us (fun m hm => pk_un hm) (fun _ _ => ⟨rfl, rfl, rfl⟩) (fun c f hf => ar_get h hn ?_)
  rw [hR, List.getElem?_append_left (ar_lt hf)]
  exact hf
/-- a cell more, behind the last -/
theorem ar_psh (h : ar_AB ke fi si us R) (hn : n < 130) (hR : R n = a) (hl : a.length ≤ 8) (h1 : e.1 < 32768) (h2 : e.2.1 < 32768) (h3 : e.2.2 < 128) :
    ar_AB (upd ke (9 * n + a.length) (nI e.1)) (upd fi (9 * n + a.length) (nI e.2.1)) (upd si (9 * n + a.length) (nI e.2.2)) (upd us n (nI (a.length + 1))) (tr_ru R n (a ++ [e])) := by
  have hp := ar_ins (b := []) (e := e) h hn (by rw [hR, List.append_nil]) (by simpa using hl) h1 h2 h3
  rw [List.length_nil, Nat.add_zero, ar_sr_0, ar_sr_0, ar_sr_0] at hp
  exact hp
/-- cells copied behind the last of another node -/
theorem ar_app (h : ar_AB ke fi si us R) (hn : n < 130) (hq : q < 130) (hne : n ≠ q) {t o : List tr_C} (hR : R n = t ++ l) (hRq : R q = o) (hl : o.length + l.length ≤ 9) :
    ar_AB (ar_cp ke (9 * n + t.length) (9 * q + o.length) l.length) (ar_cp fi (9 * n + t.length) (9 * q + o.length) l.length) (ar_cp si (9 * n + t.length) (9 * q + o.length) l.length) (upd us q (nI (o.length + l.length))) (tr_ru R q (o ++ l)) := by
  have hl9 := (h.2.2.2 n hn).2.1
  rw [hR, List.length_append] at hl9
  refine ar_upd h (ar_SH_cp h.1) (ar_SH_cp h.2.1) (ar_SB_cp h.2.2.1) (by rw [List.length_append]; exact hl) (by rw [pk_us, List.length_append]) (fun m hm => pk_un hm) ?_ ?_
  · intro i hi
    unfold ar_cp
    rw [if_neg (by omega), if_neg (by omega), if_neg (by omega)]
    exact ⟨rfl, rfl, rfl⟩
  · intro c f hf
    have hlt := ar_lt hf
    rw [List.length_append] at hlt
    unfold ar_ce ar_cp
    rcases Nat.lt_or_ge c o.length with z | z
    · rw [if_neg (by omega), if_neg (by omega), if_neg (by omega)]
      refine ar_get h hq ?_
      rw [List.getElem?_append_left z] at hf
      rw [hRq]; exact hf
    · rw [if_pos (by omega), if_pos (by omega), if_pos (by omega)]
      have e1 : 9 * n + t.length + (9 * q + c - (9 * q + o.length)) = 9 * n + (t.length + (c - o.length)) := by omega
      rw [e1]
      refine ar_get h hn ?_
      rw [List.getElem?_append_right z] at hf
      rw [hR, List.getElem?_append_right (by omega)]
      have e2 : t.length + (c - o.length) - t.length = c - o.length := by omega
      rw [e2]
      exact hf
theorem ar_cut (h : ar_AB ke fi si us R) (hn : n < 130) (hR : R n = a ++ b) : ar_AB ke fi si (upd us n (nI a.length)) (tr_ru R n a) := by
  have hl := (h.2.2.2 n hn).2.1
  rw [hR, List.length_append] at hl
  refine ar_upd h h.1 h.2.1 h.2.2.1 (by omega) pk_us (fun m hm => pk_un hm) (fun _ _ => ⟨rfl, rfl, rfl⟩) (fun c f hf => ar_get h hn ?_)
  rw [hR, List.getElem?_append_left (ar_lt hf)]
  exact hf
theorem ar_nil (h : ar_AB ke fi si us R) : ar_AB ke fi si (upd us n 0) (tr_ru R n []) :=
  ar_upd h h.1 h.2.1 h.2.2.1 (by simp) pk_us (fun m hm => pk_un hm) (fun _ _ => ⟨rfl, rfl, rfl⟩) (fun c f hf => by simp at hf)
theorem ar_cgR {R' : Nat → List tr_C} (h : ar_AB ke fi si us R) (e : ∀ n, n < 130 → R' n = R n) : ar_AB ke fi si us R' := by
  refine ⟨h.1, h.2.1, h.2.2.1, fun n hn => ?_⟩
  rw [e n hn]
  exact h.2.2.2 n hn
end
end
section
/-! split, grow, join over node contents -/
theorem n5 (a : Nat) : nI a + 5 = nI (a + 5) := nI_add a 5
theorem ar_uu {f : Nat → Int32} {k : Nat} {x y : Int32} : upd (upd f k x) k y = upd f k y := by
  funext j
  unfold upd
  split <;> rfl
section
variable {g md ll un dp : Int32} {da nw hd ct bf th lg ws il ke fi si us le nx ro pa sl : Nat → Int32}
variable {R : Nat → List tr_C} {n q r t gg up lf rt : Nat} {w1 w2 u b l : List tr_C} {k z : tr_C}
theorem xb_split_l {post : Int32 → SX → Prop} (hn : n < 130) (hq : q < 130) (hne : n ≠ q) (s1 : ar_SH ke) (s2 : ar_SH fi) (s3 : ar_SB si)
    (K : ∀ f, wX_split_13 post (nI n) (nI q) (f + 1) (nI 4) g md ll un dp da nw hd ct bf th lg ws il (ar_cp ke (9 * n + 5) (9 * q) 4) (ar_cp fi (9 * n + 5) (9 * q) 4) (ar_cp si (9 * n + 5) (9 * q) 4) us le nx ro pa sl) :
    ∀ j c, c + j = 4 → ∀ f, j < f → wX_split_13 post (nI n) (nI q) f (nI c) g md ll un dp da nw hd ct bf th lg ws il (ar_cp ke (9 * n + 5) (9 * q) c) (ar_cp fi (9 * n + 5) (9 * q) c) (ar_cp si (9 * n + 5) (9 * q) c) us le nx ro pa sl := by
  intro j
  induction j with
  | zero =>
    intro c hc f hf
    obtain ⟨f, rfl⟩ : ∃ m, f = m + 1 := ⟨f - 1, by omega⟩
    have : c = 4 := by omega
    subst this
    exact K f
  | succ j ih =>
    intro c hc f hf
    obtain ⟨f, rfl⟩ : ∃ m, f = m + 1 := ⟨f - 1, by omega⟩
    refine br_f (nI_ge (a := c) (b := 4) (by omega) (by omega)) ?_
    rw [n9, n9, n5, nI_add, nI_add]
    refine xa_move (by omega) (by omega) (ar_SH_cp s1) (ar_SH_cp s2) (ar_SB_cp s3) ?_
    intro y ey
    rw [ey, nI_1, ar_cp_s (by omega), ar_cp_s (by omega), ar_cp_s (by omega)]
    exact ih (c + 1) (by omega) f (by omega)
theorem xb_split {post : Int32 → SX → Prop} (h : ar_AB ke fi si us R) (hn : n < 130) (hq : q < 130) (hne : n ≠ q) (hle : le n = 0 ∨ le n = 1) (hnx : ar_SH nx)
    (hR : R n = w1 ++ w2) (h5 : w1.length = 5) (h4 : w2.length = 4)
    (hp : ∀ ke' fi' si' us' nx', ar_AB ke' fi' si' us' (tr_ru (tr_ru R n w1) q w2) → ar_SH nx' → (∀ m, m ≠ n → m ≠ q → nx' m = nx m) → (le n = 1 → nx' q = nx n ∧ nx' n = nI q) →
      post (nI q) (g, md, ll, nx q, dp, da, nw, hd, ct, bf, th, lg, ws, il, ke', fi', si', us', upd le q (le n), nx', ro, pa, sl)) : wpX_split post (g, md, ll, nI q, dp, da, nw, hd, ct, bf, th, lg, ws, il, ke, fi, si, us, le, nx, ro, pa, sl) (nI n) := by
  have e1 : (nI n).toNatClampNeg = n := nI_clamp (by omega)
  have e2 : (nI q).toNatClampNeg = q := nI_clamp (by omega)
  have i1 : vp_in (nI n) 130 := vp_in_nI hn (by omega)
  have i2 : vp_in (nI q) 130 := vp_in_nI hq (by omega)
  have z4 : vp_nar .byte 4 = nI 4 := ar_s8 (n := 4) (by omega)
  have z5 : vp_nar .byte 5 = nI 5 := ar_s8 (n := 5) (by omega)
  have zq : vp_nar .short (nI q) = nI q := ar_s16 (by omega)
  have zq2 : (nI q).toInt16.toInt32 = nI q := ar_c16 (by omega)
  have g1 := ar_nil (n := q) h
  have g2 := ar_app (n := n) (q := q) (t := w1) (o := []) (l := w2) g1 hn hq hne (by rw [tr_ru_n hne]; exact hR) tr_ru_s (by rw [h4]; decide)
  have g3 := ar_cut (n := n) (a := w1) (b := w2) g2 hn (by rw [tr_ru_n hne, tr_ru_n hne]; exact hR)
  have g4 := ar_cgR (R' := tr_ru (tr_ru R n w1) q w2) g3 (fun m _ => by
    by_cases z1 : m = n
    · subst z1; rw [tr_ru_n hne, tr_ru_s, tr_ru_s]
    · by_cases z2 : m = q
      · subst z2; rw [tr_ru_s, tr_ru_n z1, tr_ru_s, List.nil_append]
      · rw [tr_ru_n z2, tr_ru_n z1, tr_ru_n z1, tr_ru_n z2, tr_ru_n z2])
  rw [h4, h5, List.length_nil, Nat.add_zero, Nat.zero_add] at g4
  have K : ∀ f, wX_split_13 post (nI n) (nI q) (f + 1) (nI 4) g md ll (nx q) dp da nw hd ct bf th lg ws il (ar_cp ke (9 * n + 5) (9 * q) 4) (ar_cp fi (9 * n + 5) (9 * q) 4) (ar_cp si (9 * n + 5) (9 * q) 4) (upd us q 0) (upd le q (le n)) (upd nx q (-1)) ro pa sl := by
    intro f
    refine br_t (nI_le (a := 4) (b := 4) (by omega) (by omega)) ?_
    rw [e1, e2, z4, z5]
    refine ⟨i2, nm_e ⟨i1, nm_e ⟨i1, ?_⟩⟩⟩
    have l1 : upd le q (le n) n = le n := pk_un hne
    have l2 : upd nx q (-1) n = nx n := pk_un hne
    rw [l1]
    rcases hle with z | z
    · refine br_t z ?_
      refine hp _ _ _ _ _ g4 (ar_SH_u hnx ar_m16) (fun m m1 m2 => pk_un m2) (fun z2 => ?_)
      rw [z] at z2
      exact absurd z2 (by decide)
    · refine br_f (by rw [z]; decide) ?_
      rw [l2, hnx n, zq2, zq, ar_uu]
      refine ⟨i1, i2, nm_e ⟨i1, nm_e ?_⟩⟩
      refine hp _ _ _ _ _ g4 (ar_SH_u (ar_SH_u hnx (hnx n)) zq) (fun m m1 m2 => by rw [pk_un m1, pk_un m2]) (fun _ => ⟨?_, pk_us⟩)
      rw [pk_un (fun z => hne z.symm), pk_us]
  unfold wpX_split
  simp only [e1]
  refine ⟨i1, xa_newNode hq hle ?_⟩
  refine ⟨5, ?_⟩
  have := xb_split_l (n := n) (q := q) hn hq hne h.1 h.2.1 h.2.2.1 K 4 0 rfl 5 (by omega)
  rw [ar_cp_0, ar_cp_0, ar_cp_0] at this
  exact this
theorem xb_grow {post : SX → Prop} (h : ar_AB ke fi si us R) (ht : t < 2) (hg : gg < 130) (hq : q < 130) (hr : r < 130) (hne : q ≠ gg) (hro : ro t = nI r) (hR : R q = k :: w2)
    (hp : ∀ ke' fi' si' us', ar_AB ke' fi' si' us' (tr_ru R gg [(0, r, 0), (k.1, q, 0)]) →
      post (g, md, ll, nx gg, dp, da, nw, hd, ct, bf, th, lg, ws, il, ke', fi', si', us', upd le gg 0, upd nx gg (-1), upd ro t (nI gg), pa, sl)) : wpX_grow post (g, md, ll, nI gg, dp, da, nw, hd, ct, bf, th, lg, ws, il, ke, fi, si, us, le, nx, ro, pa, sl) (nI t) (nI q) := by
  have e1 : (nI gg).toNatClampNeg = gg := nI_clamp (by omega)
  have e2 : (nI t).toNatClampNeg = t := nI_clamp (by omega)
  have e3 : (9 * nI q).toNatClampNeg = 9 * q := by rw [n9]; exact nI_clamp (by omega)
  have i1 : vp_in (nI gg) 130 := vp_in_nI hg (by omega)
  have i2 : vp_in (nI t) 2 := vp_in_nI ht (by omega)
  have i3 : vp_in (9 * nI q) 1170 := by rw [n9]; exact vp_in_nI (by omega) (by omega)
  have z2 : vp_nar .byte 2 = nI 2 := ar_s8 (n := 2) (by omega)
  have zq : vp_nar .short (nI gg) = nI gg := ar_s16 (by omega)
  have zq2 : (nI gg).toInt16.toInt32 = nI gg := ar_c16 (by omega)
  have gk := ar_gp (a := []) h hq hR
  rw [List.length_nil, Nat.add_zero] at gk
  have kk : upd ke (9 * gg) (nI 0) (9 * q) = nI k.1 := by rw [pk_un (by omega)]; exact gk.1
  unfold wpX_grow
  refine xa_newNode (p := 0) hg (Or.inl rfl) ?_
  refine ⟨i2, ?_⟩
  rw [e2, hro, n9 gg]
  refine xa_fill (k := 0) (p := r) (s := 0) (by omega) (by omega) (by omega) (by omega) ?_
  refine ⟨i3, ?_⟩
  rw [e3, kk, nI_1]
  refine xa_fill (k := k.1) (p := q) (s := 0) (by omega) gk.2.2.2.1 (by omega) (by omega) ?_
  rw [e1, z2, zq2, zq]
  refine ⟨i1, nm_e ⟨i2, nm_e ?_⟩⟩
  refine hp _ _ _ _ ?_
  refine ar_upd h (ar_SH_u (ar_SH_u h.1 (ar_s16 (by omega))) (ar_s16 gk.2.2.2.1)) (ar_SH_u (ar_SH_u h.2.1 (ar_s16 (by omega))) (ar_s16 (by omega))) (ar_SB_u (ar_SB_u h.2.2.1 (ar_s8 (by omega))) (ar_s8 (by omega))) (show 2 ≤ 9 by decide) pk_us (fun m hm => by rw [pk_un hm, pk_un hm]) ?_ ?_
  · intro i hi
    rw [pk_un (by omega), pk_un (by omega), pk_un (by omega), pk_un (by omega), pk_un (by omega), pk_un (by omega)]
    exact ⟨rfl, rfl, rfl⟩
  · intro c f hf
    match c, hf with
    | 0, hf =>
      have : ((0, r, 0) : tr_C) = f := Option.some.inj hf
      subst this
      unfold ar_ce
      exact ⟨(pk_un (by omega)).trans pk_us, (pk_un (by omega)).trans pk_us, (pk_un (by omega)).trans pk_us, by show 0 < 32768; omega, by show r < 32768; omega, by show 0 < 128; omega⟩
    | 1, hf =>
      have : ((k.1, q, 0) : tr_C) = f := Option.some.inj hf
      subst this
      unfold ar_ce
      rw [pk_us, pk_us, pk_us]
      exact ⟨rfl, rfl, rfl, gk.2.2.2.1, by show q < 32768; omega, by show 0 < 128; omega⟩
    | c + 2, hf => simp at hf
end
end
section
section
variable {g md ll un dp : Int32} {da nw hd ct bf th lg ws il ke fi si us le nx ro pa sl : Nat → Int32}
variable {R : Nat → List tr_C} {n q r t gg up lf rt : Nat} {w1 w2 u b l : List tr_C} {k z : tr_C}
theorem xb_join_x {post : SX → Prop} (h : ar_AB ke fi si us R) (hup : up < 130) (hr : rt < 130) (hu : R up = u ++ z :: b) (hun : vp_nar .short un = un)
    (hp : ∀ ke' fi' si' us', ar_AB ke' fi' si' us' (tr_ru R up (u ++ b)) → post (g, md, ll, nI rt, dp, da, nw, hd, ct, bf, th, lg, ws, il, ke', fi', si', us', le, upd nx rt un, ro, pa, sl)) : wX_join_104 post (nI up) (nI u.length) (nI rt) g md ll un dp da nw hd ct bf th lg ws il ke fi si us le nx ro pa sl := by
  have g := ar_del h hup hu
  have hl := h.2.2.2 up hup
  rw [hu, List.length_append, List.length_cons] at hl
  unfold wX_join_104
  refine xa_shut (l := u.length + b.length) hup (by rw [hl.1]; rfl) (by omega) (by omega) h.1 h.2.1 h.2.2.1 ?_
  refine xa_giveUp hr hun ?_
  exact hp _ _ _ _ g
theorem xb_join_l {post : SX → Prop} {p1 p2 : Int32} {lo lr : Nat} (hl : lf < 130) (hr : rt < 130) (hne : lf ≠ rt) (h9 : lo + lr ≤ 8) (s1 : ar_SH ke) (s2 : ar_SH fi) (s3 : ar_SB si) (hur : us rt = nI lr)
    (K : ∀ f, wX_join_34 post p1 p2 (nI lf) (nI rt) (f + 1) (nI lr) g md ll un dp da nw hd ct bf th lg ws il (ar_cp ke (9 * rt) (9 * lf + lo) lr) (ar_cp fi (9 * rt) (9 * lf + lo) lr) (ar_cp si (9 * rt) (9 * lf + lo) lr) (upd us lf (nI (lo + lr))) le nx ro pa sl) :
    ∀ j c, c + j = lr → ∀ f, j < f → wX_join_34 post p1 p2 (nI lf) (nI rt) f (nI c) g md ll un dp da nw hd ct bf th lg ws il (ar_cp ke (9 * rt) (9 * lf + lo) c) (ar_cp fi (9 * rt) (9 * lf + lo) c) (ar_cp si (9 * rt) (9 * lf + lo) c) (upd us lf (nI (lo + c))) le nx ro pa sl := by
  have e1 : (nI lf).toNatClampNeg = lf := nI_clamp (by omega)
  have e2 : (nI rt).toNatClampNeg = rt := nI_clamp (by omega)
  have i1 : vp_in (nI lf) 130 := vp_in_nI hl (by omega)
  have i2 : vp_in (nI rt) 130 := vp_in_nI hr (by omega)
  intro j
  induction j with
  | zero =>
    intro c hc f hf
    obtain ⟨f, rfl⟩ : ∃ m, f = m + 1 := ⟨f - 1, by omega⟩
    have : c = lr := by omega
    subst this
    exact K f
  | succ j ih =>
    intro c hc f hf
    obtain ⟨f, rfl⟩ : ∃ m, f = m + 1 := ⟨f - 1, by omega⟩
    have u1 : upd us lf (nI (lo + c)) rt = nI lr := by rw [pk_un (fun z => hne z.symm)]; exact hur
    have u2 : upd us lf (nI (lo + c)) lf = nI (lo + c) := pk_us
    refine ⟨i2, br_f ?_ ?_⟩
    · rw [e2, u1]
      exact nI_ge (by omega) (by omega)
    · refine ⟨i1, i1, ?_⟩
      rw [e1, u2, nI_1, ar_c8 (by omega), ar_s8 (by omega), ar_uu]
      refine nm_e ?_
      rw [n9, n9, nI_add, nI_add]
      refine xa_move (by omega) (by omega) (ar_SH_cp s1) (ar_SH_cp s2) (ar_SB_cp s3) ?_
      intro y ey
      have ee : 9 * lf + (lo + c) = 9 * lf + lo + c := by omega
      rw [ey, nI_1, ee, ar_cp_s (by omega), ar_cp_s (by omega), ar_cp_s (by omega)]
      exact ih (c + 1) (by omega) f (by omega)
theorem xb_join_2 {post : SX → Prop} (h : ar_AB ke fi si us R) (hup : up < 130) (hl : lf < 130) (hr : rt < 130) (d1 : up ≠ lf) (d2 : up ≠ rt) (d3 : lf ≠ rt) (hle : le rt = 0 ∨ le rt = 1) (hnx : ar_SH nx) (hun : vp_nar .short un = un)
    (hu : R up = u ++ z :: b) (h8 : (R lf).length + (R rt).length ≤ 8)
    (hp : ∀ ke' fi' si' us' nx', ar_AB ke' fi' si' us' (tr_ru (tr_ru R lf (R lf ++ R rt)) up (u ++ b)) → ar_SH nx' → (∀ m, m ≠ lf → m ≠ rt → nx' m = nx m) → (le rt = 1 → nx' lf = nx rt) → nx' rt = un →
      post (g, md, ll, nI rt, dp, da, nw, hd, ct, bf, th, lg, ws, il, ke', fi', si', us', le, nx', ro, pa, sl)) : ∃ n34, wX_join_34 post (nI up) (nI u.length) (nI lf) (nI rt) n34 0 g md ll un dp da nw hd ct bf th lg ws il ke fi si us le nx ro pa sl := by
  have e1 : (nI lf).toNatClampNeg = lf := nI_clamp (by omega)
  have e2 : (nI rt).toNatClampNeg = rt := nI_clamp (by omega)
  have i1 : vp_in (nI lf) 130 := vp_in_nI hl (by omega)
  have i2 : vp_in (nI rt) 130 := vp_in_nI hr (by omega)
  have ul := (h.2.2.2 lf hl).1
  have ur := (h.2.2.2 rt hr).1
  have g1 := ar_app (n := rt) (q := lf) (t := []) (o := R lf) (l := R rt) h hr hl (fun z => d3 z.symm) rfl rfl (by omega)
  rw [List.length_nil, Nat.add_zero] at g1
  have hu2 : tr_ru R lf (R lf ++ R rt) up = u ++ z :: b := by rw [tr_ru_n d1]; exact hu
  have K : ∀ f, wX_join_34 post (nI up) (nI u.length) (nI lf) (nI rt) (f + 1) (nI (R rt).length) g md ll un dp da nw hd ct bf th lg ws il (ar_cp ke (9 * rt) (9 * lf + (R lf).length) (R rt).length) (ar_cp fi (9 * rt) (9 * lf + (R lf).length) (R rt).length) (ar_cp si (9 * rt) (9 * lf + (R lf).length) (R rt).length) (upd us lf (nI ((R lf).length + (R rt).length))) le nx ro pa sl := by
    intro f
    have u1 : upd us lf (nI ((R lf).length + (R rt).length)) rt = nI (R rt).length := by rw [pk_un (fun z => d3 z.symm)]; exact ur
    refine ⟨i2, br_t ?_ ?_⟩
    · rw [e2, u1]
      exact nI_le (by omega) (by omega)
    · refine ⟨i2, ?_⟩
      rw [e2, e1]
      rcases hle with z1 | z1
      · refine br_t z1 (xb_join_x g1 hup hr hu2 hun (fun ke' fi' si' us' g => hp _ _ _ _ _ g (ar_SH_u hnx hun) (fun m m1 m2 => pk_un m2) (fun z2 => ?_) pk_us))
        rw [z1] at z2
        exact absurd z2 (by decide)
      · refine br_f (by rw [z1]; decide) ⟨i2, i1, ?_⟩
        rw [hnx rt]
        refine nm_e (xb_join_x g1 hup hr hu2 hun (fun ke' fi' si' us' g => hp _ _ _ _ _ g (ar_SH_u (ar_SH_u hnx (hnx rt)) hun) (fun m m1 m2 => by rw [pk_un m2, pk_un m1]) (fun z2 => ?_) pk_us))
        rw [pk_un d3, pk_us]
  have := xb_join_l (post := post) (p1 := nI up) (p2 := nI u.length) hl hr d3 h8 h.1 h.2.1 h.2.2.1 ur K (R rt).length 0 (by omega) ((R rt).length + 1) (by omega)
  rw [ar_cp_0, ar_cp_0, ar_cp_0, show (R lf).length + 0 = (R lf).length from rfl, ← ar_upds lf us ul] at this
  exact ⟨_, this⟩
/-- the first key made true -/
theorem xb_norm (h : ar_AB ke fi si us R) (hr : rt < 130) (hne : R rt ≠ []) {kk : Nat} (hk : kk < 32768) : ar_AB (upd ke (9 * rt) (nI kk)) fi si us (tr_ru R rt (tr_fx kk (R rt))) := by
  cases hc : R rt with
  | nil => exact absurd hc hne
  | cons c cs =>
    have := ar_key (a := []) (k := kk) h hr hc hk
    rw [List.length_nil, Nat.add_zero] at this
    exact this
theorem xb_join {post : SX → Prop} (h : ar_AB ke fi si us R) (hup : up < 130) (hl : lf < 130) (hr : rt < 130) (d1 : up ≠ lf) (d2 : up ≠ rt) (d3 : lf ≠ rt) (hle : le rt = 0 ∨ le rt = 1) (hnx : ar_SH nx) (hun : vp_nar .short un = un)
    (hu : R up = u ++ z :: b) (h8 : (R lf).length + (R rt).length ≤ 8) (hne : R rt ≠ []) (hl2 : l = if le rt = 0 then tr_fx z.1 (R rt) else R rt)
    (hp : ∀ ke' fi' si' us' nx', ar_AB ke' fi' si' us' (tr_ru (tr_ru (tr_ru R rt l) lf (R lf ++ l)) up (u ++ b)) → ar_SH nx' → (∀ m, m ≠ lf → m ≠ rt → nx' m = nx m) → (le rt = 1 → nx' lf = nx rt) → nx' rt = un →
      post (g, md, ll, nI rt, dp, da, nw, hd, ct, bf, th, lg, ws, il, ke', fi', si', us', le, nx', ro, pa, sl)) : wpX_join post (g, md, ll, un, dp, da, nw, hd, ct, bf, th, lg, ws, il, ke, fi, si, us, le, nx, ro, pa, sl) (nI up) (nI u.length) (nI lf) (nI rt) := by
  have e2 : (nI rt).toNatClampNeg = rt := nI_clamp (by omega)
  have i2 : vp_in (nI rt) 130 := vp_in_nI hr (by omega)
  have gz := ar_gp h hup hu
  have hlu := (h.2.2.2 up hup).2.1
  rw [hu, List.length_append, List.length_cons] at hlu
  have e3 : (nI (9 * up + u.length)).toNatClampNeg = 9 * up + u.length := nI_clamp (by omega)
  have e4 : (nI (9 * rt)).toNatClampNeg = 9 * rt := nI_clamp (by omega)
  have R1 : tr_ru R rt l lf = R lf := tr_ru_n d3
  have R2 : tr_ru R rt l rt = l := tr_ru_s
  have R3 : tr_ru R rt l up = u ++ z :: b := by rw [tr_ru_n d2]; exact hu
  have hll : l.length = (R rt).length := by
    rw [hl2]; split
    · exact tr_fx_len
    · rfl
  have hp' : ∀ ke' fi' si' us' nx', ar_AB ke' fi' si' us' (tr_ru (tr_ru (tr_ru R rt l) lf (tr_ru R rt l lf ++ tr_ru R rt l rt)) up (u ++ b)) → ar_SH nx' → (∀ m, m ≠ lf → m ≠ rt → nx' m = nx m) → (le rt = 1 → nx' lf = nx rt) → nx' rt = un →
      post (g, md, ll, nI rt, dp, da, nw, hd, ct, bf, th, lg, ws, il, ke', fi', si', us', le, nx', ro, pa, sl) := by
    rw [R1, R2]; exact hp
  unfold wpX_join
  simp only [e2]
  refine ⟨i2, ?_⟩
  rcases hle with z1 | z1
  · rw [if_pos z1] at hl2
    refine br_t z1 ?_
    rw [n9, n9, nI_add, e3, e4, gz.1, ar_s16 gz.2.2.2.1]
    refine ⟨vp_in_nI (by omega) (by omega), vp_in_nI (by omega) (by omega), nm_e ?_⟩
    have g := xb_norm h hr hne (kk := z.1) gz.2.2.2.1
    rw [← hl2] at g
    exact xb_join_2 g hup hl hr d1 d2 d3 (Or.inl z1) hnx hun R3 (by rw [R1, R2, hll]; exact h8) hp'
  · rw [if_neg (by rw [z1]; decide)] at hl2
    refine br_f (by rw [z1]; decide) ?_
    have g : ar_AB ke fi si us (tr_ru R rt l) := ar_cgR h (fun m _ => by
      by_cases z2 : m = rt
      · subst z2; rw [R2, hl2]
      · rw [tr_ru_n z2])
    exact xb_join_2 g hup hl hr d1 d2 d3 (Or.inr z1) hnx hun R3 (by rw [R1, R2, hll]; exact h8) hp'
end
end
section
theorem n_m1 {x : Nat} (h : 0 < x) : nI x - 1 = nI (x - 1) := by
  obtain ⟨y, rfl⟩ : ∃ y, x = y + 1 := ⟨x - 1, by omega⟩
  exact nI_pred y
theorem n_neg : (-1 : Int32) < 0 := by decide
section
variable {g md ll un dp : Int32} {da nw hd ct bf th lg ws il ke fi si us le nx ro pa sl : Nat → Int32}
variable {R : Nat → List tr_C} {n s r t gg up lf rt : Nat} {wl wr u b l : List tr_C} {c cr v w z : tr_C}
theorem xb_mend_0 {post : SX → Prop} {lv rv : Int32} (h : ar_AB ke fi si us R) (hup : up < 130) (hs : s < (R up).length) (hl0 : s = 0 → lv = -1) (hl1 : 0 < s → lv = fi (9 * up + s - 1))
    (hr0 : (R up).length ≤ s + 1 → rv = -1) (hr1 : s + 1 < (R up).length → rv = fi (9 * up + s + 1)) (hp : wX_mend_52 post (nI up) (nI s) (nI n) lv rv g md ll un dp da nw hd ct bf th lg ws il ke fi si us le nx ro pa sl) : wpX_mend post (g, md, ll, un, dp, da, nw, hd, ct, bf, th, lg, ws, il, ke, fi, si, us, le, nx, ro, pa, sl) (nI up) (nI s) (nI n) := by
  have e2 : (nI up).toNatClampNeg = up := nI_clamp (by omega)
  have i2 : vp_in (nI up) 130 := vp_in_nI hup (by omega)
  have hu := h.2.2.2 up hup
  have key : wX_mend_21 post (nI up) (nI s) (nI n) lv g md ll un dp da nw hd ct bf th lg ws il ke fi si us le nx ro pa sl := by
    unfold wX_mend_21
    rw [e2, hu.1, nI_1, n9, nI_add, nI_1]
    refine ⟨i2, ?_⟩
    rcases Nat.lt_or_ge (s + 1) (R up).length with z | z
    · rw [nI_clamp (by omega : 9 * up + s + 1 < 2 ^ 31)]
      refine br_f (nI_ge z (by omega)) ⟨vp_in_nI (by omega) (by omega), ?_⟩
      rw [← hr1 z]
      exact hp
    · refine br_t (nI_le z (by omega)) ?_
      rw [← hr0 z]
      exact hp
  unfold wpX_mend
  simp only
  rcases Nat.eq_zero_or_pos s with z | z
  · subst z
    refine br_t (nI_le (a := 0) (b := 0) (by omega) (by omega)) ?_
    rw [← hl0 rfl]
    exact key
  · refine br_f (nI_nle z (by omega)) ?_
    rw [n9, nI_add, n_m1 (by omega), nI_clamp (by omega : 9 * up + s - 1 < 2 ^ 31)]
    refine ⟨vp_in_nI (by omega) (by omega), ?_⟩
    rw [← hl1 z]
    exact key
theorem xb_mend_99 {post : SX → Prop} (h : ar_AB ke fi si us R) (hup : up < 130) (hn : n < 130) (hl : lf < 130) (d1 : up ≠ lf) (d2 : up ≠ n) (d3 : lf ≠ n)
    (hu : R up = u ++ c :: b) (hwl : R lf = wl ++ [v]) (hn7 : (R n).length ≤ 7)
    (hp : ∀ ke' fi' si' us', ar_AB ke' fi' si' us' (tr_ru (tr_ru (tr_ru R n (v :: R n)) lf wl) up (u ++ (v.1, c.2) :: b)) → post (g, md, ll, un, dp, da, nw, hd, ct, bf, th, lg, ws, il, ke', fi', si', us', le, nx, ro, pa, sl)) :
    wX_mend_99 post (nI up) (nI u.length) (nI n) (nI lf) g md ll un dp da nw hd ct bf th lg ws il ke fi si us le nx ro pa sl := by
  have e1 : (nI lf).toNatClampNeg = lf := nI_clamp (by omega)
  have i1 : vp_in (nI lf) 130 := vp_in_nI hl (by omega)
  have hun := (h.2.2.2 n hn).1
  have ulf := (h.2.2.2 lf hl)
  rw [hwl, List.length_append, List.length_cons, List.length_nil] at ulf
  have uup := (h.2.2.2 up hup).2.1
  rw [hu, List.length_append, List.length_cons] at uup
  have gv := ar_gp (b := []) h hl hwl
  have g1 := ar_ins (a := []) (b := R n) (e := v) h hn rfl (by rw [List.length_nil]; omega) gv.2.2.2.1 gv.2.2.2.2.1 gv.2.2.2.2.2
  rw [List.length_nil, Nat.add_zero, Nat.zero_add, List.nil_append] at g1
  have g2 := ar_pop (n := lf) (a := wl) (e := v) g1 hl (by rw [tr_ru_n d3]; exact hwl)
  have g3 := ar_key (n := up) (a := u) (b := b) (k := v.1) g2 hup (by rw [tr_ru_n d1, tr_ru_n d2]; exact hu) gv.2.2.2.1
  unfold wX_mend_99
  refine xa_open (c := 0) hn hun (by omega) (by omega) h.1 h.2.1 h.2.2.1 ?_
  have x1 : upd us n (nI ((R n).length + 1)) lf = nI (wl.length + 1) := by rw [pk_un d3]; exact ulf.1
  refine ⟨i1, ?_⟩
  rw [e1, x1, n9 lf, n9 n, nI_add (9 * lf), n_m1 (by omega)]
  have e5 : 9 * lf + (wl.length + 1) - 1 = 9 * lf + wl.length := by omega
  rw [e5]
  refine xa_move (by omega) (by omega) (ar_SH_sr h.1) (ar_SH_sr h.2.1) (ar_SB_sr h.2.2.1) ?_
  have r1 : ar_sr ke (9 * n + 0) (9 * n + (R n).length) (9 * lf + wl.length) = nI v.1 := by
    unfold ar_sr; rw [if_neg (by omega)]; exact gv.1
  have r2 : ar_sr fi (9 * n + 0) (9 * n + (R n).length) (9 * lf + wl.length) = nI v.2.1 := by
    unfold ar_sr; rw [if_neg (by omega)]; exact gv.2.1
  have r3 : ar_sr si (9 * n + 0) (9 * n + (R n).length) (9 * lf + wl.length) = nI v.2.2 := by
    unfold ar_sr; rw [if_neg (by omega)]; exact gv.2.2.1
  rw [r1, r2, r3, Nat.add_zero]
  refine ⟨i1, i1, ?_⟩
  rw [x1, nI_pred, ar_c8 (by omega), ar_s8 (by omega)]
  refine nm_e ?_
  have e6 : (nI (9 * n)).toNatClampNeg = 9 * n := nI_clamp (by omega)
  have e7 : (nI (9 * up + u.length)).toNatClampNeg = 9 * up + u.length := nI_clamp (by omega)
  rw [n9, nI_add, e6, e7, pk_us, ar_s16 gv.2.2.2.1]
  refine ⟨vp_in_nI (by omega) (by omega), vp_in_nI (by omega) (by omega), nm_e ?_⟩
  exact hp _ _ _ _ g3
theorem xb_mend_L {post : SX → Prop} {z0 : Int32} (h : ar_AB ke fi si us R) (hup : up < 130) (hn : n < 130) (hl : lf < 130) (d1 : up ≠ lf) (d2 : up ≠ n) (d3 : lf ≠ n) (hle : le n = 0 ∨ le n = 1)
    (hu : R up = u ++ c :: b) (hwl : R lf = wl ++ [v]) (h4 : 4 ≤ wl.length) (hn7 : (R n).length ≤ 7) (hne : R n ≠ []) (hl2 : l = if le n = 0 then tr_fx c.1 (R n) else R n)
    (hp : ∀ ke' fi' si' us', ar_AB ke' fi' si' us' (tr_ru (tr_ru (tr_ru R n (v :: l)) lf wl) up (u ++ (v.1, c.2) :: b)) → post (g, md, ll, un, dp, da, nw, hd, ct, bf, th, lg, ws, il, ke', fi', si', us', le, nx, ro, pa, sl)) :
    wX_mend_52 post (nI up) (nI u.length) (nI n) (nI lf) z0 g md ll un dp da nw hd ct bf th lg ws il ke fi si us le nx ro pa sl := by
  have e1 : (nI lf).toNatClampNeg = lf := nI_clamp (by omega)
  have i1 : vp_in (nI lf) 130 := vp_in_nI hl (by omega)
  have e2 : (nI n).toNatClampNeg = n := nI_clamp (by omega)
  have i2 : vp_in (nI n) 130 := vp_in_nI hn (by omega)
  have ulf := (h.2.2.2 lf hl)
  rw [hwl, List.length_append, List.length_cons, List.length_nil] at ulf
  have uup := (h.2.2.2 up hup).2.1
  rw [hu, List.length_append, List.length_cons] at uup
  have gc := ar_gp h hup hu
  unfold wX_mend_52
  rw [e1, e2, ulf.1]
  refine br_f (nI_pos (by omega)) ⟨i1, br_f (nI_ge (b := wl.length + (0 + 1)) (a := 4) (by omega) (by omega)) ⟨i2, ?_⟩⟩
  have R1 : tr_ru R n l n = l := tr_ru_s
  have hll : l.length = (R n).length := by
    rw [hl2]; split
    · exact tr_fx_len
    · rfl
  have go : ∀ ke', ar_AB ke' fi si us (tr_ru R n l) → wX_mend_99 post (nI up) (nI u.length) (nI n) (nI lf) g md ll un dp da nw hd ct bf th lg ws il ke' fi si us le nx ro pa sl := by
    intro ke' g
    refine xb_mend_99 (R := tr_ru R n l) (v := v) (wl := wl) (b := b) (c := c) g hup hn hl d1 d2 d3 (by rw [tr_ru_n d2]; exact hu) (by rw [tr_ru_n d3]; exact hwl) (by rw [R1, hll]; exact hn7) ?_
    rw [R1]
    intro k2 f2 s2 u2 g2
    refine hp _ _ _ _ (ar_cgR g2 (fun m _ => ?_))
    by_cases z1 : m = up
    · subst z1; rw [tr_ru_s, tr_ru_s]
    · rw [tr_ru_n z1, tr_ru_n z1]
      by_cases z2 : m = lf
      · subst z2; rw [tr_ru_s, tr_ru_s]
      · rw [tr_ru_n z2, tr_ru_n z2]
        by_cases z3 : m = n
        · subst z3; rw [tr_ru_s, tr_ru_s]
        · rw [tr_ru_n z3, tr_ru_n z3, tr_ru_n z3]
  rcases hle with z1 | z1
  · rw [if_pos z1] at hl2
    refine br_t z1 ?_
    rw [n9, n9, nI_add, nI_clamp (by omega : 9 * n < 2 ^ 31), nI_clamp (by omega : 9 * up + u.length < 2 ^ 31), gc.1, ar_s16 gc.2.2.2.1]
    refine ⟨vp_in_nI (by omega) (by omega), vp_in_nI (by omega) (by omega), nm_e ?_⟩
    have g := xb_norm h hn hne (kk := c.1) gc.2.2.2.1
    rw [← hl2] at g
    exact go _ g
  · rw [if_neg (by rw [z1]; decide)] at hl2
    refine br_f (by rw [z1]; decide) ?_
    exact go _ (ar_cgR h (fun m _ => by
      by_cases z2 : m = n
      · subst z2; rw [R1, hl2]
      · rw [tr_ru_n z2]))
theorem xb_mend_211 {post : SX → Prop} (h : ar_AB ke fi si us R) (hup : up < 130) (hn : n < 130) (hr : rt < 130) (d1 : up ≠ rt) (d2 : up ≠ n) (d3 : rt ≠ n)
    (hu : R up = u ++ cr :: b) (hus : u.length = s + 1) (hwr : R rt = v :: w :: wr) (hn7 : (R n).length ≤ 7)
    (hp : ∀ ke' fi' si' us', ar_AB ke' fi' si' us' (tr_ru (tr_ru (tr_ru R n (R n ++ [v])) rt (w :: wr)) up (u ++ (w.1, cr.2) :: b)) → post (g, md, ll, un, dp, da, nw, hd, ct, bf, th, lg, ws, il, ke', fi', si', us', le, nx, ro, pa, sl)) :
    wX_mend_211 post (nI up) (nI s) (nI n) (nI rt) g md ll un dp da nw hd ct bf th lg ws il ke fi si us le nx ro pa sl := by
  have e1 : (nI n).toNatClampNeg = n := nI_clamp (by omega)
  have i1 : vp_in (nI n) 130 := vp_in_nI hn (by omega)
  have hun := (h.2.2.2 n hn).1
  have urt := (h.2.2.2 rt hr)
  rw [hwr, List.length_cons, List.length_cons] at urt
  have uup := (h.2.2.2 up hup).2.1
  rw [hu, List.length_append, List.length_cons] at uup
  have gv := ar_gp (a := []) h hr hwr
  rw [List.length_nil, Nat.add_zero] at gv
  have gw := ar_gp (a := [v]) (b := wr) (e := w) h hr hwr
  have g1 := ar_psh (a := R n) (e := v) h hn rfl (by omega) gv.2.2.2.1 gv.2.2.2.2.1 gv.2.2.2.2.2
  have g2 := ar_del (n := rt) (a := []) (e := v) (b := w :: wr) g1 hr (by rw [tr_ru_n d3]; exact hwr)
  rw [List.length_nil, Nat.add_zero, Nat.zero_add, List.nil_append] at g2
  have g3 := ar_key (n := up) (a := u) (b := b) (k := w.1) g2 hup (by rw [tr_ru_n d1, tr_ru_n d2]; exact hu) gw.2.2.2.1
  unfold wX_mend_211
  rw [e1, hun, nI_1 (R n).length, ar_c8 (by omega), ar_s8 (by omega)]
  refine ⟨i1, i1, nm_e ?_⟩
  rw [n9 n, n9 rt, nI_add (9 * n)]
  refine xa_move (by omega) (by omega) h.1 h.2.1 h.2.2.1 ?_
  rw [gv.1, gv.2.1, gv.2.2.1]
  refine xa_shut (c := 0) (l := wr.length + 1) hr ?_ (by omega) (by omega) g1.1 g1.2.1 g1.2.2.1 ?_
  · rw [pk_un d3]; exact urt.1
  have j1 : vp_in (nI (9 * rt)) 1170 := vp_in_nI (by omega) (by omega)
  have j2 : 9 * nI up + nI s + 1 = nI (9 * up + s + 1) := by rw [n9, nI_add, nI_1]
  have j3 : vp_in (9 * nI up + nI s + 1) 1170 := by rw [j2]; exact vp_in_nI (by omega) (by omega)
  refine ⟨j1, j3, ?_⟩
  rw [j2, nI_clamp (by omega : 9 * rt < 2 ^ 31), nI_clamp (by omega : 9 * up + s + 1 < 2 ^ 31)]
  have r1 : ar_sl (upd ke (9 * n + (R n).length) (nI v.1)) (9 * rt + 0) (9 * rt + (wr.length + 1)) (9 * rt) = nI w.1 := by
    unfold ar_sl
    rw [if_pos (by omega), pk_un (by omega)]
    exact gw.1
  rw [r1, ar_s16 gw.2.2.2.1]
  refine nm_e ?_
  have e9 : 9 * up + s + 1 = 9 * up + u.length := by omega
  rw [e9, Nat.add_zero]
  exact hp _ _ _ _ g3
theorem xb_mend_R {post : SX → Prop} {x4 : Int32} (hx4 : x4 < 0 ∨ ∃ lf, lf < 130 ∧ x4 = nI lf ∧ (R lf).length ≤ 4) (h : ar_AB ke fi si us R) (hup : up < 130) (hn : n < 130) (hr : rt < 130) (d1 : up ≠ rt) (d2 : up ≠ n) (d3 : rt ≠ n) (hle : le n = 0 ∨ le n = 1)
    (hlr : le rt = le n) (hu : R up = u ++ cr :: b) (hus : u.length = s + 1) (h4 : 5 ≤ (R rt).length) (hn7 : (R n).length ≤ 7) (hl2 : v :: w :: wr = if le rt = 0 then tr_fx cr.1 (R rt) else R rt)
    (hp : ∀ ke' fi' si' us', ar_AB ke' fi' si' us' (tr_ru (tr_ru (tr_ru R n (R n ++ [v])) rt (w :: wr)) up (u ++ (w.1, cr.2) :: b)) → post (g, md, ll, un, dp, da, nw, hd, ct, bf, th, lg, ws, il, ke', fi', si', us', le, nx, ro, pa, sl)) :
    wX_mend_52 post (nI up) (nI s) (nI n) x4 (nI rt) g md ll un dp da nw hd ct bf th lg ws il ke fi si us le nx ro pa sl := by
  have e1 : (nI rt).toNatClampNeg = rt := nI_clamp (by omega)
  have i1 : vp_in (nI rt) 130 := vp_in_nI hr (by omega)
  have e2 : (nI n).toNatClampNeg = n := nI_clamp (by omega)
  have i2 : vp_in (nI n) 130 := vp_in_nI hn (by omega)
  have urt := (h.2.2.2 rt hr)
  have uup := (h.2.2.2 up hup).2.1
  rw [hu, List.length_append, List.length_cons] at uup
  have gc := ar_gp h hup hu
  have hne : R rt ≠ [] := by intro z; rw [z] at h4; exact absurd h4 (by decide)
  have R1 : tr_ru R rt (v :: w :: wr) rt = v :: w :: wr := tr_ru_s
  have go : ∀ ke', ar_AB ke' fi si us (tr_ru R rt (v :: w :: wr)) → wX_mend_211 post (nI up) (nI s) (nI n) (nI rt) g md ll un dp da nw hd ct bf th lg ws il ke' fi si us le nx ro pa sl := by
    intro ke' g
    have Rn : tr_ru R rt (v :: w :: wr) n = R n := tr_ru_n (fun z => d3 z.symm)
    refine xb_mend_211 (R := tr_ru R rt (v :: w :: wr)) (v := v) (w := w) (wr := wr) (b := b) (cr := cr) (u := u) g hup hn hr d1 d2 d3 (by rw [tr_ru_n d1]; exact hu) hus R1 (by rw [Rn]; exact hn7) ?_
    rw [Rn]
    intro k2 f2 s2 u2 g2
    refine hp _ _ _ _ (ar_cgR g2 (fun m _ => ?_))
    by_cases z1 : m = up
    · subst z1; rw [tr_ru_s, tr_ru_s]
    · rw [tr_ru_n z1, tr_ru_n z1]
      by_cases z2 : m = rt
      · subst z2; rw [tr_ru_s, tr_ru_s]
      · rw [tr_ru_n z2, tr_ru_n z2]
        by_cases z3 : m = n
        · subst z3; rw [tr_ru_s, tr_ru_s]
        · rw [tr_ru_n z3, tr_ru_n z3, tr_ru_n z2]
  have main : wX_mend_163 post (nI up) (nI s) (nI n) x4 (nI rt) g md ll un dp da nw hd ct bf th lg ws il ke fi si us le nx ro pa sl := by
    unfold wX_mend_163
    rw [e1, e2, urt.1]
    refine br_f (nI_pos (by omega)) ⟨i1, br_f (nI_ge (b := (R rt).length) (a := 4) (by omega) (by omega)) ⟨i2, ?_⟩⟩
    rcases hle with z1 | z1
    · rw [if_pos (hlr.trans z1)] at hl2
      refine br_t z1 ?_
      rw [n9, n9, nI_add, nI_1, nI_clamp (by omega : 9 * rt < 2 ^ 31), nI_clamp (by omega : 9 * up + s + 1 < 2 ^ 31)]
      have e9 : 9 * up + s + 1 = 9 * up + u.length := by omega
      rw [e9, gc.1, ar_s16 gc.2.2.2.1]
      refine ⟨vp_in_nI (by omega) (by omega), vp_in_nI (by omega) (by omega), nm_e ?_⟩
      have g := xb_norm h hr hne (kk := cr.1) gc.2.2.2.1
      rw [← hl2] at g
      exact go _ g
    · rw [if_neg (by rw [hlr, z1]; decide)] at hl2
      refine br_f (by rw [z1]; decide) ?_
      exact go _ (ar_cgR h (fun m _ => by
        by_cases z2 : m = rt
        · subst z2; rw [R1, hl2]
        · rw [tr_ru_n z2]))
  unfold wX_mend_52
  rcases hx4 with z | ⟨lf, hl, rfl, hl4⟩
  · exact br_t z main
  · have e3 : (nI lf).toNatClampNeg = lf := nI_clamp (by omega)
    have ulf := (h.2.2.2 lf hl)
    rw [e3, ulf.1]
    exact br_f (nI_pos (by omega)) ⟨vp_in_nI hl (by omega), br_t (nI_le (b := 4) hl4 (by omega)) main⟩
/-- no neighbour has a cell to spare -/
theorem xb_mend_J {post : SX → Prop} {x4 x5 : Int32} (h : ar_AB ke fi si us R) (hx4 : x4 < 0 ∨ ∃ lf, lf < 130 ∧ x4 = nI lf ∧ (R lf).length ≤ 4) (hx5 : x5 < 0 ∨ ∃ rt, rt < 130 ∧ x5 = nI rt ∧ (R rt).length ≤ 4)
    (hp : wX_mend_270 post (nI up) (nI s) (nI n) x4 x5 g md ll un dp da nw hd ct bf th lg ws il ke fi si us le nx ro pa sl) : wX_mend_52 post (nI up) (nI s) (nI n) x4 x5 g md ll un dp da nw hd ct bf th lg ws il ke fi si us le nx ro pa sl := by
  have main : wX_mend_163 post (nI up) (nI s) (nI n) x4 x5 g md ll un dp da nw hd ct bf th lg ws il ke fi si us le nx ro pa sl := by
    unfold wX_mend_163
    rcases hx5 with z | ⟨rt, hr, rfl, hr4⟩
    · exact br_t z hp
    · have e3 : (nI rt).toNatClampNeg = rt := nI_clamp (by omega)
      have urt := (h.2.2.2 rt hr)
      rw [e3, urt.1]
      exact br_f (nI_pos (by omega)) ⟨vp_in_nI hr (by omega), br_t (nI_le (b := 4) hr4 (by omega)) hp⟩
  unfold wX_mend_52
  rcases hx4 with z | ⟨lf, hl, rfl, hl4⟩
  · exact br_t z main
  · have e3 : (nI lf).toNatClampNeg = lf := nI_clamp (by omega)
    have ulf := (h.2.2.2 lf hl)
    rw [e3, ulf.1]
    exact br_f (nI_pos (by omega)) ⟨vp_in_nI hl (by omega), br_t (nI_le (b := 4) hl4 (by omega)) main⟩
end
end
section
abbrev xc_J : Type := Int32 → Int32 → (Nat → Int32) → (Nat → Int32) → (Nat → Int32) → (Nat → Int32) → (Nat → Int32) → (Nat → Int32) → (Nat → Int32) → (Nat → Int32) → (Nat → Int32) → (Nat → Int32) → (Nat → Int32) → (Nat → Int32) → (Nat → Int32) → (Nat → Int32) → (Nat → Int32) → (Nat → Int32) → (Nat → Int32) → (Nat → Int32) → Prop
section
variable {g md ll un dp : Int32} {da nw hd ct bf th lg ws il ke fi si us le nx ro pa sl : Nat → Int32}
variable {R : Nat → List tr_C} {n k r H : Nat} {L : List tr_C} {ok : Nat → Nat → Nat → Prop} {F O : List Nat}
theorem xc_some {l : List tr_C} {c : Nat} (h : c < l.length) : ∃ e, l[c]? = some e := ⟨l[c], List.getElem?_eq_getElem h⟩
theorem xc_d24 {post : Int32 → SX → Prop} {J : xc_J} (h : ar_AB ke fi si us R) (hn : n < 130) (hk : k < 32768)
    (K : ∀ c, 1 ≤ c → c ≤ (R n).length → (∀ i e, 1 ≤ i → i < c → (R n)[i]? = some e → e.1 ≤ k) → (∀ e, (R n)[c]? = some e → k < e.1) → wX_descend_57 post J (nI k) (nI n) (nI c) g md ll un dp da nw hd ct bf th lg ws il ke fi si us le nx ro pa sl) :
    ∀ j c, c + j = (R n).length → 1 ≤ c → (∀ i e, 1 ≤ i → i < c → (R n)[i]? = some e → e.1 ≤ k) → ∀ f, j < f → wX_descend_24 post J (nI k) (nI n) g md ll un dp da nw hd ct bf th lg ws il ke fi si us le nx ro pa sl f (nI c) := by
  have e1 : (nI n).toNatClampNeg = n := nI_clamp (by omega)
  have i1 : vp_in (nI n) 130 := vp_in_nI hn (by omega)
  have hu := h.2.2.2 n hn
  intro j
  induction j with
  | zero =>
    intro c hc h1 hi f hf
    obtain ⟨f, rfl⟩ : ∃ m, f = m + 1 := ⟨f - 1, by omega⟩
    refine ⟨i1, br_t ?_ (K c h1 (by omega) hi (fun e he => ?_))⟩
    · rw [e1, hu.1]
      exact nI_le (by omega) (by omega)
    · have := ar_lt he
      omega
  | succ j ih =>
    intro c hc h1 hi f hf
    obtain ⟨f, rfl⟩ : ∃ m, f = m + 1 := ⟨f - 1, by omega⟩
    obtain ⟨e, he⟩ := xc_some (l := R n) (c := c) (by omega)
    have ge := ar_get h hn he
    have e2 : 9 * nI n + nI c = nI (9 * n + c) := by rw [n9, nI_add]
    have e3 : (nI (9 * n + c)).toNatClampNeg = 9 * n + c := nI_clamp (by omega)
    refine ⟨i1, br_f ?_ ?_⟩
    · rw [e1, hu.1]
      exact nI_ge (by omega) (by omega)
    · rw [e2, e3, ge.1]
      refine ⟨vp_in_nI (by omega) (by omega), pk_lt k e.1 (fun z => ?_) (fun z => ?_) rfl rfl (by omega) (by have := ge.2.2.2.1; omega)⟩
      · refine K c h1 (by omega) hi (fun e' he' => ?_)
        rw [he] at he'
        rw [← Option.some.inj he']
        exact z
      · intro y ey
        rw [ey, nI_1]
        refine ih (c + 1) (by omega) (by omega) (fun i e' q1 q2 q3 => ?_) f (by omega)
        by_cases hic : i = c
        · subst hic
          rw [he] at q3
          rw [← Option.some.inj q3]
          exact z
        · exact hi i e' q1 (by omega) q3
theorem xc_d121 {post : Int32 → SX → Prop} (h : ar_AB ke fi si us R) (hn : n < 130) (hk : k < 32768)
    (K : ∀ c, c ≤ (R n).length → (∀ i e, i < c → (R n)[i]? = some e → e.1 ≤ k) → (∀ e, (R n)[c]? = some e → k < e.1) → post (nI (9 * n + c) - 1) (g, md, ll, un, dp, da, nw, hd, ct, bf, th, lg, ws, il, ke, fi, si, us, le, nx, ro, pa, sl)) :
    ∀ j c, c + j = (R n).length → (∀ i e, i < c → (R n)[i]? = some e → e.1 ≤ k) → ∀ f, j < f → wX_descend_121 post (nI k) (nI n) g md ll un dp da nw hd ct bf th lg ws il ke fi si us le nx ro pa sl f (nI c) := by
  have e1 : (nI n).toNatClampNeg = n := nI_clamp (by omega)
  have i1 : vp_in (nI n) 130 := vp_in_nI hn (by omega)
  have hu := h.2.2.2 n hn
  have K' : ∀ c, c ≤ (R n).length → (∀ i e, i < c → (R n)[i]? = some e → e.1 ≤ k) → (∀ e, (R n)[c]? = some e → k < e.1) → wX_descend_154 post (nI n) (nI c) g md ll un dp da nw hd ct bf th lg ws il ke fi si us le nx ro pa sl := by
    intro c q1 q2 q3
    have := K c q1 q2 q3
    unfold wX_descend_154
    rw [n9, nI_add]
    exact this
  intro j
  induction j with
  | zero =>
    intro c hc hi f hf
    obtain ⟨f, rfl⟩ : ∃ m, f = m + 1 := ⟨f - 1, by omega⟩
    refine ⟨i1, br_t ?_ (K' c (by omega) hi (fun e he => ?_))⟩
    · rw [e1, hu.1]
      exact nI_le (by omega) (by omega)
    · have := ar_lt he
      omega
  | succ j ih =>
    intro c hc hi f hf
    obtain ⟨f, rfl⟩ : ∃ m, f = m + 1 := ⟨f - 1, by omega⟩
    obtain ⟨e, he⟩ := xc_some (l := R n) (c := c) (by omega)
    have ge := ar_get h hn he
    have e2 : 9 * nI n + nI c = nI (9 * n + c) := by rw [n9, nI_add]
    have e3 : (nI (9 * n + c)).toNatClampNeg = 9 * n + c := nI_clamp (by omega)
    refine ⟨i1, br_f ?_ ?_⟩
    · rw [e1, hu.1]
      exact nI_ge (by omega) (by omega)
    · rw [e2, e3, ge.1]
      refine ⟨vp_in_nI (by omega) (by omega), pk_lt k e.1 (fun z => ?_) (fun z => ?_) rfl rfl (by omega) (by have := ge.2.2.2.1; omega)⟩
      · refine K' c (by omega) hi (fun e' he' => ?_)
        rw [he] at he'
        rw [← Option.some.inj he']
        exact z
      · intro y ey
        rw [ey, nI_1]
        refine ih (c + 1) (by omega) (fun i e' q2 q3 => ?_) f (by omega)
        by_cases hic : i = c
        · subst hic
          rw [he] at q3
          rw [← Option.some.inj q3]
          exact z
        · exact hi i e' (by omega) q3
theorem xc_d12 {post : Int32 → SX → Prop} (h : ar_AB ke fi si us R) (hT : tr_T R le nx r H L ok) (hb : ∀ d n l, ok d n l → d < H → 1 ≤ l) (hP : tr_P R le r H F O) (hH : H ≤ 9) (hk : k < 32768)
    (K : ∀ pa' sl' A x B c1 c2, tr_Pa R le r pa' sl' H A x B → x.1 ≤ k → (∀ y ∈ B, k < y.1) → R x.2 = c1 ++ c2 → (∀ e ∈ c1, e.1 ≤ k) → (∀ e, (R x.2)[c1.length]? = some e → k < e.1) → post (nI (9 * x.2 + c1.length) - 1) (g, md, ll, un, nI H, da, nw, hd, ct, bf, th, lg, ws, il, ke, fi, si, us, le, nx, ro, pa', sl')) :
    ∀ j d pa sl A x B, d + j = H → tr_Pa R le r (upd pa d (nI x.2)) sl d A x B → x.1 ≤ k → (∀ y ∈ B, k < y.1) → ∀ f, j < f → wX_descend_12 post (nI k) g md ll un f (nI x.2) (nI d) da nw hd ct bf th lg ws il ke fi si us le nx ro pa sl := by
  intro j
  induction j with
  | zero =>
    intro d pa sl A x B hd hp hk1 hB f hf
    obtain ⟨f, rfl⟩ : ∃ m, f = m + 1 := ⟨f - 1, by omega⟩
    have hdH : d = H := by omega
    subst hdH
    have hxm : x ∈ tr_lv R le r d := by rw [tr_Pa_lv hp]; simp
    have tx := hT.1 d (Nat.le_refl _) x hxm
    have hx := tr_P_lt hP (Nat.le_refl _) hxm
    have e1 : (nI x.2).toNatClampNeg = x.2 := nI_clamp (by omega)
    have e2 : (nI d).toNatClampNeg = d := nI_clamp (by omega)
    refine ⟨vp_in_nI hx (by omega), br_f ?_ ?_⟩
    · rw [e1, tx.2.1 rfl]; decide
    · rw [e2, ar_c16 (by omega), ar_s16 (by omega)]
      refine ⟨vp_in_nI (by omega) (by omega), nm_e ⟨(R x.2).length + 1, ?_⟩⟩
      refine xc_d121 h hx hk (fun c q1 q2 q3 => ?_) (R x.2).length 0 (by omega) (fun i e z => by omega) _ (by omega)
      have hl : ((R x.2).take c).length = c := by rw [List.length_take]; omega
      have := K (upd pa d (nI x.2)) sl A x B ((R x.2).take c) ((R x.2).drop c) hp hk1 hB (List.take_append_drop c (R x.2)).symm (fun e he => ?_) (by rw [hl]; exact q3)
      · rw [hl] at this
        exact this
      · obtain ⟨i, hi, ee⟩ := List.mem_iff_getElem.mp he
        rw [List.getElem_take] at ee
        rw [hl] at hi
        exact q2 i e hi (by rw [← ee]; exact List.getElem?_eq_getElem _)
  | succ j ih =>
    intro d pa sl A x B hd hp hk1 hB f hf
    obtain ⟨f, rfl⟩ : ∃ m, f = m + 1 := ⟨f - 1, by omega⟩
    have hxm : x ∈ tr_lv R le r d := by rw [tr_Pa_lv hp]; simp
    have tx := hT.1 d (by omega) x hxm
    have hx := tr_P_lt hP (by omega) hxm
    have hl9 := (h.2.2.2 x.2 hx).2.1
    have hl1 := hb _ _ _ tx.2.2 (by omega)
    have e1 : (nI x.2).toNatClampNeg = x.2 := nI_clamp (by omega)
    have e2 : (nI d).toNatClampNeg = d := nI_clamp (by omega)
    refine ⟨vp_in_nI hx (by omega), br_t ?_ ?_⟩
    · rw [e1]; exact tx.1 (by omega)
    · refine ⟨(R x.2).length, xc_d24 h hx hk (fun c q0 q1 q2 q3 => ?_) ((R x.2).length - 1) 1 (by omega) (Nat.le_refl _) (fun i e z1 z2 => by omega) _ (by omega)⟩
      obtain ⟨c, rfl⟩ : ∃ c', c = c' + 1 := ⟨c - 1, by omega⟩
      obtain ⟨e, he⟩ := xc_some (l := R x.2) (c := c) (by omega)
      have ge := ar_get h hx he
      obtain ⟨A', B', x', p1, p2, p3, p4⟩ := tr_step hT hb (by omega) hp hk1 hB (j := c) (by omega) (fun i e z1 z2 z3 => q2 i e z1 (by omega) z3) q3 he
      unfold wX_descend_57
      rw [e2, ar_c16 (by omega), ar_s16 (by omega), nI_1, nI_pred, ar_c8 (by omega), ar_s8 (by omega)]
      refine ⟨vp_in_nI (by omega) (by omega), nm_e (nm_e ⟨vp_in_nI (by omega) (by omega), nm_e ?_⟩)⟩
      have e4 : 9 * nI x.2 + nI (c + 1) - 1 = nI (9 * x.2 + c) := by rw [n9, nI_add]; exact nI_pred _
      rw [e4, nI_clamp (by omega : 9 * x.2 + c < 2 ^ 31), ge.2.1]
      refine ⟨vp_in_nI (by omega) (by omega), nm_e ?_⟩
      rw [← p2] at p1 ⊢
      exact ih (d + 1) _ _ A' x' B' (by omega) p1 p3 p4 f (by omega)
theorem xc_descend {post : Int32 → SX → Prop} {t : Nat} (h : ar_AB ke fi si us R) (hT : tr_T R le nx r H L ok) (hb : ∀ d n l, ok d n l → d < H → 1 ≤ l) (hP : tr_P R le r H F O) (hH : H ≤ 9) (hk : k < 32768) (ht : t < 2) (hro : ro t = nI r)
    (K : ∀ pa' sl' A x B c1 c2, tr_Pa R le r pa' sl' H A x B → x.1 ≤ k → (∀ y ∈ B, k < y.1) → R x.2 = c1 ++ c2 → (∀ e ∈ c1, e.1 ≤ k) → (∀ e, (R x.2)[c1.length]? = some e → k < e.1) → post (nI (9 * x.2 + c1.length) - 1) (g, md, ll, un, nI H, da, nw, hd, ct, bf, th, lg, ws, il, ke, fi, si, us, le, nx, ro, pa', sl')) :
    wpX_descend post (g, md, ll, un, dp, da, nw, hd, ct, bf, th, lg, ws, il, ke, fi, si, us, le, nx, ro, pa, sl) (nI t) (nI k) := by
  have e2 : (nI t).toNatClampNeg = t := nI_clamp (by omega)
  unfold wpX_descend
  refine ⟨vp_in_nI ht (by omega), ?_⟩
  rw [e2, hro]
  refine nm_e ⟨H + 1, ?_⟩
  exact xc_d12 h hT hb hP hH hk K H 0 pa sl [] (0, r) [] (by omega) ⟨rfl, rfl, rfl, pk_us⟩ (Nat.zero_le _) (fun y hy => absurd hy List.not_mem_nil) _ (by omega)
end
end
section
/-! floor, after, ceiling -/
/-- cell holds the entry e of L = a ++ e :: b -/
def tr_At (R : Nat → List tr_C) (le : Nat → Int32) (r H cell : Nat) (a : List tr_C) (e : tr_C) (b : List tr_C) : Prop :=
  ∃ A x B c1 c2, tr_lv R le r H = A ++ x :: B ∧ R x.2 = c1 ++ e :: c2 ∧ cell = 9 * x.2 + c1.length ∧ a = tr_is R le A ++ c1 ∧ b = c2 ++ tr_is R le B
def tr_dn (R : Nat → List tr_C) (le : Nat → Int32) : Nat → List tr_N → List tr_N
  | 0, P => P
  | j + 1, P => tr_dn R le j ((tr_is R le P).map tr_nd)
theorem tr_dn_nil {R : Nat → List tr_C} {le : Nat → Int32} : ∀ {j : Nat}, tr_dn R le j [] = []
  | 0 => rfl
  | j + 1 => tr_dn_nil (j := j)
theorem n_slt {m : Nat} (h : m < 2 ^ 30) : nI m - 1 < nI m := by
  rw [Int32.lt_iff_toInt_lt]
  have := pk_sub_toInt (a := m) (b := 1) h (by omega)
  have e : nI m - 1 = nI m - nI 1 := rfl
  rw [e, this, nI_toInt (by omega)]
  omega
theorem tr_lastq {α : Type} {l : List α} (h : l ≠ []) : ∃ w c, l = w ++ [c] := by
  rcases List.eq_nil_or_concat l with z | ⟨w, c, z⟩
  · exact absurd z h
  · exact ⟨w, c, by rw [z]; simp⟩
section
variable {g md ll un dp : Int32} {da nw hd ct bf th lg ws il ke fi si us le nx ro pa sl : Nat → Int32}
variable {R : Nat → List tr_C} {n k r H d t : Nat} {L : List tr_C} {ok : Nat → Nat → Nat → Prop} {F O : List Nat}
theorem tr_At_L {cell : Nat} {a b : List tr_C} {e : tr_C} (hT : tr_T R le nx r H L ok) (h : tr_At R le r H cell a e b) : L = a ++ e :: b := by
  obtain ⟨A, x, B, c1, c2, h1, h2, h3, h4, h5⟩ := h
  rw [tr_lf_L hT h1 (c1 := c1) (c2 := e :: c2) h2, h4, h5]
  simp
theorem tr_At_lt {cell : Nat} {a b : List tr_C} {e : tr_C} (hP : tr_P R le r H F O) (h0 : ar_AB ke fi si us R) (h : tr_At R le r H cell a e b) : cell < 1170 := by
  obtain ⟨A, x, B, c1, c2, h1, h2, h3, h4, h5⟩ := h
  have hx := tr_P_lt hP (Nat.le_refl _) (x := x) (by rw [h1]; simp)
  have := (h0.2.2.2 x.2 hx).2.1
  rw [h2, List.length_append, List.length_cons] at this
  omega
theorem tr_At_ce {cell : Nat} {a b : List tr_C} {e : tr_C} (hP : tr_P R le r H F O) (h0 : ar_AB ke fi si us R) (h : tr_At R le r H cell a e b) : ar_ce ke fi si cell e := by
  obtain ⟨A, x, B, c1, c2, h1, h2, h3, h4, h5⟩ := h
  have hx := tr_P_lt hP (Nat.le_refl _) (x := x) (by rw [h1]; simp)
  rw [h3]
  exact ar_gp h0 hx h2
theorem xc_f92 {post : Int32 → SX → Prop} (h : ar_AB ke fi si us R) (hT : tr_T R le nx r H L ok) (hb : ∀ d n l, ok d n l → 0 < H → 1 ≤ l) (hP : tr_P R le r H F O) (hH : 0 < H) :
    ∀ j i Z y W, i + j = H → tr_lv R le r i = Z ++ y :: W → (∀ Z' y', tr_dn R le j (Z ++ [y]) = Z' ++ [y'] → post (nI (9 * y'.2 + (R y'.2).length - 1)) (g, md, ll, un, dp, da, nw, hd, ct, bf, th, lg, ws, il, ke, fi, si, us, le, nx, ro, pa, sl)) → ∀ f, j < f → wX_floor_92 post g md ll un dp da nw hd ct bf th lg ws il ke fi si us le nx ro pa sl f (nI y.2) := by
  intro j
  induction j with
  | zero =>
    intro i Z y W hi hl K f hf
    obtain ⟨f, rfl⟩ : ∃ m, f = m + 1 := ⟨f - 1, by omega⟩
    have hiH : i = H := by omega
    subst hiH
    have hym : y ∈ tr_lv R le r i := by rw [hl]; simp
    have ty := hT.1 i (Nat.le_refl _) y hym
    have hy := tr_P_lt hP (Nat.le_refl _) hym
    have hl1 := hb _ _ _ ty.2.2 hH
    have hu := h.2.2.2 y.2 hy
    have e1 : (nI y.2).toNatClampNeg = y.2 := nI_clamp (by omega)
    have i1 : vp_in (nI y.2) 130 := vp_in_nI hy (by omega)
    refine ⟨i1, br_f ?_ ⟨i1, br_f ?_ ⟨i1, ?_⟩⟩⟩
    · rw [e1, ty.2.1 rfl]; decide
    · rw [e1, hu.1]; exact nI_ne0 (by omega) (by omega)
    · rw [e1, hu.1, n9, nI_add, n_m1 (by omega)]
      exact K Z y rfl
  | succ j ih =>
    intro i Z y W hi hl K f hf
    obtain ⟨f, rfl⟩ : ∃ m, f = m + 1 := ⟨f - 1, by omega⟩
    have hym : y ∈ tr_lv R le r i := by rw [hl]; simp
    have ty := hT.1 i (by omega) y hym
    have hy := tr_P_lt hP (by omega) hym
    have hl1 := hb _ _ _ ty.2.2 hH
    have hu := h.2.2.2 y.2 hy
    have e1 : (nI y.2).toNatClampNeg = y.2 := nI_clamp (by omega)
    have i1 : vp_in (nI y.2) 130 := vp_in_nI hy (by omega)
    have hle : le y.2 = 0 := ty.1 (by omega)
    obtain ⟨w, c', hw⟩ := tr_lastq (l := R y.2) (by intro z; rw [z] at hl1; exact absurd hl1 (by decide))
    have hlen : (R y.2).length = w.length + 1 := by rw [hw]; simp
    have hg := ar_gp (b := []) h hy hw
    obtain ⟨w', c, hit, hc⟩ : ∃ w' c, tr_it R le y = w' ++ [c] ∧ c.2 = c'.2 := by
      rw [tr_it_in hle, hw]
      cases w with
      | nil => exact ⟨[], (y.1, c'.2), rfl, rfl⟩
      | cons w0 wt => exact ⟨(y.1, w0.2) :: wt, c', rfl, rfl⟩
    refine ⟨i1, br_t (by rw [e1]; exact hle) ⟨i1, ?_⟩⟩
    have e4 : 9 * nI y.2 + nI (w.length + 1) - 1 = nI (9 * y.2 + w.length) := by rw [n9, nI_add]; exact nI_pred _
    rw [e1, hu.1, hlen, e4, nI_clamp (by omega : 9 * y.2 + w.length < 2 ^ 31), hg.2.1, ← hc]
    refine ⟨vp_in_nI (by omega) (by omega), nm_e ?_⟩
    refine ih (i + 1) ((tr_is R le Z ++ w').map tr_nd) (tr_nd c) ((tr_is R le W).map tr_nd) (by omega) ?_ ?_ f (by omega)
    · rw [tr_lv_s, hl, tr_is_app, tr_is_cons, hit]
      simp
    · intro Z' y' hz
      refine K Z' y' ?_
      rw [← hz]
      show tr_dn R le j ((tr_is R le (Z ++ [y])).map tr_nd) = _
      rw [tr_is_app, tr_is_cons, tr_is_nil, hit]
      simp
theorem xc_f37 {post : Int32 → SX → Prop} (h : ar_AB ke fi si us R) (hT : tr_T R le nx r H L ok) (hb : ∀ d n l, ok d n l → 0 < H → 1 ≤ l) (hP : tr_P R le r H F O) (hH : H ≤ 9) :
    ∀ d A x B, d ≤ H → tr_Pa R le r pa sl d A x B → (tr_dn R le (H - d) A = [] → post (-1) (g, md, ll, un, dp, da, nw, hd, ct, bf, th, lg, ws, il, ke, fi, si, us, le, nx, ro, pa, sl)) → (∀ Z' y', tr_dn R le (H - d) A = Z' ++ [y'] → post (nI (9 * y'.2 + (R y'.2).length - 1)) (g, md, ll, un, dp, da, nw, hd, ct, bf, th, lg, ws, il, ke, fi, si, us, le, nx, ro, pa, sl)) → ∀ f, d < f → wX_floor_37 post g md ll un dp da nw hd ct bf th lg ws il ke fi si us le nx ro pa sl f (nI d - 1) := by
  intro d
  induction d with
  | zero =>
    intro A x B hd hp K0 K1 f hf
    obtain ⟨f, rfl⟩ : ∃ m, f = m + 1 := ⟨f - 1, by omega⟩
    obtain ⟨rfl, _, _, _⟩ := hp
    have z : nI 0 - 1 < 0 := by decide
    refine br_t z ?_
    refine br_f ?_ (K0 tr_dn_nil)
    decide
  | succ d ih =>
    intro A x B hd hp K0 K1 f hf
    obtain ⟨f, rfl⟩ : ∃ m, f = m + 1 := ⟨f - 1, by omega⟩
    obtain ⟨A', x', B', a, c, b, h1, h2, h3, rfl, rfl, rfl, h4⟩ := hp
    have hlv := tr_Pa_lv h1
    have hxm : x' ∈ tr_lv R le r d := by rw [hlv]; simp
    have hx := tr_P_lt hP (by omega) hxm
    have tx := hT.1 d (by omega) x' hxm
    have hl9 := (h.2.2.2 x'.2 hx).2.1
    have hla : a.length + 1 + b.length ≤ 9 := by
      have := tr_it_len (R := R) (le := le) (x := x')
      rw [h3, List.length_append, List.length_cons] at this
      omega
    have e1 : (nI d).toNatClampNeg = d := nI_clamp (by omega)
    have i1 : vp_in (nI d) 10 := vp_in_nI (by omega) (by omega)
    rw [nI_pred]
    refine br_f (nI_pos (by omega)) ⟨i1, ?_⟩
    rw [e1, h2]
    have eH : H - d = (H - (d + 1)) + 1 := by omega
    cases a with
    | nil =>
      refine br_t rfl ?_
      intro y ey
      rw [ey, ← Int32.sub_eq_add_neg]
      refine ih A' x' B' (by omega) h1 ?_ ?_ f (by omega)
      · rw [eH]
        intro z
        refine K0 ?_
        rw [List.append_nil]
        exact z
      · rw [eH]
        intro Z' y' z
        refine K1 Z' y' ?_
        rw [List.append_nil]
        exact z
    | cons a0 at' =>
      refine br_f ?_ ?_
      · exact nI_ne0 (by simp) (by omega)
      · obtain ⟨a1, cl, ha⟩ := tr_lastq (l := a0 :: at') (by simp)
        rw [ha] at h2 h3 hla K0 K1
        have h3' : tr_it R le x' = a1 ++ ([cl] ++ (c :: b)) := by rw [h3]; simp
        have hl2 := tr_lv_dn hlv h3'
        unfold wX_floor_58
        rw [e1, h2, tr_Pa_x h1]
        refine br_t (nI_pos' (by omega)) ⟨i1, i1, ?_⟩
        have hlen2 : (a1 ++ [cl]).length = a1.length + 1 := by simp
        have e4 : 9 * nI x'.2 + nI (a1 ++ [cl]).length - 1 = nI (9 * x'.2 + a1.length) := by rw [hlen2, n9, nI_add]; exact nI_pred _
        have hraw : ∃ cl', (R x'.2)[a1.length]? = some cl' ∧ cl'.2 = cl.2 := by
          have hg : (tr_it R le x')[a1.length]? = some cl := by rw [h3']; exact tr_gm
          rw [tr_it_in (tx.1 (by omega))] at hg
          cases a1 with
          | nil =>
            cases hR : R x'.2 with
            | nil => rw [hR] at hg; simp [tr_fx] at hg
            | cons f fs =>
              rw [hR] at hg
              have q : (x'.1, f.2) = cl := Option.some.inj hg
              exact ⟨f, rfl, by rw [← q]⟩
          | cons u us =>
            rw [List.length_cons, tr_fx_g] at hg
            exact ⟨cl, hg, rfl⟩
        obtain ⟨cl', hc1, hc2⟩ := hraw
        have ge := ar_get h hx hc1
        rw [hlen2] at hla
        rw [e4, nI_clamp (by omega : 9 * x'.2 + a1.length < 2 ^ 31), ge.2.1, hc2]
        refine ⟨vp_in_nI (by omega) (by omega), nm_e ⟨H - (d + 1) + 1, ?_⟩⟩
        refine xc_f92 h hT hb hP (by omega) (H - (d + 1)) (d + 1) ((tr_is R le A' ++ a1).map tr_nd) (tr_nd cl) ((c :: b ++ tr_is R le B').map tr_nd) (by omega) ?_ ?_ _ (by omega)
        · rw [hl2]; simp
        · intro Z' y' hz
          refine K1 Z' y' ?_
          rw [← hz]
          simp
theorem xc_floor {post : Int32 → SX → Prop} (h : ar_AB ke fi si us R) (hT : tr_T R le nx r H L ok) (hb : ∀ d n l, ok d n l → 0 < H → 1 ≤ l) (hP : tr_P R le r H F O) (hH : H ≤ 9) (hk : k < 32768) (ht : t < 2) (hro : ro t = nI r)
    (K0 : (∀ e ∈ L, k < e.1) → ∀ dp' pa' sl', post (-1) (g, md, ll, un, dp', da, nw, hd, ct, bf, th, lg, ws, il, ke, fi, si, us, le, nx, ro, pa', sl'))
    (K1 : ∀ cell a e b, tr_At R le r H cell a e b → e.1 ≤ k → (∀ e' ∈ b, k < e'.1) → ∀ dp' pa' sl', post (nI cell) (g, md, ll, un, dp', da, nw, hd, ct, bf, th, lg, ws, il, ke, fi, si, us, le, nx, ro, pa', sl')) : wpX_floor post (g, md, ll, un, dp, da, nw, hd, ct, bf, th, lg, ws, il, ke, fi, si, us, le, nx, ro, pa, sl) (nI t) (nI k) := by
  unfold wpX_floor
  refine xc_descend h hT (fun d n l o z => hb d n l o (by omega)) hP hH hk ht hro ?_
  intro pa' sl' A x B c1 c2 hp hk1 hB hR hc1 hc2
  have hlv := tr_Pa_lv hp
  obtain ⟨o1, o2, o3, o4, o5⟩ := tr_lf_ord hT hlv hk1 hB hR hc2
  have hxm : x ∈ tr_lv R le r H := by rw [hlv]; simp
  have hx := tr_P_lt hP (Nat.le_refl _) hxm
  have hl9 := (h.2.2.2 x.2 hx).2.1
  rw [hR, List.length_append] at hl9
  have e1 : (nI H).toNatClampNeg = H := nI_clamp (by omega)
  refine ⟨vp_in_nI (by omega) (by omega), ?_⟩
  rw [e1, tr_Pa_x hp]
  refine nm_e ?_
  cases hc : c1 with
  | nil =>
    subst hc
    rw [List.length_nil, Nat.add_zero, n9]
    refine br_t (n_slt (by omega)) (nm_e ⟨H + 1, ?_⟩)
    have hz : H - H = 0 := by omega
    refine xc_f37 h hT hb hP hH H A x B (Nat.le_refl _) hp ?_ ?_ _ (by omega)
    · rw [hz]
      intro hA
      have hA' : A = [] := hA
      refine K0 ?_ _ _ _
      intro e he
      rw [tr_lf_L hT hlv hR, hA'] at he
      have he' : e ∈ c2 ++ tr_is R le B := he
      rcases List.mem_append.mp he' with q | q
      · exact o3 e q
      · exact o5 e q
    · rw [hz]
      intro Z' y' hA
      have hA' : A = Z' ++ [y'] := hA
      have hym : y' ∈ tr_lv R le r H := by rw [hlv, hA']; simp
      have ty := hT.1 H (Nat.le_refl _) y' hym
      have hH0 : 0 < H := by
        rcases Nat.eq_zero_or_pos H with z | z
        · exfalso
          have : (tr_lv R le r H).length = 1 := by rw [z]; rfl
          rw [hlv, hA'] at this
          simp at this
          omega
        · exact z
      have hl1 := hb _ _ _ ty.2.2 hH0
      obtain ⟨w, e, hw⟩ := tr_lastq (l := R y'.2) (by intro z; rw [z] at hl1; exact absurd hl1 (by decide))
      have hlen : (R y'.2).length = w.length + 1 := by rw [hw]; simp
      rw [hlen]
      have e5 : 9 * y'.2 + (w.length + 1) - 1 = 9 * y'.2 + w.length := by omega
      rw [e5]
      have hey : e ∈ R y'.2 := by rw [hw]; simp
      have heA : e ∈ tr_is R le A := by
        rw [hA', tr_is_app, tr_is_cons, tr_it_lf (ty.2.1 rfl)]
        simp [hey]
      refine K1 _ (tr_is R le Z' ++ w) e (R x.2 ++ tr_is R le B) ⟨Z', y', x :: B, w, [], ?_, hw, rfl, rfl, ?_⟩ ?_ ?_ _ _ _
      · rw [hlv, hA']; simp
      · have tx := hT.1 H (Nat.le_refl _) x hxm
        rw [tr_is_cons, tr_it_lf (tx.2.1 rfl)]
        rfl
      · have := o2 e heA
        omega
      · intro e' he'
        rcases List.mem_append.mp he' with q | q
        · rw [hR] at q; exact o3 e' q
        · exact o5 e' q
  | cons c0 ct =>
    obtain ⟨w, e, hw⟩ := tr_lastq (l := c1) (by rw [hc]; simp)
    have hlen : (c0 :: ct).length = w.length + 1 := by rw [← hc, hw]; simp
    have hlen' : c1.length = w.length + 1 := by rw [hw]; simp
    rw [hlen, n9]
    have e5 : nI (9 * x.2 + (w.length + 1)) - 1 = nI (9 * x.2 + w.length) := nI_pred _
    rw [e5]
    refine br_f (nI_nlt (by omega) (by omega)) ?_
    refine K1 _ (tr_is R le A ++ w) e (c2 ++ tr_is R le B) ⟨A, x, B, w, c2, hlv, ?_, rfl, rfl, rfl⟩ ?_ ?_ _ _ _
    · rw [hR, hw]; simp
    · exact hc1 e (by rw [hw]; simp)
    · intro e' he'
      rcases List.mem_append.mp he' with q | q
      · exact o3 e' q
      · exact o5 e' q
theorem xc_after {post : Int32 → Prop} {cell : Nat} {a b : List tr_C} {e : tr_C} (h : ar_AB ke fi si us R) (hT : tr_T R le nx r H L ok) (hb : ∀ d n l, ok d n l → 0 < H → 1 ≤ l) (hP : tr_P R le r H F O) (hA : tr_At R le r H cell a e b)
    (K0 : b = [] → post (-1)) (K1 : ∀ e' b' cell', b = e' :: b' → tr_At R le r H cell' (a ++ [e]) e' b' → post (nI cell')) : wpX_after post (g, md, ll, un, dp, da, nw, hd, ct, bf, th, lg, ws, il, ke, fi, si, us, le, nx, ro, pa, sl) (nI cell) := by
  obtain ⟨A, x, B, c1, c2, h1, h2, h3, h4, h5⟩ := hA
  have hxm : x ∈ tr_lv R le r H := by rw [h1]; simp
  have hx := tr_P_lt hP (Nat.le_refl _) hxm
  have tx := hT.1 H (Nat.le_refl _) x hxm
  have hu := h.2.2.2 x.2 hx
  have hlen : (R x.2).length = c1.length + 1 + c2.length := by rw [h2]; simp; omega
  have hdv : nI cell / 9 = nI x.2 := by
    have e : nI cell / 9 = nI (cell / 9) := pk_div (d := 9) (by omega) (by omega) (by omega)
    rw [e]
    exact congrArg nI (by omega)
  have e1 : (nI x.2).toNatClampNeg = x.2 := nI_clamp (by omega)
  have i1 : vp_in (nI x.2) 130 := vp_in_nI hx (by omega)
  unfold wpX_after
  refine ⟨by decide, ?_⟩
  rw [hdv]
  refine nm_e ⟨i1, ?_⟩
  rw [e1, hu.1, n9, nI_add, nI_1]
  cases hc2 : c2 with
  | cons f fs =>
    subst hc2
    have l2 : (f :: fs).length = fs.length + 1 := rfl
    refine br_f (nI_ge (by omega) (by omega)) ?_
    refine K1 f (fs ++ tr_is R le B) (cell + 1) (by rw [h5]; rfl) ⟨A, x, B, c1 ++ [e], fs, h1, ?_, ?_, ?_, rfl⟩
    · rw [h2]; simp
    · rw [h3]; simp; omega
    · rw [h4]; simp
  | nil =>
    subst hc2
    refine br_t (nI_le (by rw [hlen, h3, List.length_nil]; omega) (by omega)) ⟨i1, ?_⟩
    have hch := hT.2.2.2
    rw [h1, tr_i_app, tr_ce_app] at hch
    have hnx : nx x.2 = tr_hd (-1) (tr_i B) := hch.2.1
    rw [hnx]
    cases hB : B with
    | nil =>
      subst hB
      refine br_t n_neg (K0 ?_)
      rw [h5]; rfl
    | cons y Y =>
      subst hB
      have hym : y ∈ tr_lv R le r H := by rw [h1]; simp
      have hy := tr_P_lt hP (Nat.le_refl _) hym
      have ty := hT.1 H (Nat.le_refl _) y hym
      have hH0 : 0 < H := by
        rcases Nat.eq_zero_or_pos H with z | z
        · exfalso
          have : (tr_lv R le r H).length = 1 := by rw [z]; rfl
          rw [h1] at this
          simp at this
          omega
        · exact z
      have hl1 := hb _ _ _ ty.2.2 hH0
      have hu2 := h.2.2.2 y.2 hy
      have e2 : (nI y.2).toNatClampNeg = y.2 := nI_clamp (by omega)
      show (nI y.2 < 0 → _) ∧ (¬ nI y.2 < 0 → vp_in (nI x.2) 130 ∧ vp_in (nI y.2) 130 ∧ (us (nI y.2).toNatClampNeg = 0 → _) ∧ (¬ us (nI y.2).toNatClampNeg = 0 → vp_in (nI x.2) 130 ∧ post (9 * nI y.2)))
      rw [e2, hu2.1, n9]
      refine br_f (nI_pos (by omega)) ⟨i1, vp_in_nI hy (by omega), br_f (nI_ne0 (by omega) (by omega)) ⟨i1, ?_⟩⟩
      cases hR : R y.2 with
      | nil => rw [hR] at hl1; exact absurd hl1 (by decide)
      | cons f fs =>
        refine K1 f (fs ++ tr_is R le Y) (9 * y.2) ?_ ⟨A ++ [x], y, Y, [], fs, ?_, hR, rfl, ?_, rfl⟩
        · rw [h5, tr_is_cons, tr_it_lf (ty.2.1 rfl), hR]; rfl
        · rw [h1]; simp
        · rw [h4, tr_is_app, tr_is_cons, tr_is_nil, tr_it_lf (tx.2.1 rfl), h2]; simp
theorem xc_c39 {post : Int32 → SX → Prop} (h : ar_AB ke fi si us R) (hT : tr_T R le nx r H L ok) (hb : ∀ d n l, ok d n l → 0 < H → 1 ≤ l) (hP : tr_P R le r H F O)
    (K0 : L = [] → post (-1) (g, md, ll, un, dp, da, nw, hd, ct, bf, th, lg, ws, il, ke, fi, si, us, le, nx, ro, pa, sl)) (K1 : ∀ cell e b, tr_At R le r H cell [] e b → post (nI cell) (g, md, ll, un, dp, da, nw, hd, ct, bf, th, lg, ws, il, ke, fi, si, us, le, nx, ro, pa, sl)) :
    ∀ j i y W, i + j = H → tr_lv R le r i = y :: W → ∀ f, j < f → wX_ceiling_39 post g md ll un dp da nw hd ct bf th lg ws il ke fi si us le nx ro pa sl f (nI y.2) := by
  intro j
  induction j with
  | zero =>
    intro i y W hi hl f hf
    obtain ⟨f, rfl⟩ : ∃ m, f = m + 1 := ⟨f - 1, by omega⟩
    have hiH : i = H := by omega
    subst hiH
    have hym : y ∈ tr_lv R le r i := by rw [hl]; simp
    have ty := hT.1 i (Nat.le_refl _) y hym
    have hy := tr_P_lt hP (Nat.le_refl _) hym
    have hu := h.2.2.2 y.2 hy
    have e1 : (nI y.2).toNatClampNeg = y.2 := nI_clamp (by omega)
    have i1 : vp_in (nI y.2) 130 := vp_in_nI hy (by omega)
    refine ⟨i1, br_f (by rw [e1, ty.2.1 rfl]; decide) ⟨i1, ?_⟩⟩
    rw [e1, hu.1, n9]
    cases hR : R y.2 with
    | nil =>
      refine br_t rfl (K0 ?_)
      have hi0 : i = 0 := by
        rcases Nat.eq_zero_or_pos i with z | z
        · exact z
        · have := hb _ _ _ ty.2.2 z
          rw [hR] at this
          exact absurd this (by decide)
      have hW : W = [] := by
        rw [hi0] at hl
        have hl' : [((0, r) : tr_N)] = y :: W := hl
        exact (List.cons.inj hl').2.symm
      rw [hT.2.1, hl, hW, tr_is_cons, tr_is_nil, tr_it_lf (ty.2.1 rfl), hR]
      rfl
    | cons f0 fs =>
      refine br_f (nI_ne0 (by simp) (by rw [hR] at hu; omega)) ?_
      exact K1 (9 * y.2) f0 (fs ++ tr_is R le W) ⟨[], y, W, [], fs, hl, hR, rfl, rfl, rfl⟩
  | succ j ih =>
    intro i y W hi hl f hf
    obtain ⟨f, rfl⟩ : ∃ m, f = m + 1 := ⟨f - 1, by omega⟩
    have hym : y ∈ tr_lv R le r i := by rw [hl]; simp
    have ty := hT.1 i (by omega) y hym
    have hy := tr_P_lt hP (by omega) hym
    have hu := h.2.2.2 y.2 hy
    have e1 : (nI y.2).toNatClampNeg = y.2 := nI_clamp (by omega)
    have i1 : vp_in (nI y.2) 130 := vp_in_nI hy (by omega)
    have hl1 := hb _ _ _ ty.2.2 (by omega)
    cases hR : R y.2 with
    | nil => rw [hR] at hl1; exact absurd hl1 (by decide)
    | cons f0 fs =>
      have hg := ar_gp (a := []) h hy hR
      rw [List.length_nil, Nat.add_zero] at hg
      refine ⟨i1, br_t (by rw [e1]; exact ty.1 (by omega)) ?_⟩
      rw [n9, nI_clamp (by omega : 9 * y.2 < 2 ^ 31), hg.2.1]
      refine ⟨vp_in_nI (by omega) (by omega), nm_e ?_⟩
      refine ih (i + 1) (y.1, f0.2.1) ((fs ++ tr_is R le W).map tr_nd) (by omega) ?_ f (by omega)
      rw [tr_lv_s, hl, tr_is_cons, tr_it_in (ty.1 (by omega)), hR]
      rfl
theorem xc_ceiling {post : Int32 → SX → Prop} (h : ar_AB ke fi si us R) (hT : tr_T R le nx r H L ok) (hb : ∀ d n l, ok d n l → 0 < H → 1 ≤ l) (hP : tr_P R le r H F O) (hH : H ≤ 9) (hk : k < 32768) (ht : t < 2) (hro : ro t = nI r)
    (K0 : (∀ e ∈ L, e.1 < k) → ∀ dp' pa' sl', post (-1) (g, md, ll, un, dp', da, nw, hd, ct, bf, th, lg, ws, il, ke, fi, si, us, le, nx, ro, pa', sl'))
    (K1 : ∀ cell a e b, tr_At R le r H cell a e b → k ≤ e.1 → (∀ e' ∈ a, e'.1 < k) → ∀ dp' pa' sl', post (nI cell) (g, md, ll, un, dp', da, nw, hd, ct, bf, th, lg, ws, il, ke, fi, si, us, le, nx, ro, pa', sl')) : wpX_ceiling post (g, md, ll, un, dp, da, nw, hd, ct, bf, th, lg, ws, il, ke, fi, si, us, le, nx, ro, pa, sl) (nI t) (nI k) := by
  have e2 : (nI t).toNatClampNeg = t := nI_clamp (by omega)
  unfold wpX_ceiling
  refine xc_floor h hT hb hP hH hk ht hro ?_ ?_
  · intro hall dp' pa' sl'
    refine br_t n_neg ⟨vp_in_nI ht (by omega), ?_⟩
    rw [e2, hro]
    refine nm_e ⟨H + 1, ?_⟩
    refine xc_c39 (L := L) h hT hb hP ?_ ?_ H 0 (0, r) [] (by omega) rfl _ (by omega)
    · intro hL
      refine K0 ?_ _ _ _
      rw [hL]
      intro e he
      exact absurd he List.not_mem_nil
    · intro cell e b hA
      have hL := tr_At_L hT hA
      exact K1 cell [] e b hA (Nat.le_of_lt (hall e (by rw [hL]; simp))) (fun e' he' => absurd he' List.not_mem_nil) _ _ _
  · intro cell a e b hA hek hb2 dp' pa' sl'
    have hc := tr_At_lt hP h hA
    have hce := tr_At_ce hP h hA
    have hL := tr_At_L hT hA
    have hs := tr_srt hT
    rw [hL, List.map_append, List.pairwise_append] at hs
    have hlt : ∀ e' ∈ a, e'.1 < e.1 := fun e' he' => hs.2.2 _ (List.mem_map_of_mem (f := Prod.fst) he') _ (by simp)
    refine br_f (nI_pos (by omega)) ⟨vp_in_nI hc (by omega), ?_⟩
    rw [nI_clamp (by omega : cell < 2 ^ 31), hce.1]
    refine pk_eq e.1 k (fun z => ?_) (fun z => ?_) rfl rfl (by have := hce.2.2.2.1; omega) (by omega)
    · exact K1 cell a e b hA (by omega) (fun e' he' => by have := hlt e' he'; omega) _ _ _
    · refine xc_after h hT hb hP hA ?_ ?_
      · intro hbn
        refine K0 ?_ _ _ _
        rw [hL, hbn]
        intro e' he'
        rcases List.mem_append.mp he' with q | q
        · have := hlt e' q; omega
        · rw [List.mem_singleton] at q; rw [q]; omega
      · intro e' b' cell' hb' hA'
        refine K1 cell' (a ++ [e]) e' b' hA' (Nat.le_of_lt (hb2 e' (by rw [hb']; simp))) ?_ _ _ _
        intro f hf
        rcases List.mem_append.mp hf with q | q
        · have := hlt f q; omega
        · rw [List.mem_singleton] at q; rw [q]; omega
end
end
section
/-! insert -/
def ts_G (un : Int32) (ke fi si us le nx : Nat → Int32) (R : Nat → List tr_C) (r H : Nat) (L : List tr_C) (ok : Nat → Nat → Nat → Prop) (F O : List Nat) : Prop :=
  ar_AB ke fi si us R ∧ tr_T R le nx r H L ok ∧ tr_P R le r H F O ∧ tr_fl nx un F ∧ ar_SH nx ∧ vp_nar .short un = un
section
variable {g md ll un dp : Int32} {da nw hd ct bf th lg ws il ke fi si us le nx ro pa sl : Nat → Int32}
variable {R : Nat → List tr_C} {n k p s r H d t : Nat} {L : List tr_C} {ok ok' : Nat → Nat → Nat → Prop} {F O : List Nat}
theorem tr_T_ok (hT : tr_T R le nx r H L ok) (h : ∀ d, d ≤ H → ∀ y ∈ tr_lv R le r d, ok d y.2 (R y.2).length → ok' d y.2 (R y.2).length) : tr_T R le nx r H L ok' := by
  refine ⟨fun d hd y hy => ?_, hT.2⟩
  have p := hT.1 d hd y hy
  exact ⟨p.1, p.2.1, h d hd y hy p.2.2⟩
theorem tr_cap {m : Nat} (hT : tr_T R le nx r H L (tr_oi H m)) (hP : tr_P R le r H F O) (hcap : L.length + 3 * O.length ≤ 380) : ∃ q g F', F = q :: g :: F' := by
  have h1 := tr_cnt hT tr_oi_b
  have h2 := tr_P_len hP
  match F, h2 with
  | [], h2 => simp only [List.length_nil] at h2; omega
  | [q], h2 => simp only [List.length_cons, List.length_nil] at h2; omega
  | q :: g :: F', _ => exact ⟨q, g, F', rfl⟩
theorem tr_nine {l : List tr_C} (h : l.length = 9) : ∃ w1 k w2, l = w1 ++ k :: w2 ∧ w1.length = 5 ∧ w2.length = 3 := by
  obtain ⟨a, c, b, e, h2⟩ := tr_at (l := l) (i := 5) (by omega)
  refine ⟨a, c, b, e, h2, ?_⟩
  rw [e, List.length_append, List.length_cons] at h
  omega
theorem tr_le01 (hT : tr_T R le nx r H L ok) (hd : d ≤ H) {y : tr_N} (hy : y ∈ tr_lv R le r d) : le y.2 = 0 ∨ le y.2 = 1 := by
  have p := hT.1 d hd y hy
  rcases Nat.lt_or_ge d H with z | z
  · exact Or.inl (p.1 z)
  · exact Or.inr (p.2.1 (by omega))
theorem xd_ins_l {post : SX → Prop} (ht : t < 2) (hcap : L.length + 3 * O.length ≤ 380) : ∀ (d : Nat) (un : Int32) (ke fi si us le nx : Nat → Int32) (R : Nat → List tr_C) (F : List Nat) (A B : List tr_N) (x : tr_N),
    ts_G un ke fi si us le nx R r H L (tr_oi H x.2) F O → tr_Pa R le r pa sl d A x B → d ≤ H → d ≤ 9 → ro t = nI r →
    (∀ un' ke' fi' si' us' le' nx' ro' R' r' H' F', ts_G un' ke' fi' si' us' le' nx' R' r' H' L (tr_ok H') F' O → (∀ n ∈ O, R' n = R n ∧ le' n = le n ∧ nx' n = nx n) → ro' t = nI r' → (∀ j, j ≠ t → ro' j = ro j) →
      post (g, md, ll, un', dp, da, nw, hd, ct, bf, th, lg, ws, il, ke', fi', si', us', le', nx', ro', pa, sl)) →
    ∀ f, d < f → wX_insert_51 post (nI t) f (nI d) g md ll un dp da nw hd ct bf th lg ws il ke fi si us le nx ro pa sl := by
  intro d
  induction d with
  | zero =>
    intro un ke fi si us le nx R F A B x G hp hd hd9 hro K f hf
    obtain ⟨f, rfl⟩ : ∃ m, f = m + 1 := ⟨f - 1, by omega⟩
    obtain ⟨hAB, hT, hP, hfl, hnx, hun⟩ := G
    obtain ⟨rfl, rfl, rfl, hpa⟩ := hp
    have hxm : ((0, r) : tr_N) ∈ tr_lv R le r 0 := by show _ ∈ [((0, r) : tr_N)]; simp
    have hr : r < 130 := tr_P_lt hP (Nat.zero_le _) hxm
    have hu := hAB.2.2.2 r hr
    have e0 : (nI 0).toNatClampNeg = 0 := nI_clamp (by omega)
    have e1 : (nI r).toNatClampNeg = r := nI_clamp (by omega)
    have i0 : vp_in (nI 0) 10 := vp_in_nI (by omega) (by omega)
    have i1 : vp_in (nI r) 130 := vp_in_nI hr (by omega)
    refine ⟨i0, ?_⟩
    rw [e0, hpa, e1, hu.1]
    refine ⟨i1, ?_⟩
    refine pk_eq (R r).length 9 (fun z => ?_) (fun z => ?_) rfl rfl (by omega) (by omega)
    · obtain ⟨q, g2, F', hF⟩ := tr_cap hT hP hcap
      subst hF
      obtain ⟨w1, k, w2, hw, h5, h3⟩ := tr_nine z
      have hun' : un = nI q := hfl.1
      subst hun'
      have hg2 : nx q = nI g2 := hfl.2.1
      have hq : q < 130 := tr_P_ltF hP (by simp)
      have hg : g2 < 130 := tr_P_ltF hP (by simp)
      have drq : r ≠ q := fun z => tr_P_nF hP (Nat.zero_le _) hxm (by show r ∈ _; rw [z]; simp)
      have drg : r ≠ g2 := fun z => tr_P_nF hP (Nat.zero_le _) hxm (by show r ∈ _; rw [z]; simp)
      have cF := tr_P_le hP
      have dqg : q ≠ g2 := by
        intro z
        have := cF g2
        rw [z] at this
        simp only [List.count_cons_self] at this
        omega
      refine ⟨i0, xb_split hAB hr hq drq (tr_le01 hT (Nat.zero_le _) hxm) hnx hw h5 (by rw [List.length_cons, h3]) ?_⟩
      intro ke' fi' si' us' nx' g1 s1 m1 m2
      rw [hg2]
      refine br_t rfl ?_
      have Rq : tr_ru (tr_ru R r w1) q (k :: w2) q = k :: w2 := tr_ru_s
      refine xb_grow (r := r) g1 ht hg hq hr dqg hro Rq ?_
      intro k2 f2 s2 u2 g3
      have m3 : ∀ n, n ≠ r → n ≠ q → n ≠ g2 → upd nx' g2 (-1) n = nx n := fun n a1 a2 a3 => by rw [pk_un a3]; exact m1 n a1 a2
      have TG := tr_grow (nx' := upd nx' g2 (-1)) hT hP hw h5 h3 m3 (fun zl => by
        have := m2 zl
        rw [pk_un dqg, pk_un drg]
        exact this)
      obtain ⟨t1, t2, t3⟩ := TG
      have hx2 : nx' g2 = nx g2 := m1 g2 (fun z => drg z.symm) (fun z => dqg z.symm)
      refine K _ _ _ _ _ _ _ _ _ g2 (H + 1) F' ⟨g3, t1, t2, ?_, ar_SH_u s1 ar_m16, ?_⟩ t3 pk_us (fun j hj => pk_un hj)
      · rw [hx2]
        refine tr_fl_cg (fun n hn => ?_) hfl.2.2
        have c1 := List.count_pos_iff.mpr hn
        have c2 := cF n
        refine m3 n (fun z => ?_) (fun z => ?_) (fun z => ?_)
        · exact tr_P_nF hP (Nat.zero_le _) hxm (by show r ∈ _; rw [← z]; simp [hn])
        · rw [← z] at c2
          simp only [List.count_cons_self] at c2
          rw [List.count_cons] at c2
          omega
        · rw [← z] at c2
          rw [List.count_cons] at c2
          simp only [List.count_cons_self] at c2
          omega
      · rw [hx2]; exact hnx g2
    · refine K _ _ _ _ _ _ _ _ R r H F ⟨hAB, ?_, hP, hfl, hnx, hun⟩ (fun n _ => ⟨rfl, rfl, rfl⟩) hro (fun j hj => rfl)
      refine tr_T_ok hT (fun d hd y hy o => ?_)
      refine ⟨?_, o.2.2⟩
      by_cases hyr : y.2 = r
      · have := hu.2.1
        rw [hyr]
        omega
      · exact o.1 hyr
  | succ d ih =>
    intro un ke fi si us le nx R F A B x G hp hd hd9 hro K f hf
    obtain ⟨f, rfl⟩ : ∃ m, f = m + 1 := ⟨f - 1, by omega⟩
    obtain ⟨hAB, hT, hP, hfl, hnx, hun⟩ := G
    have hlv := tr_Pa_lv hp
    have hpx := tr_Pa_x hp
    have hxm : x ∈ tr_lv R le r (d + 1) := by rw [hlv]; simp
    have hx := tr_P_lt hP hd hxm
    have hu := hAB.2.2.2 x.2 hx
    have e0 : (nI (d + 1)).toNatClampNeg = d + 1 := nI_clamp (by omega)
    have e1 : (nI x.2).toNatClampNeg = x.2 := nI_clamp (by omega)
    have i0 : vp_in (nI (d + 1)) 10 := vp_in_nI (by omega) (by omega)
    have i1 : vp_in (nI x.2) 130 := vp_in_nI hx (by omega)
    refine ⟨i0, ?_⟩
    rw [e0, hpx, e1, hu.1]
    refine ⟨i1, ?_⟩
    refine pk_eq (R x.2).length 9 (fun z => ?_) (fun z => ?_) rfl rfl (by omega) (by omega)
    · obtain ⟨q, g2, F', hF⟩ := tr_cap hT hP hcap
      subst hF
      obtain ⟨w1, k, w2, hw, h5, h3⟩ := tr_nine z
      obtain ⟨A', x', B', a, c, b, hp', hsl, hit, rfl, rfl, rfl, hpa⟩ := hp
      have hun' : un = nI q := hfl.1
      subst hun'
      have hlv' := tr_Pa_lv hp'
      have hxm' : x' ∈ tr_lv R le r d := by rw [hlv']; simp
      have hx' := tr_P_lt hP (by omega) hxm'
      have tx' := hT.1 d (by omega) x' hxm'
      have hq : q < 130 := tr_P_ltF hP (by simp)
      have dxq : (tr_nd c).2 ≠ q := fun z => tr_P_nF hP hd hxm (by rw [z]; simp)
      have dxq' : x'.2 ≠ q := fun z => tr_P_nF hP (by omega) hxm' (by rw [z]; simp)
      have dxx : x'.2 ≠ (tr_nd c).2 := tr_P_dif hP (d := d) (e := d + 1) (by omega) hd (by omega) hxm' hxm
      obtain ⟨u, hu1, hu2, hu3⟩ := tr_fx_spl (lo := x'.1) (p := a ++ [c]) (b := b) (l := R x'.2) (by rw [← tr_it_in (tx'.1 (by omega)), hit]; simp) (by simp)
      have hul : u.length = a.length + 1 := by rw [hu2]; simp
      have hlx' : (R x'.2).length ≤ 8 := tx'.2.2.1 dxx
      rw [hu1, List.length_append] at hlx'
      have cF := tr_P_le hP
      refine ⟨i0, xb_split hAB hx hq dxq (tr_le01 hT hd hxm) hnx hw h5 (by rw [List.length_cons, h3]) ?_⟩
      intro ke' fi' si' us' nx' g1 s1 m1 m2
      refine br_f (nI_ne0 (by omega) (by omega)) ?_
      intro y ey
      have ey' : y = nI d := by rw [ey]; exact pk_m1 d
      subst ey'
      have e2 : (nI d).toNatClampNeg = d := nI_clamp (by omega)
      have i2 : vp_in (nI d) 10 := vp_in_nI (by omega) (by omega)
      refine ⟨i2, ?_⟩
      rw [e2, tr_Pa_x hp', hsl]
      refine nm_e ⟨i2, ?_⟩
      have R1x : tr_ru (tr_ru R (tr_nd c).2 w1) q (k :: w2) x'.2 = u ++ b := by rw [tr_ru_n dxq', tr_ru_n dxx]; exact hu1
      have R1q : tr_ru (tr_ru R (tr_nd c).2 w1) q (k :: w2) q = k :: w2 := tr_ru_s
      have hux := (g1.2.2.2 x'.2 hx').1
      rw [R1x, List.length_append] at hux
      have gq := ar_gp (a := []) g1 hq R1q
      rw [List.length_nil, Nat.add_zero] at gq
      have g2' := ar_ins (e := (k.1, q, 0)) g1 hx' R1x hlx' gq.2.2.2.1 (by show q < 32768; omega) (by show 0 < 128; omega)
      rw [nI_1, ← hul]
      refine xa_open hx' hux hlx' (by omega) g1.1 g1.2.1 g1.2.2.1 ?_
      have e6 : 9 * nI q = nI (9 * q) := n9 q
      refine ⟨i2, by rw [e6]; exact vp_in_nI (by omega) (by omega), ?_⟩
      have e7 : 9 * nI x'.2 + nI a.length + 1 = nI (9 * x'.2 + u.length) := by rw [n9, nI_add, nI_1]; exact congrArg nI (by omega)
      have r1 : ar_sr ke' (9 * x'.2 + u.length) (9 * x'.2 + (u.length + b.length)) (9 * q) = nI k.1 := by
        unfold ar_sr; rw [if_neg (by omega)]; exact gq.1
      rw [hsl, e7, e6, nI_clamp (by omega : 9 * q < 2 ^ 31), r1]
      refine xa_fill (k := k.1) (p := q) (s := 0) (by omega) gq.2.2.2.1 (by omega) (by omega) ?_
      obtain ⟨t1, t2, t3, t4⟩ := tr_split (nx' := nx') hT hP (e := d) (by omega) hlv' hit hw h5 h3 hu1 hu3 m1 m2
      have hpa2 : tr_Pa (tr_ru (tr_ru (tr_ru R c.2.1 w1) q (k :: w2)) x'.2 (u ++ (k.1, q, 0) :: b)) (upd le q (le c.2.1)) r pa sl d A' x' B' := by
        refine tr_Pa_cg (fun i hi y hy => ?_) (fun i hi => rfl) (fun i hi => rfl) hp'
        have y1 : y.2 ≠ x'.2 := tr_P_dif hP (d := i) (e := d) (by omega) (by omega) (by omega) hy hxm'
        have y2 : y.2 ≠ c.2.1 := tr_P_dif hP (d := i) (e := d + 1) (by omega) hd (by omega) hy hxm
        have y3 : y.2 ≠ q := fun z => tr_P_nF hP (d := i) (by omega) hy (by rw [z]; simp)
        exact ⟨by rw [tr_ru_n y1, tr_ru_n y3, tr_ru_n y2], pk_un y3⟩
      refine ih _ _ _ _ _ _ nx' _ (g2 :: F') A' B' x' ⟨g2', t1, t2, ?_, s1, hnx q⟩ hpa2 (by omega) (by omega) hro ?_ f (by omega)
      · refine tr_fl_cg (fun n hn => ?_) hfl.2
        refine m1 n (fun z => ?_) (fun z => ?_)
        · exact tr_P_nF hP hd hxm (by rw [← z]; exact List.mem_cons_of_mem _ hn)
        · have c1 := List.count_pos_iff.mpr hn
          have c2 := cF n
          rw [← z] at c2
          simp only [List.count_cons_self] at c2
          omega
      · intro un3 k3 f3 s3 u3 l3 n3 r3 R3 rr3 H3 F3 G3 ag3 ro3 ro4
        refine K _ _ _ _ _ _ _ _ R3 rr3 H3 F3 G3 (fun n hn => ?_) ro3 ro4
        have p1 := ag3 n hn
        have p2 := t3 n hn
        exact ⟨p1.1.trans p2.1, p1.2.1.trans p2.2.1, p1.2.2.trans p2.2.2⟩
    · refine K _ _ _ _ _ _ _ _ R r H F ⟨hAB, ?_, hP, hfl, hnx, hun⟩ (fun n _ => ⟨rfl, rfl, rfl⟩) hro (fun j hj => rfl)
      refine tr_T_ok hT (fun d hd y hy o => ?_)
      refine ⟨?_, o.2.2⟩
      by_cases hyr : y.2 = x.2
      · have := hu.2.1
        rw [hyr]
        omega
      · exact o.1 hyr
theorem tr_ok1 : ∀ d n l, tr_ok H d n l → 0 < H → 1 ≤ l := by
  intro d n l o hH
  rcases Nat.eq_zero_or_pos d with z | z
  · have := o.2.1 z hH; omega
  · have := o.2.2 z; omega
theorem xd_insert {post : SX → Prop} (G : ts_G un ke fi si us le nx R r H L (tr_ok H) F O) (ht : t < 2) (hro : ro t = nI r) (hcap : L.length + 3 * O.length ≤ 370) (hk : k < 32768) (hp : p < 32768) (hs : s < 128) (hnk : ∀ e ∈ L, e.1 ≠ k)
    (K : ∀ a b, L = a ++ b → (∀ e ∈ a, e.1 < k) → (∀ e ∈ b, k < e.1) → ∀ un' dp' ke' fi' si' us' le' nx' ro' pa' sl' R' r' H' F', ts_G un' ke' fi' si' us' le' nx' R' r' H' (a ++ (k, p, s) :: b) (tr_ok H') F' O → (∀ n ∈ O, R' n = R n ∧ le' n = le n ∧ nx' n = nx n) → ro' t = nI r' → (∀ j, j ≠ t → ro' j = ro j) →
      post (g, md, ll, un', dp', da, nw, hd, ct, bf, th, lg, ws, il, ke', fi', si', us', le', nx', ro', pa', sl')) : wpX_insert post (g, md, ll, un, dp, da, nw, hd, ct, bf, th, lg, ws, il, ke, fi, si, us, le, nx, ro, pa, sl) (nI t) (nI k) (nI p) (nI s) := by
  obtain ⟨hAB, hT, hP, hfl, hnx, hun⟩ := G
  have hH : H ≤ 8 := tr_hgt hT tr_ok_b (by omega)
  unfold wpX_insert
  refine xc_descend hAB hT (fun d n l o z => tr_ok1 d n l o (by omega)) hP (by omega) hk ht hro ?_
  intro pa' sl' A x B c1 c2 hpp hk1 hB hR hc1 hc2
  have hlv := tr_Pa_lv hpp
  have hxm : x ∈ tr_lv R le r H := by rw [hlv]; simp
  have hx := tr_P_lt hP (Nat.le_refl _) hxm
  have tx := hT.1 H (Nat.le_refl _) x hxm
  have hu := hAB.2.2.2 x.2 hx
  have hl8 : (R x.2).length ≤ 8 := tx.2.2.1
  have hul := hu.1
  rw [hR, List.length_append] at hl8 hul
  have e1 : (nI H).toNatClampNeg = H := nI_clamp (by omega)
  have e2 : nI (9 * x.2 + c1.length) - 1 + 1 = nI (9 * x.2 + c1.length) := Int32.sub_add_cancel _ _
  rw [e2]
  refine nm_e ⟨vp_in_nI (by omega) (by omega), ?_⟩
  rw [e1, tr_Pa_x hpp]
  refine nm_e ?_
  have e3 : nI (9 * x.2 + c1.length) - 9 * nI x.2 = nI c1.length := by
    rw [n9, pk_sub (by omega)]
    exact congrArg nI (by omega)
  rw [e3]
  refine xa_open hx hul hl8 (by omega) hAB.1 hAB.2.1 hAB.2.2.1 ?_
  refine xa_fill (by omega) hk hp hs ?_
  have hL := tr_lf_L hT hlv hR
  have hc1' : ∀ e ∈ c1, e.1 < k := by
    intro e he
    have q1 := hc1 e he
    have q2 := hnk e (by rw [hL]; simp [he])
    omega
  obtain ⟨o1, o2, o3, o4, o5⟩ := tr_lf_ord hT hlv hk1 hB hR hc2
  have g := ar_ins (e := (k, p, s)) hAB hx hR hl8 hk hp hs
  have Rx : tr_ru R x.2 (c1 ++ (k, p, s) :: c2) x.2 = c1 ++ (k, p, s) :: c2 := tr_ru_s
  obtain ⟨t1, t2, t3, t4⟩ := tr_ins_leaf (R' := tr_ru R x.2 (c1 ++ (k, p, s) :: c2)) (v := (k, p, s)) hT hP hlv hk1 hB hR hc1' hc2 rfl (fun n hn => tr_ru_n hn) Rx
  have hl2 : ((tr_is R le A ++ c1) ++ (k, p, s) :: (c2 ++ tr_is R le B)).length = L.length + 1 := by rw [hL]; simp; omega
  refine ⟨H + 1, xd_ins_l (L := (tr_is R le A ++ c1) ++ (k, p, s) :: (c2 ++ tr_is R le B)) ht (by rw [hl2]; omega) H _ _ _ _ _ _ _ _ F A B x ⟨g, t1, t2, hfl, hnx, hun⟩ ?_ (Nat.le_refl _) (by omega) hro ?_ _ (by omega)⟩
  · refine tr_Pa_cg (fun i hi y hy => ?_) (fun i hi => rfl) (fun i hi => rfl) hpp
    exact ⟨tr_ru_n (tr_P_dif hP (d := i) (e := H) (by omega) (Nat.le_refl _) (by omega) hy hxm), rfl⟩
  · intro un3 k3 f3 s3 u3 l3 n3 r3 R3 rr3 H3 F3 G3 ag3 ro3 ro4
    refine K (tr_is R le A ++ c1) (c2 ++ tr_is R le B) hL ?_ ?_ _ _ _ _ _ _ _ _ _ _ _ R3 rr3 H3 F3 G3 ?_ ro3 ro4
    · intro e he
      rcases List.mem_append.mp he with q | q
      · have := o2 e q; omega
      · exact hc1' e q
    · intro e he
      rcases List.mem_append.mp he with q | q
      · exact o3 e q
      · exact o5 e q
    · intro n hn
      have p1 := ag3 n hn
      exact ⟨p1.1.trans (t4 n hn), p1.2⟩
end
end
section
/-! remove -/
section
variable {g md ll un dp : Int32} {da nw hd ct bf th lg ws il ke fi si us le nx ro pa sl : Nat → Int32}
variable {R : Nat → List tr_C} {n k p s r H d t : Nat} {L : List tr_C} {ok ok' : Nat → Nat → Nat → Prop} {F O : List Nat}
theorem xd_rem_93 {post : SX → Prop} (ht : t < 2) (G : ts_G un ke fi si us le nx R r H L (tr_or H r) F O) (hro : ro t = nI r)
    (K : ∀ un' ke' fi' si' us' le' nx' ro' R' r' H' F', ts_G un' ke' fi' si' us' le' nx' R' r' H' L (tr_ok H') F' O → (∀ n ∈ O, R' n = R n ∧ le' n = le n ∧ nx' n = nx n) → ro' t = nI r' → (∀ j, j ≠ t → ro' j = ro j) →
      post (g, md, ll, un', dp, da, nw, hd, ct, bf, th, lg, ws, il, ke', fi', si', us', le', nx', ro', pa, sl)) : wX_remove_93 post (nI t) g md ll un dp da nw hd ct bf th lg ws il ke fi si us le nx ro pa sl := by
  obtain ⟨hAB, hT, hP, hfl, hnx, hun⟩ := G
  have hxm : ((0, r) : tr_N) ∈ tr_lv R le r 0 := by show _ ∈ [((0, r) : tr_N)]; simp
  have hr : r < 130 := tr_P_lt hP (Nat.zero_le _) hxm
  have tx := hT.1 0 (Nat.zero_le _) _ hxm
  have hu := hAB.2.2.2 r hr
  have e1 : (nI r).toNatClampNeg = r := nI_clamp (by omega)
  have e2 : (nI t).toNatClampNeg = t := nI_clamp (by omega)
  have i1 : vp_in (nI r) 130 := vp_in_nI hr (by omega)
  have i2 : vp_in (nI t) 2 := vp_in_nI ht (by omega)
  unfold wX_remove_93
  refine ⟨i2, ?_⟩
  rw [e2, hro]
  refine nm_e ⟨i1, ?_⟩
  rw [e1]
  rcases Nat.eq_zero_or_pos H with z | z
  · refine br_f (by rw [tx.2.1 z.symm]; decide) ?_
    refine K _ _ _ _ _ _ _ _ R r H F ⟨hAB, ?_, hP, hfl, hnx, hun⟩ (fun n _ => ⟨rfl, rfl, rfl⟩) hro (fun j hj => rfl)
    exact tr_T_ok hT (fun d hdH y hy o => ⟨o.1, fun _ q => by omega, fun q => by omega⟩)
  · refine br_t (tx.1 z) ⟨i1, ?_⟩
    rw [hu.1]
    have hl1 : 1 ≤ (R r).length := tx.2.2.2.1 rfl z
    refine pk_le (R r).length 1 (fun q => ?_) (fun q => ?_) rfl rfl (by omega) (by omega)
    · obtain ⟨c, hc⟩ : ∃ c, R r = [c] := by
        cases hR : R r with
        | nil => rw [hR] at hl1; exact absurd hl1 (by decide)
        | cons c cs =>
          rw [hR, List.length_cons] at q
          have : cs = [] := List.length_eq_zero_iff.mp (by omega)
          exact ⟨c, by rw [this]⟩
      have gc := ar_gp (a := []) hAB hr hc
      rw [List.length_nil, Nat.add_zero] at gc
      obtain ⟨H', rfl⟩ : ∃ H', H = H' + 1 := ⟨H - 1, by omega⟩
      obtain ⟨t1, t2, t3⟩ := tr_col (nx' := upd nx r un) hT hP hc (fun n hn => pk_un hn)
      rw [n9, nI_clamp (by omega : 9 * r < 2 ^ 31), gc.2.1, ar_s16 gc.2.2.2.2.1]
      refine ⟨vp_in_nI (by omega) (by omega), i2, nm_e ?_⟩
      refine xa_giveUp hr hun ?_
      refine K _ _ _ _ _ _ _ _ R c.2.1 H' (r :: F) ⟨hAB, t1, t2, ⟨rfl, ?_⟩, ar_SH_u hnx hun, ar_s16 (by omega)⟩ (fun n hn => ⟨rfl, rfl, t3 n hn⟩) pk_us (fun j hj => pk_un hj)
      rw [pk_us]
      exact tr_fl_cg (fun n hn => pk_un (fun z => tr_P_nF hP (Nat.zero_le _) hxm (by show r ∈ F; rw [← z]; exact hn))) hfl
    · refine K _ _ _ _ _ _ _ _ R r H F ⟨hAB, ?_, hP, hfl, hnx, hun⟩ (fun n _ => ⟨rfl, rfl, rfl⟩) hro (fun j hj => rfl)
      refine tr_T_ok hT (fun d hdH y hy o => ?_)
      by_cases hyr : y.2 = r
      · rcases Nat.eq_zero_or_pos d with zd | zd
        · rw [hyr]
          exact ⟨by rw [hyr] at o; exact o.1, fun _ _ => by omega, fun q => by omega⟩
        · exact absurd hyr (tr_P_dif hP hdH (Nat.zero_le _) (by omega) hy hxm)
      · exact o.2.2.2 hyr
theorem xd_rem_l {post : SX → Prop} (ht : t < 2) : ∀ (d : Nat) (un : Int32) (ke fi si us le nx : Nat → Int32) (R : Nat → List tr_C) (F : List Nat) (A B : List tr_N) (x : tr_N),
    ts_G un ke fi si us le nx R r H L (tr_or H x.2) F O → tr_Pa R le r pa sl d A x B → d ≤ H → d ≤ 9 → ro t = nI r →
    (∀ un' ke' fi' si' us' le' nx' ro' R' r' H' F', ts_G un' ke' fi' si' us' le' nx' R' r' H' L (tr_ok H') F' O → (∀ n ∈ O, R' n = R n ∧ le' n = le n ∧ nx' n = nx n) → ro' t = nI r' → (∀ j, j ≠ t → ro' j = ro j) →
      post (g, md, ll, un', dp, da, nw, hd, ct, bf, th, lg, ws, il, ke', fi', si', us', le', nx', ro', pa, sl)) →
    ∀ f, d < f → wX_remove_37 post (nI t) f (nI d) g md ll un dp da nw hd ct bf th lg ws il ke fi si us le nx ro pa sl := by
  intro d
  induction d with
  | zero =>
    intro un ke fi si us le nx R F A B x G hp hdH hd9 hro K f hf
    obtain ⟨f, rfl⟩ : ∃ m, f = m + 1 := ⟨f - 1, by omega⟩
    obtain ⟨rfl, rfl, rfl, hpa⟩ := hp
    exact br_t (nI_le (a := 0) (b := 0) (by omega) (by omega)) (xd_rem_93 ht G hro K)
  | succ d ih =>
    intro un ke fi si us le nx R F A B x G hp hdH hd9 hro K f hf
    obtain ⟨f, rfl⟩ : ∃ m, f = m + 1 := ⟨f - 1, by omega⟩
    have G0 := G
    obtain ⟨hAB, hT, hP, hfl, hnx, hun⟩ := G
    have hlv := tr_Pa_lv hp
    have hpx := tr_Pa_x hp
    have hxm : x ∈ tr_lv R le r (d + 1) := by rw [hlv]; simp
    have hx := tr_P_lt hP hdH hxm
    have hu := hAB.2.2.2 x.2 hx
    have e0 : (nI (d + 1)).toNatClampNeg = d + 1 := nI_clamp (by omega)
    have e1 : (nI x.2).toNatClampNeg = x.2 := nI_clamp (by omega)
    have i0 : vp_in (nI (d + 1)) 10 := vp_in_nI (by omega) (by omega)
    have i1 : vp_in (nI x.2) 130 := vp_in_nI hx (by omega)
    refine br_f (nI_nle (by omega) (by omega)) ⟨i0, ?_⟩
    rw [e0, hpx, e1, hu.1]
    refine ⟨i1, ?_⟩
    refine pk_le 4 (R x.2).length (fun z => ?_) (fun z => ?_) rfl rfl (by omega) (by omega)
    · refine xd_rem_93 ht ⟨hAB, ?_, hP, hfl, hnx, hun⟩ hro K
      refine tr_T_ok hT (fun e he y hy o => tr_or_ok ?_)
      by_cases hyr : y.2 = x.2
      · refine ⟨o.1, fun q1 q2 => ?_, fun q1 => by rw [hyr]; omega⟩
        exact absurd hyr (tr_P_dif hP he hdH (by omega) hy hxm)
      · exact o.2.2.2 hyr
    · obtain ⟨A', x', B', a, c, b, hp', hsl, hit, rfl, rfl, rfl, hpa⟩ := hp
      have hlv' := tr_Pa_lv hp'
      have hxm' : x' ∈ tr_lv R le r d := by rw [hlv']; simp
      have hx' := tr_P_lt hP (by omega) hxm'
      have tx' := hT.1 d (by omega) x' hxm'
      have tx := hT.1 (d + 1) hdH _ hxm
      have dxx : x'.2 ≠ (tr_nd c).2 := tr_P_dif hP (d := d) (e := d + 1) (by omega) hdH (by omega) hxm' hxm
      have hle' : le x'.2 = 0 := tx'.1 (by omega)
      have hfx : tr_fx x'.1 (R x'.2) = a ++ c :: b := by rw [← tr_it_in hle']; exact hit
      have hlen : (R x'.2).length = a.length + (b.length + 1) := by
        have := congrArg List.length hfx
        rw [tr_fx_len, List.length_append, List.length_cons] at this
        exact this
      have hlx' := tx'.2.2.2.2.2 dxx
      have hx8 := hlx'.1
      have hge2 : 2 ≤ (R x'.2).length := by
        rcases Nat.eq_zero_or_pos d with q | q
        · exact hlx'.2.1 q (by omega)
        · have := hlx'.2.2 q; omega
      have hn3 : (R (tr_nd c).2).length = 3 := by have := tx.2.2.2.2.1 (by omega); omega
      have hnne : R (tr_nd c).2 ≠ [] := by intro q; rw [q] at hn3; exact absurd hn3 (by decide)
      have e2 : (nI d).toNatClampNeg = d := nI_clamp (by omega)
      have i2 : vp_in (nI d) 10 := vp_in_nI (by omega) (by omega)
      rw [nI_pred, e2, tr_Pa_x hp', hsl]
      refine ⟨i2, i2, i0, ?_⟩
      -- the way on, for whatever the mending gives
      have go : ∀ (un2 : Int32) (ke2 fi2 si2 us2 nx2 : Nat → Int32) (R2 : Nat → List tr_C) (F2 : List Nat), ts_G un2 ke2 fi2 si2 us2 le nx2 R2 r H L (tr_or H x'.2) F2 O → (∀ n ∈ O, R2 n = R n ∧ le n = le n ∧ nx2 n = nx n) → (∀ i, i < d → ∀ y ∈ tr_lv R le r i, R2 y.2 = R y.2) →
          ∀ y, y = nI (d + 1) + (-1) → wX_remove_37 post (nI t) f y g md ll un2 dp da nw hd ct bf th lg ws il ke2 fi2 si2 us2 le nx2 ro pa sl := by
        intro un2 ke2 fi2 si2 us2 nx2 R2 F2 G2 ag2 lo2 y ey
        rw [ey, pk_m1]
        refine ih _ _ _ _ _ _ _ R2 F2 A' B' x' G2 (tr_Pa_cg (fun i hi y hy => ⟨lo2 i hi y hy, rfl⟩) (fun i hi => rfl) (fun i hi => rfl) hp') (by omega) (by omega) hro ?_ f (by omega)
        intro un3 k3 f3 s3 u3 l3 n3 r3 R3 rr3 H3 F3 G3 ag3 ro3 ro4
        refine K _ _ _ _ _ _ _ _ R3 rr3 H3 F3 G3 (fun n hn => ?_) ro3 ro4
        have p1 := ag3 n hn
        have p2 := ag2 n hn
        exact ⟨p1.1.trans p2.1, p1.2.1.trans p2.2.1, p1.2.2.trans p2.2.2⟩
      have kid : ∀ c0 ∈ tr_it R le x', tr_nd c0 ∈ tr_lv R le r (d + 1) := by
        intro c0 h0
        rw [tr_lv_s, hlv', tr_is_app, tr_is_cons]
        exact List.mem_map_of_mem (f := tr_nd) (List.mem_append_right _ (List.mem_append_left _ h0))
      have dif : ∀ i, i < d → ∀ y ∈ tr_lv R le r i, y.2 ≠ x'.2 ∧ ∀ c0 ∈ tr_it R le x', y.2 ≠ c0.2.1 := fun i hi y hy =>
        ⟨tr_P_dif hP (d := i) (e := d) (by omega) (by omega) (by omega) hy hxm', fun c0 h0 => tr_P_dif hP (d := i) (e := d + 1) (by omega) hdH (by omega) hy (kid c0 h0)⟩
      have sib : ∀ M c0 c1 Z, tr_it R le x' = M ++ ([c0, c1] ++ Z) → c0.2.1 ≠ c1.2.1 := by
        intro M c0 c1 Z hM
        have h2 := tr_lv_dn hlv' (a := M ++ [c0]) (ms := [c1]) (b := Z) (by rw [hM]; simp)
        exact tr_P_two hP hdH h2 (y := tr_nd c0) (z := tr_nd c1) (Or.inl (by simp)) (by simp)
      -- left neighbour
      have left : ∀ a1 cl, a = a1 ++ [cl] → ∃ u, R x'.2 = u ++ c :: b ∧ u.length = a.length ∧ tr_fx x'.1 u = a1 ++ [cl] ∧ fi (9 * x'.2 + a.length - 1) = nI cl.2.1 ∧ cl.2.1 < 130 := by
        intro a1 cl ha
        obtain ⟨u, q1, q2, q3⟩ := tr_fx_spl (lo := x'.1) (p := a1 ++ [cl]) (b := c :: b) (l := R x'.2) (by rw [hfx, ha]) (by simp)
        refine ⟨u, q1, by rw [q2, ha], q3, ?_, tr_P_lt hP hdH (kid cl (by rw [hit, ha]; simp))⟩
        have hg : (tr_fx x'.1 (R x'.2))[a1.length]? = some cl := by
          rw [hfx, ha]
          have : a1 ++ [cl] ++ c :: b = a1 ++ cl :: (c :: b) := by simp
          rw [this]
          exact tr_gm
        have hl2 : a.length = a1.length + 1 := by rw [ha]; simp
        have ei : 9 * x'.2 + a.length - 1 = 9 * x'.2 + a1.length := by omega
        rw [ei]
        cases ha1 : a1 with
        | nil =>
          rw [ha1] at hg
          cases hR : R x'.2 with
          | nil => rw [hR] at hge2; exact absurd hge2 (by decide)
          | cons f0 fs =>
            rw [hR] at hg
            have q : (x'.1, f0.2) = cl := Option.some.inj hg
            have gg := ar_get hAB hx' (c := 0) (e := f0) (by rw [hR]; rfl)
            rw [← q]
            exact gg.2.1
        | cons a0 at' =>
          rw [ha1, List.length_cons, tr_fx_g] at hg
          exact (ar_get hAB hx' hg).2.1
      -- right neighbour
      have right : ∀ cr b1, b = cr :: b1 → ∃ u, R x'.2 = u ++ cr :: b1 ∧ u.length = a.length + 1 ∧ tr_fx x'.1 u = a ++ [c] ∧ fi (9 * x'.2 + a.length + 1) = nI cr.2.1 ∧ cr.2.1 < 130 := by
        intro cr b1 hb
        obtain ⟨u, q1, q2, q3⟩ := tr_fx_spl (lo := x'.1) (p := a ++ [c]) (b := cr :: b1) (l := R x'.2) (by rw [hfx, hb]; simp) (by simp)
        have hul : u.length = a.length + 1 := by rw [q2]; simp
        refine ⟨u, q1, hul, q3, ?_, tr_P_lt hP hdH (kid cr (by rw [hit, hb]; simp))⟩
        have gg := ar_gp hAB hx' q1
        rw [hul] at gg
        exact gg.2.1
      have cmem : c ∈ tr_it R le x' := by rw [hit]; simp
      have lec := tr_le01 hT hdH hxm
      -- the left one gives a cell, or both are joined
      have finL : ∀ a1 cl, a = a1 ++ [cl] → ∀ rv, 5 ≤ (R cl.2.1).length → wX_mend_52 (fun u => match u with | (g, md, ll, un, dp, da, nw, hd, ct, bf, th, lg, ws, il, ke, fi, si, us, le, nx, ro, pa, sl) => ∀ y, y = nI (d + 1) + (-1) → wX_remove_37 post (nI t) f y g md ll un dp da nw hd ct bf th lg ws il ke fi si us le nx ro pa sl) (nI x'.2) (nI a.length) (nI (tr_nd c).2) (nI cl.2.1) rv g md ll un dp da nw hd ct bf th lg ws il ke fi si us le nx ro pa sl := by
        intro a1 cl ha rv h5
        obtain ⟨u, q1, q2, q3, q4, q5⟩ := left a1 cl ha
        have hit2 : tr_it R le x' = a1 ++ ([cl, c] ++ b) := by rw [hit, ha]; simp
        have clm : cl ∈ tr_it R le x' := by rw [hit2]; simp
        have dcl : cl.2.1 ≠ c.2.1 := sib a1 cl c b hit2
        have dxl : x'.2 ≠ cl.2.1 := tr_P_dif hP (d := d) (e := d + 1) (by omega) hdH (by omega) hxm' (kid cl clm)
        obtain ⟨wl, v, hwl⟩ := tr_lastq (l := R cl.2.1) (by intro q; rw [q] at h5; exact absurd h5 (by decide))
        have hw4 : 4 ≤ wl.length := by rw [hwl, List.length_append] at h5; simp at h5; omega
        rw [← q2]
        refine xb_mend_L (l := tr_it R le (tr_nd c)) hAB hx' hx q5 dxl dxx dcl lec q1 hwl hw4 (by rw [hn3]; omega) hnne rfl ?_
        intro ke2 fi2 si2 us2 g2
        obtain ⟨t1, t2, t3, t4⟩ := tr_bl (R' := tr_ru (tr_ru (tr_ru R c.2.1 (v :: tr_it R le (tr_nd c))) cl.2.1 wl) x'.2 (u ++ (v.1, c.2) :: b)) hT hP (e := d) (by omega) hlv' hit2 hwl hw4 (Nat.le_of_eq hn3) q1 q3 (fun n z1 z2 z3 => by rw [tr_ru_n z1, tr_ru_n z2]; exact tr_ru_n z3) tr_ru_s (by rw [tr_ru_n (fun z => dxl z.symm), tr_ru_s]) (by
          rw [tr_ru_n (m := c.2.1) (fun z => dxx z.symm), tr_ru_n (fun z => dcl z.symm)]; exact tr_ru_s)
        refine go un ke2 fi2 si2 us2 nx _ F ⟨g2, t1, t2, hfl, hnx, hun⟩ t3 (fun i hi y hy => ?_)
        have dd := dif i hi y hy
        rw [tr_ru_n dd.1, tr_ru_n (dd.2 cl clm)]
        exact tr_ru_n (dd.2 c cmem)
      have finR : ∀ cr b1, b = cr :: b1 → ∀ lv : Int32, (lv < 0 ∨ ∃ lf, lf < 130 ∧ lv = nI lf ∧ (R lf).length ≤ 4) → 5 ≤ (R cr.2.1).length → wX_mend_52 (fun u => match u with | (g, md, ll, un, dp, da, nw, hd, ct, bf, th, lg, ws, il, ke, fi, si, us, le, nx, ro, pa, sl) => ∀ y, y = nI (d + 1) + (-1) → wX_remove_37 post (nI t) f y g md ll un dp da nw hd ct bf th lg ws il ke fi si us le nx ro pa sl) (nI x'.2) (nI a.length) (nI (tr_nd c).2) lv (nI cr.2.1) g md ll un dp da nw hd ct bf th lg ws il ke fi si us le nx ro pa sl := by
        intro cr b1 hb lv hlv2 h5
        obtain ⟨u, q1, q2, q3, q4, q5⟩ := right cr b1 hb
        have hit2 : tr_it R le x' = a ++ ([c, cr] ++ b1) := by rw [hit, hb]; simp
        have crm : cr ∈ tr_it R le x' := by rw [hit2]; simp
        have dcr : c.2.1 ≠ cr.2.1 := sib a c cr b1 hit2
        have dxr : x'.2 ≠ cr.2.1 := tr_P_dif hP (d := d) (e := d + 1) (by omega) hdH (by omega) hxm' (kid cr crm)
        have tr' := hT.1 (d + 1) hdH _ (kid cr crm)
        have ler : le cr.2.1 = le c.2.1 := by
          rcases Nat.lt_or_ge (d + 1) H with q | q
          · exact (tr'.1 q).trans (tx.1 q).symm
          · exact (tr'.2.1 (by omega)).trans (tx.2.1 (by omega)).symm
        have hitl : (tr_it R le (tr_nd cr)).length = (R cr.2.1).length := tr_it_len
        obtain ⟨v, w, wr, hvw⟩ : ∃ v w wr, tr_it R le (tr_nd cr) = v :: w :: wr := by
          match hI : tr_it R le (tr_nd cr) with
          | [] => rw [hI, List.length_nil] at hitl; omega
          | [v] => rw [hI] at hitl; simp at hitl; omega
          | v :: w :: wr => exact ⟨v, w, wr, rfl⟩
        have hw3 : 3 ≤ wr.length := by rw [hvw, List.length_cons, List.length_cons] at hitl; omega
        refine xb_mend_R (v := v) (w := w) (wr := wr) hlv2 hAB hx' hx q5 dxr dxx (fun z => dcr z.symm) lec ler q1 q2 h5 (by rw [hn3]; omega) (by rw [← hvw]; rfl) ?_
        intro ke2 fi2 si2 us2 g2
        obtain ⟨t1, t2, t3, t4⟩ := tr_br (R' := tr_ru (tr_ru (tr_ru R c.2.1 (R c.2.1 ++ [v])) cr.2.1 (w :: wr)) x'.2 (u ++ (w.1, cr.2) :: b1)) hT hP (e := d) (by omega) hlv' hit2 hvw hw3 (Nat.le_of_eq hn3) q1 q3 (fun n z1 z2 z3 => by rw [tr_ru_n z1, tr_ru_n z2]; exact tr_ru_n z3) tr_ru_s (by rw [tr_ru_n (fun z => dxr z.symm), tr_ru_s]) (by
          rw [tr_ru_n (m := c.2.1) (fun z => dxx z.symm), tr_ru_n dcr]; exact tr_ru_s)
        refine go un ke2 fi2 si2 us2 nx _ F ⟨g2, t1, t2, hfl, hnx, hun⟩ t3 (fun i hi y hy => ?_)
        have dd := dif i hi y hy
        rw [tr_ru_n dd.1, tr_ru_n (dd.2 cr crm)]
        exact tr_ru_n (dd.2 c cmem)
      have finJ : ∀ M c0 c1 Z u, (c.2.1 = c0.2.1 ∨ c.2.1 = c1.2.1) → tr_it R le x' = M ++ ([c0, c1] ++ Z) → R x'.2 = u ++ c1 :: Z → tr_fx x'.1 u = M ++ [c0] → (R c0.2.1).length + (R c1.2.1).length ≤ 8 →
          wpX_join (fun u => match u with | (g, md, ll, un, dp, da, nw, hd, ct, bf, th, lg, ws, il, ke, fi, si, us, le, nx, ro, pa, sl) => ∀ y, y = nI (d + 1) + (-1) → wX_remove_37 post (nI t) f y g md ll un dp da nw hd ct bf th lg ws il ke fi si us le nx ro pa sl) (g, md, ll, un, dp, da, nw, hd, ct, bf, th, lg, ws, il, ke, fi, si, us, le, nx, ro, pa, sl) (nI x'.2) (nI u.length) (nI c0.2.1) (nI c1.2.1) := by
        intro M c0 c1 Z u hm hit2 q1 q3 h8
        have m0 : c0 ∈ tr_it R le x' := by rw [hit2]; simp
        have m1 : c1 ∈ tr_it R le x' := by rw [hit2]; simp
        have d01 : c0.2.1 ≠ c1.2.1 := sib M c0 c1 Z hit2
        have dx0 : x'.2 ≠ c0.2.1 := tr_P_dif hP (d := d) (e := d + 1) (by omega) hdH (by omega) hxm' (kid c0 m0)
        have dx1 : x'.2 ≠ c1.2.1 := tr_P_dif hP (d := d) (e := d + 1) (by omega) hdH (by omega) hxm' (kid c1 m1)
        have l0 : c0.2.1 < 130 := tr_P_lt hP hdH (kid c0 m0)
        have l1 : c1.2.1 < 130 := tr_P_lt hP hdH (kid c1 m1)
        have tr' := hT.1 (d + 1) hdH _ (kid c1 m1)
        have h13 : 3 ≤ (R c1.2.1).length := tr'.2.2.2.2.1 (by omega)
        refine xb_join (z := c1) (l := tr_it R le (tr_nd c1)) hAB hx' l0 l1 dx0 dx1 d01 (tr_le01 hT hdH (kid c1 m1)) hnx hun q1 h8 (by intro q; rw [q] at h13; exact absurd h13 (by decide)) rfl ?_
        intro ke2 fi2 si2 us2 nx2 g2 s2 n1 n2 n3
        obtain ⟨t1, t2, t3, t4⟩ := tr_jn (m := c.2.1) (nx' := nx2) (R' := tr_ru (tr_ru (tr_ru R c1.2.1 (tr_it R le (tr_nd c1))) c0.2.1 (R c0.2.1 ++ tr_it R le (tr_nd c1))) x'.2 (u ++ Z)) hm hT hP (e := d) (by omega) hlv' hit2 h8 q1 q3 (fun n z1 z2 z3 => by rw [tr_ru_n z1, tr_ru_n z2]; exact tr_ru_n z3) tr_ru_s (by rw [tr_ru_n (fun z => dx0 z.symm), tr_ru_s]) n1 n2
        refine go (nI c1.2.1) ke2 fi2 si2 us2 nx2 _ (c1.2.1 :: F) ⟨g2, t1, t2, ⟨rfl, ?_⟩, s2, ar_s16 (by omega)⟩ t3 (fun i hi y hy => ?_)
        · rw [n3]
          refine tr_fl_cg (fun n hn => n1 n (fun z => ?_) (fun z => ?_)) hfl
          · exact tr_P_nF hP hdH (kid c0 m0) (by show c0.2.1 ∈ F; rw [← z]; exact hn)
          · exact tr_P_nF hP hdH (kid c1 m1) (by show c1.2.1 ∈ F; rw [← z]; exact hn)
        · have dd := dif i hi y hy
          rw [tr_ru_n dd.1, tr_ru_n (dd.2 c0 m0)]
          exact tr_ru_n (dd.2 c1 m1)
      -- which neighbours there are
      have side_l : (a = [] ∧ ∃ q : a.length = 0, True) ∨ ∃ a1 cl, a = a1 ++ [cl] := by
        rcases List.eq_nil_or_concat a with q | ⟨a1, cl, q⟩
        · exact Or.inl ⟨q, by rw [q]; rfl, trivial⟩
        · exact Or.inr ⟨a1, cl, by rw [q]; simp⟩
      rcases side_l with ⟨ha0, hal, _⟩ | ⟨a1, cl, ha⟩
      · cases hb : b with
        | nil => rw [hb, List.length_nil] at hlen; omega
        | cons cr b1 =>
          obtain ⟨u, q1, q2, q3, q4, q5⟩ := right cr b1 hb
          have hbl : b.length = b1.length + 1 := by rw [hb]; rfl
          refine xb_mend_0 (lv := -1) (rv := nI cr.2.1) hAB hx' (by omega) (fun _ => rfl) (fun z => by omega) (fun z => by omega) (fun _ => q4.symm) ?_
          rcases Nat.lt_or_ge 4 (R cr.2.1).length with z5 | z5
          · exact finR cr b1 hb (-1) (Or.inl n_neg) z5
          · refine xb_mend_J hAB (Or.inl n_neg) (Or.inr ⟨_, q5, rfl, z5⟩) ?_
            unfold wX_mend_270
            refine br_t n_neg ?_
            rw [nI_1, ← q2]
            exact finJ a c cr b1 u (Or.inl rfl) (by rw [hit, hb]; simp) q1 q3 (by have h3 : (R c.2.1).length = 3 := hn3; omega)
      · obtain ⟨u, q1, q2, q3, q4, q5⟩ := left a1 cl ha
        have hal : a.length = a1.length + 1 := by rw [ha]; simp
        rcases Nat.lt_or_ge 4 (R cl.2.1).length with z5 | z5
        · cases hb : b with
          | nil =>
            rw [hb, List.length_nil] at hlen
            refine xb_mend_0 (lv := nI cl.2.1) (rv := -1) hAB hx' (by omega) (fun z => by omega) (fun _ => q4.symm) (fun _ => rfl) (fun z => by omega) (finL a1 cl ha _ z5)
          | cons cr b1 =>
            obtain ⟨u', p1, p2, p3, p4, p5⟩ := right cr b1 hb
            have hbl : b.length = b1.length + 1 := by rw [hb]; rfl
            refine xb_mend_0 (lv := nI cl.2.1) (rv := nI cr.2.1) hAB hx' (by omega) (fun z => by omega) (fun _ => q4.symm) (fun z => by omega) (fun _ => p4.symm) (finL a1 cl ha _ z5)
        · have jl : ∀ rv : Int32, (rv < 0 ∨ ∃ rt, rt < 130 ∧ rv = nI rt ∧ (R rt).length ≤ 4) → wX_mend_52 (fun u => match u with | (g, md, ll, un, dp, da, nw, hd, ct, bf, th, lg, ws, il, ke, fi, si, us, le, nx, ro, pa, sl) => ∀ y, y = nI (d + 1) + (-1) → wX_remove_37 post (nI t) f y g md ll un dp da nw hd ct bf th lg ws il ke fi si us le nx ro pa sl) (nI x'.2) (nI a.length) (nI (tr_nd c).2) (nI cl.2.1) rv g md ll un dp da nw hd ct bf th lg ws il ke fi si us le nx ro pa sl := by
            intro rv hrv
            refine xb_mend_J hAB (Or.inr ⟨_, q5, rfl, z5⟩) hrv ?_
            unfold wX_mend_270
            refine br_f (nI_pos (by omega)) ?_
            rw [← q2]
            exact finJ a1 cl c b u (Or.inr rfl) (by rw [hit, ha]; simp) q1 q3 (by have h3 : (R c.2.1).length = 3 := hn3; omega)
          cases hb : b with
          | nil =>
            rw [hb, List.length_nil] at hlen
            exact xb_mend_0 (lv := nI cl.2.1) (rv := -1) hAB hx' (by omega) (fun z => by omega) (fun _ => q4.symm) (fun _ => rfl) (fun z => by omega) (jl (-1) (Or.inl n_neg))
          | cons cr b1 =>
            obtain ⟨u', p1, p2, p3, p4, p5⟩ := right cr b1 hb
            have hbl : b.length = b1.length + 1 := by rw [hb]; rfl
            refine xb_mend_0 (lv := nI cl.2.1) (rv := nI cr.2.1) hAB hx' (by omega) (fun z => by omega) (fun _ => q4.symm) (fun z => by omega) (fun _ => p4.symm) ?_
            rcases Nat.lt_or_ge 4 (R cr.2.1).length with z6 | z6
            · exact finR cr b1 hb (nI cl.2.1) (Or.inr ⟨_, q5, rfl, z5⟩) z6
            · exact jl _ (Or.inr ⟨_, p5, rfl, z6⟩)
theorem xd_remove {post : SX → Prop} {v : tr_C} {a b : List tr_C} (G : ts_G un ke fi si us le nx R r H (a ++ v :: b) (tr_ok H) F O) (ht : t < 2) (hro : ro t = nI r) (hcap : (a ++ v :: b).length ≤ 400) (hk : v.1 < 32768)
    (K : ∀ un' dp' ke' fi' si' us' le' nx' ro' pa' sl' R' r' H' F', ts_G un' ke' fi' si' us' le' nx' R' r' H' (a ++ b) (tr_ok H') F' O → (∀ n ∈ O, R' n = R n ∧ le' n = le n ∧ nx' n = nx n) → ro' t = nI r' → (∀ j, j ≠ t → ro' j = ro j) →
      post (g, md, ll, un', dp', da, nw, hd, ct, bf, th, lg, ws, il, ke', fi', si', us', le', nx', ro', pa', sl')) : wpX_remove post (g, md, ll, un, dp, da, nw, hd, ct, bf, th, lg, ws, il, ke, fi, si, us, le, nx, ro, pa, sl) (nI t) (nI v.1) := by
  obtain ⟨hAB, hT, hP, hfl, hnx, hun⟩ := G
  have hH : H ≤ 8 := tr_hgt hT tr_ok_b hcap
  have hs := tr_srt hT
  unfold wpX_remove
  refine xc_descend hAB hT (fun d n l o z => tr_ok1 d n l o (by omega)) hP (by omega) hk ht hro ?_
  intro pa' sl' A x B c1 c2 hpp hk1 hB hR hc1 hc2
  have hlv := tr_Pa_lv hpp
  have hxm : x ∈ tr_lv R le r H := by rw [hlv]; simp
  have hx := tr_P_lt hP (Nat.le_refl _) hxm
  have tx := hT.1 H (Nat.le_refl _) x hxm
  have hu := hAB.2.2.2 x.2 hx
  have hl8 : (R x.2).length ≤ 8 := tx.2.2.1
  have hL := tr_lf_L hT hlv hR
  obtain ⟨o1, o2, o3, o4, o5⟩ := tr_lf_ord hT hlv hk1 hB hR hc2
  -- the entry is the last of c1
  have key : ∃ w, c1 = w ++ [v] ∧ a = tr_is R le A ++ w ∧ b = c2 ++ tr_is R le B := by
    have hvm : v ∈ (tr_is R le A ++ c1) ++ (c2 ++ tr_is R le B) := by rw [← hL]; simp
    have hv1 : v ∈ c1 := by
      rcases List.mem_append.mp hvm with q | q
      · rcases List.mem_append.mp q with q | q
        · have := o2 v q; omega
        · exact q
      · rcases List.mem_append.mp q with q | q
        · have := o3 v q; omega
        · have := o5 v q; omega
    obtain ⟨w, z, hw⟩ := tr_lastq (l := c1) (by intro q; rw [q] at hv1; exact absurd hv1 List.not_mem_nil)
    have hL2 : a ++ v :: b = (tr_is R le A ++ w) ++ z :: (c2 ++ tr_is R le B) := by rw [hL, hw]; simp
    have hzv : z = v := by
      rw [hw] at hv1
      rcases List.mem_append.mp hv1 with q | q
      · exfalso
        have hz := hc1 z (by rw [hw]; simp)
        rw [hL2, List.map_append, List.pairwise_append] at hs
        have := hs.2.2 v.1 (List.mem_map_of_mem (f := Prod.fst) (List.mem_append_right _ q)) z.1 (by simp)
        omega
      · exact (List.mem_singleton.mp q).symm
    subst hzv
    have hlen : a.length = (tr_is R le A ++ w).length := by
      rcases Nat.lt_trichotomy a.length (tr_is R le A ++ w).length with q | q | q
      · exfalso
        have g1 : (a ++ z :: b)[a.length]? = some z := tr_gm
        rw [hL2, List.getElem?_append_left q] at g1
        have hm : z ∈ tr_is R le A ++ w := List.mem_of_getElem? g1
        rw [hL2, List.map_append, List.pairwise_append] at hs
        have := hs.2.2 z.1 (List.mem_map_of_mem (f := Prod.fst) hm) z.1 (by simp)
        omega
      · exact q
      · exfalso
        have g1 : ((tr_is R le A ++ w) ++ z :: (c2 ++ tr_is R le B))[(tr_is R le A ++ w).length]? = some z := tr_gm
        rw [← hL2, List.getElem?_append_left q] at g1
        have hm : z ∈ a := List.mem_of_getElem? g1
        rw [List.map_append, List.pairwise_append] at hs
        have := hs.2.2 z.1 (List.mem_map_of_mem (f := Prod.fst) hm) z.1 (by simp)
        omega
    have := List.append_inj hL2 hlen
    exact ⟨w, hw, this.1, (List.cons.inj this.2).2⟩
  obtain ⟨w, hw, ha, hb⟩ := key
  have hR2 : R x.2 = w ++ v :: c2 := by rw [hR, hw]; simp
  have hlen : (R x.2).length = (w.length + c2.length) + 1 := by rw [hR2]; simp; omega
  have hcl : c1.length = w.length + 1 := by rw [hw]; simp
  have e1 : (nI H).toNatClampNeg = H := nI_clamp (by omega)
  refine ⟨vp_in_nI (by omega) (by omega), ?_⟩
  rw [e1, tr_Pa_x hpp]
  refine nm_e ?_
  have e3 : nI (9 * x.2 + c1.length) - 1 - 9 * nI x.2 = nI w.length := by
    rw [hcl, show nI (9 * x.2 + (w.length + 1)) - 1 = nI (9 * x.2 + w.length) from nI_pred _, n9, pk_sub (by omega)]
    exact congrArg nI (by omega)
  rw [e3]
  refine xa_shut (l := w.length + c2.length) hx (by rw [hu.1, hlen]) (by omega) (by omega) hAB.1 hAB.2.1 hAB.2.2.1 ?_
  have g := ar_del hAB hx hR2
  have Rx : tr_ru R x.2 (w ++ c2) x.2 = w ++ c2 := tr_ru_s
  obtain ⟨t1, t2, t3, t4⟩ := tr_del_leaf (R' := tr_ru R x.2 (w ++ c2)) (v := v) hT hP hlv hR2 (fun n hn => tr_ru_n hn) Rx
  rw [← ha, ← hb] at t1
  refine ⟨H + 1, xd_rem_l (L := a ++ b) ht H _ _ _ _ _ _ _ _ F A B x ⟨g, t1, t2, hfl, hnx, hun⟩ ?_ (Nat.le_refl _) (by omega) hro ?_ _ (by omega)⟩
  · refine tr_Pa_cg (fun i hi y hy => ?_) (fun i hi => rfl) (fun i hi => rfl) hpp
    exact ⟨tr_ru_n (tr_P_dif hP (d := i) (e := H) (by omega) (Nat.le_refl _) (by omega) hy hxm), rfl⟩
  · intro un3 k3 f3 s3 u3 l3 n3 r3 R3 rr3 H3 F3 G3 ag3 ro3 ro4
    refine K _ _ _ _ _ _ _ _ _ _ _ R3 rr3 H3 F3 G3 ?_ ro3 ro4
    intro n hn
    have p1 := ag3 n hn
    exact ⟨p1.1.trans (t4 n hn), p1.2⟩
end
end
section
/-! the two trees: t the one that is asked, with its entries L; M the other one's -/
def ts_B (t : Nat) (un : Int32) (ke fi si us le nx ro : Nat → Int32) (L M : List tr_C) (R : Nat → List tr_C) (r H r' H' : Nat) (F : List Nat) : Prop :=
  ts_G un ke fi si us le nx R r H L (tr_ok H) F (tr_ids R le r' H') ∧ tr_T R le nx r' H' M (tr_ok H') ∧ ro t = nI r ∧ ro (1 - t) = nI r'
def ts_W (t : Nat) (un : Int32) (ke fi si us le nx ro : Nat → Int32) (L M : List tr_C) : Prop := ∃ R r H r' H' F, ts_B t un ke fi si us le nx ro L M R r H r' H' F
def ts_At (t : Nat) (un : Int32) (ke fi si us le nx ro : Nat → Int32) (L M : List tr_C) (cell : Nat) (a : List tr_C) (e : tr_C) (b : List tr_C) : Prop :=
  ∃ R r H r' H' F, ts_B t un ke fi si us le nx ro L M R r H r' H' F ∧ tr_At R le r H cell a e b
section
variable {g md ll un dp : Int32} {da nw hd ct bf th lg ws il ke fi si us le nx ro pa sl : Nat → Int32}
variable {k p s t cell : Nat} {L M a b : List tr_C} {e : tr_C}
theorem ts_swap (ht : t < 2) (h : ts_W t un ke fi si us le nx ro L M) : ts_W (1 - t) un ke fi si us le nx ro M L := by
  obtain ⟨R, r, H, r', H', F, ⟨hAB, hT, hP, hfl, hnx, hun⟩, hT', h1, h2⟩ := h
  refine ⟨R, r', H', r, H, F, ⟨hAB, hT', fun n => ?_, hfl, hnx, hun⟩, hT, h2, ?_⟩
  · have := hP n; omega
  · have e : 1 - (1 - t) = t := by omega
    rw [e]; exact h1
theorem ts_W_srt (h : ts_W t un ke fi si us le nx ro L M) : (L.map Prod.fst).Pairwise (· < ·) := by
  obtain ⟨R, r, H, r', H', F, ⟨hAB, hT, hP, hfl, hnx, hun⟩, hT', h1, h2⟩ := h
  exact tr_srt hT
theorem ts_At_W (h : ts_At t un ke fi si us le nx ro L M cell a e b) : ts_W t un ke fi si us le nx ro L M := by
  obtain ⟨R, r, H, r', H', F, hB, hA⟩ := h
  exact ⟨R, r, H, r', H', F, hB⟩
theorem ts_At_L (h : ts_At t un ke fi si us le nx ro L M cell a e b) : L = a ++ e :: b := by
  obtain ⟨R, r, H, r', H', F, ⟨⟨hAB, hT, hP, hfl, hnx, hun⟩, hT', h1, h2⟩, hA⟩ := h
  exact tr_At_L hT hA
theorem ts_At_lt (h : ts_At t un ke fi si us le nx ro L M cell a e b) : cell < 1170 := by
  obtain ⟨R, r, H, r', H', F, ⟨⟨hAB, hT, hP, hfl, hnx, hun⟩, hT', h1, h2⟩, hA⟩ := h
  exact tr_At_lt hP hAB hA
theorem ts_At_ce (h : ts_At t un ke fi si us le nx ro L M cell a e b) : ar_ce ke fi si cell e := by
  obtain ⟨R, r, H, r', H', F, ⟨⟨hAB, hT, hP, hfl, hnx, hun⟩, hT', h1, h2⟩, hA⟩ := h
  exact tr_At_ce hP hAB hA
theorem ty_floor {post : Int32 → SX → Prop} (ht : t < 2) (h : ts_W t un ke fi si us le nx ro L M) (hcap : L.length ≤ 400) (hk : k < 32768)
    (K0 : (∀ e ∈ L, k < e.1) → ∀ dp' pa' sl', post (-1) (g, md, ll, un, dp', da, nw, hd, ct, bf, th, lg, ws, il, ke, fi, si, us, le, nx, ro, pa', sl'))
    (K1 : ∀ cell a e b, ts_At t un ke fi si us le nx ro L M cell a e b → e.1 ≤ k → (∀ e' ∈ b, k < e'.1) → ∀ dp' pa' sl', post (nI cell) (g, md, ll, un, dp', da, nw, hd, ct, bf, th, lg, ws, il, ke, fi, si, us, le, nx, ro, pa', sl')) : wpX_floor post (g, md, ll, un, dp, da, nw, hd, ct, bf, th, lg, ws, il, ke, fi, si, us, le, nx, ro, pa, sl) (nI t) (nI k) := by
  obtain ⟨R, r, H, r', H', F, ⟨hAB, hT, hP, hfl, hnx, hun⟩, hT', h1, h2⟩ := h
  have hH := tr_hgt hT tr_ok_b hcap
  exact xc_floor hAB hT tr_ok1 hP (by omega) hk ht h1 K0 (fun cell a e b hA q1 q2 => K1 cell a e b ⟨R, r, H, r', H', F, ⟨⟨hAB, hT, hP, hfl, hnx, hun⟩, hT', h1, h2⟩, hA⟩ q1 q2)
theorem ty_ceiling {post : Int32 → SX → Prop} (ht : t < 2) (h : ts_W t un ke fi si us le nx ro L M) (hcap : L.length ≤ 400) (hk : k < 32768)
    (K0 : (∀ e ∈ L, e.1 < k) → ∀ dp' pa' sl', post (-1) (g, md, ll, un, dp', da, nw, hd, ct, bf, th, lg, ws, il, ke, fi, si, us, le, nx, ro, pa', sl'))
    (K1 : ∀ cell a e b, ts_At t un ke fi si us le nx ro L M cell a e b → k ≤ e.1 → (∀ e' ∈ a, e'.1 < k) → ∀ dp' pa' sl', post (nI cell) (g, md, ll, un, dp', da, nw, hd, ct, bf, th, lg, ws, il, ke, fi, si, us, le, nx, ro, pa', sl')) : wpX_ceiling post (g, md, ll, un, dp, da, nw, hd, ct, bf, th, lg, ws, il, ke, fi, si, us, le, nx, ro, pa, sl) (nI t) (nI k) := by
  obtain ⟨R, r, H, r', H', F, ⟨hAB, hT, hP, hfl, hnx, hun⟩, hT', h1, h2⟩ := h
  have hH := tr_hgt hT tr_ok_b hcap
  exact xc_ceiling hAB hT tr_ok1 hP (by omega) hk ht h1 K0 (fun cell a e b hA q1 q2 => K1 cell a e b ⟨R, r, H, r', H', F, ⟨⟨hAB, hT, hP, hfl, hnx, hun⟩, hT', h1, h2⟩, hA⟩ q1 q2)
theorem ty_after {post : Int32 → Prop} (h : ts_At t un ke fi si us le nx ro L M cell a e b) (K0 : b = [] → post (-1))
    (K1 : ∀ e' b' cell', b = e' :: b' → ts_At t un ke fi si us le nx ro L M cell' (a ++ [e]) e' b' → post (nI cell')) : wpX_after post (g, md, ll, un, dp, da, nw, hd, ct, bf, th, lg, ws, il, ke, fi, si, us, le, nx, ro, pa, sl) (nI cell) := by
  obtain ⟨R, r, H, r', H', F, ⟨⟨hAB, hT, hP, hfl, hnx, hun⟩, hT', h1, h2⟩, hA⟩ := h
  exact xc_after hAB hT tr_ok1 hP hA K0 (fun e' b' cell' hb hA' => K1 e' b' cell' hb ⟨R, r, H, r', H', F, ⟨⟨hAB, hT, hP, hfl, hnx, hun⟩, hT', h1, h2⟩, hA'⟩)
theorem ty_insert {post : SX → Prop} (ht : t < 2) (h : ts_W t un ke fi si us le nx ro L M) (hcap : L.length + M.length ≤ 360) (hk : k < 32768) (hp : p < 32768) (hs : s < 128) (hnk : ∀ e ∈ L, e.1 ≠ k)
    (K : ∀ a b, L = a ++ b → (∀ e ∈ a, e.1 < k) → (∀ e ∈ b, k < e.1) → ∀ un' dp' ke' fi' si' us' le' nx' ro' pa' sl', ts_W t un' ke' fi' si' us' le' nx' ro' (a ++ (k, p, s) :: b) M →
      post (g, md, ll, un', dp', da, nw, hd, ct, bf, th, lg, ws, il, ke', fi', si', us', le', nx', ro', pa', sl')) : wpX_insert post (g, md, ll, un, dp, da, nw, hd, ct, bf, th, lg, ws, il, ke, fi, si, us, le, nx, ro, pa, sl) (nI t) (nI k) (nI p) (nI s) := by
  obtain ⟨R, r, H, r', H', F, G, hT', h1, h2⟩ := h
  have hc := tr_cnt hT' tr_ok_b
  refine xd_insert G ht h1 (by omega) hk hp hs hnk ?_
  intro a b hL ha hb un' dp' ke' fi' si' us' le' nx' ro' pa' sl' R2 r2 H2 F2 G2 ag ro1 ro2
  obtain ⟨q1, q2, q3⟩ := tr_T_cg hT' ag
  refine K a b hL ha hb _ _ _ _ _ _ _ _ _ _ _ ⟨R2, r2, H2, r', H', F2, ?_, q1, ro1, (ro2 _ (by omega)).trans h2⟩
  rw [q2]; exact G2
theorem ty_remove {post : SX → Prop} (ht : t < 2) (h : ts_W t un ke fi si us le nx ro (a ++ e :: b) M) (hcap : (a ++ e :: b).length ≤ 400) (hk : e.1 < 32768)
    (K : ∀ un' dp' ke' fi' si' us' le' nx' ro' pa' sl', ts_W t un' ke' fi' si' us' le' nx' ro' (a ++ b) M → post (g, md, ll, un', dp', da, nw, hd, ct, bf, th, lg, ws, il, ke', fi', si', us', le', nx', ro', pa', sl')) : wpX_remove post (g, md, ll, un, dp, da, nw, hd, ct, bf, th, lg, ws, il, ke, fi, si, us, le, nx, ro, pa, sl) (nI t) (nI e.1) := by
  obtain ⟨R, r, H, r', H', F, G, hT', h1, h2⟩ := h
  refine xd_remove G ht h1 hcap hk ?_
  intro un' dp' ke' fi' si' us' le' nx' ro' pa' sl' R2 r2 H2 F2 G2 ag ro1 ro2
  obtain ⟨q1, q2, q3⟩ := tr_T_cg hT' ag
  refine K _ _ _ _ _ _ _ _ _ _ _ ⟨R2, r2, H2, r', H', F2, ?_, q1, ro1, (ro2 _ (by omega)).trans h2⟩
  rw [q2]; exact G2
theorem ty_siz (h : ts_At t un ke fi si us le nx ro L M cell a e b) (hs : s < 128) : ts_W t un ke fi (upd si cell (nI s)) us le nx ro (a ++ (e.1, e.2.1, s) :: b) M := by
  obtain ⟨R, r, H, r', H', F, ⟨⟨hAB, hT, hP, hfl, hnx, hun⟩, hT', h1, h2⟩, hA⟩ := h
  obtain ⟨A, x, B, c1, c2, g1, g2, g3, g4, g5⟩ := hA
  have hx := tr_P_lt hP (Nat.le_refl _) (x := x) (by rw [g1]; simp)
  have g := ar_siz (k := s) hAB hx g2 hs
  have Rx : tr_ru R x.2 (c1 ++ (e.1, e.2.1, s) :: c2) x.2 = c1 ++ (e.1, e.2.1, s) :: c2 := tr_ru_s
  obtain ⟨t1, t2, t3, t4⟩ := tr_set_leaf (R' := tr_ru R x.2 (c1 ++ (e.1, e.2.1, s) :: c2)) (s := s) hT hP g1 g2 (fun n hn => tr_ru_n hn) Rx
  obtain ⟨q1, q2, q3⟩ := tr_T_cg (R' := tr_ru R x.2 (c1 ++ (e.1, e.2.1, s) :: c2)) (le' := le) (nx' := nx) hT' (fun n hn => ⟨t4 n hn, rfl, rfl⟩)
  rw [g3, g4, g5]
  refine ⟨_, r, H, r', H', F, ⟨g, t1, ?_, hfl, hnx, hun⟩, q1, h1, h2⟩
  rw [q2]; exact t2
end
end
section
/-! counting; sorted lists -/
noncomputable def cb_b (P : Prop) : Nat := @ite Nat P (Classical.propDecidable P) 1 0
theorem cb_t {P : Prop} (h : P) : cb_b P = 1 := by unfold cb_b; rw [if_pos h]
theorem cb_f {P : Prop} (h : ¬ P) : cb_b P = 0 := by unfold cb_b; rw [if_neg h]
theorem cb_le (P : Prop) : cb_b P ≤ 1 := by
  rcases Classical.em P with h | h
  · rw [cb_t h]; omega
  · rw [cb_f h]; omega
theorem cb_iff {P Q : Prop} (h : P ↔ Q) : cb_b P = cb_b Q := by
  rcases Classical.em P with hp | hp
  · rw [cb_t hp, cb_t (h.mp hp)]
  · rw [cb_f hp, cb_f (fun q => hp (h.mpr q))]
noncomputable def cb_n (P : Nat → Prop) : Nat → Nat
  | 0 => 0
  | k + 1 => cb_n P k + cb_b (P k)
theorem cb_s {P : Nat → Prop} {k : Nat} : cb_n P (k + 1) = cb_n P k + cb_b (P k) := rfl
theorem cb_eq {P Q : Nat → Prop} : ∀ {N : Nat}, (∀ k, k < N → (P k ↔ Q k)) → cb_n P N = cb_n Q N
  | 0, _ => rfl
  | N + 1, h => by
    rw [cb_s, cb_s, cb_eq (N := N) (fun k hk => h k (by omega)), cb_iff (h N (by omega))]
theorem cb_mono {P Q : Nat → Prop} : ∀ {N : Nat}, (∀ k, k < N → P k → Q k) → cb_n P N ≤ cb_n Q N
  | 0, _ => Nat.le_refl _
  | N + 1, h => by
    have a := cb_mono (P := P) (Q := Q) (N := N) (fun k hk => h k (by omega))
    rw [cb_s, cb_s]
    rcases Classical.em (P N) with hp | hp
    · rw [cb_t hp, cb_t (h N (by omega) hp)]; omega
    · rw [cb_f hp]; omega
theorem cb_leN (P : Nat → Prop) : ∀ N, cb_n P N ≤ N
  | 0 => Nat.le_refl _
  | N + 1 => by have := cb_leN P N; have := cb_le (P N); rw [cb_s]; omega
theorem cb_lt {P : Nat → Prop} {a : Nat} (hp : ¬ P a) : ∀ {N : Nat}, a < N → cb_n P N < N
  | 0, h => by omega
  | N + 1, h => by
    rw [cb_s]
    rcases Nat.lt_or_ge a N with z | z
    · have := cb_lt hp z
      have := cb_le (P N)
      omega
    · have e : a = N := by omega
      subst e
      rw [cb_f hp]
      have := cb_leN P a
      omega
theorem cb_0 {P : Nat → Prop} : ∀ {N : Nat}, cb_n P N = 0 ↔ ∀ k, k < N → ¬ P k
  | 0 => ⟨fun _ k hk => by omega, fun _ => rfl⟩
  | N + 1 => by
    rw [cb_s]
    constructor
    · intro h k hk
      rcases Nat.lt_or_ge k N with z | z
      · exact cb_0.mp (by omega) k z
      · have e : k = N := by omega
        subst e
        intro hp
        rw [cb_t hp] at h
        omega
    · intro h
      rw [cb_f (h N (by omega)), cb_0.mpr (fun k hk => h k (by omega))]
theorem cb_pos {P : Nat → Prop} {N k : Nat} (hk : k < N) (hp : P k) : 0 < cb_n P N := by
  rcases Nat.eq_zero_or_pos (cb_n P N) with z | z
  · exact absurd hp (cb_0.mp z k hk)
  · exact z
/-- one place changed -/
theorem cb_ch {P Q : Nat → Prop} {a : Nat} : ∀ {N : Nat}, a < N → (∀ k, k < N → k ≠ a → (P k ↔ Q k)) → cb_n P N + cb_b (Q a) = cb_n Q N + cb_b (P a)
  | 0, h, _ => by omega
  | N + 1, h, h2 => by
    rw [cb_s, cb_s]
    rcases Nat.lt_or_ge a N with z | z
    · have := cb_ch z (fun k hk hne => h2 k (by omega) hne)
      have e := cb_iff (h2 N (by omega) (by omega))
      omega
    · have e : a = N := by omega
      subst e
      have := cb_eq (P := P) (Q := Q) (N := a) (fun k hk => h2 k (by omega) (by omega))
      omega
/-- an injective list of places -/
theorem cb_img {P : Nat → Prop} {f : Nat → Nat} {N : Nat} : ∀ {n : Nat}, (∀ i, i < n → f i < N) → (∀ i j, i < n → j < n → f i = f j → i = j) →
    cb_n (fun i => P (f i)) n = cb_n (fun k => P k ∧ ∃ i, i < n ∧ f i = k) N
  | 0, _, _ => by
    have : cb_n (fun k => P k ∧ ∃ i, i < 0 ∧ f i = k) N = 0 := cb_0.mpr (fun k hk h => by obtain ⟨_, i, hi, _⟩ := h; omega)
    rw [this]
    rfl
  | n + 1, h1, h2 => by
    rw [cb_s, cb_img (n := n) (fun i hi => h1 i (by omega)) (fun i j hi hj => h2 i j (by omega) (by omega))]
    have := cb_ch (P := fun k => P k ∧ ∃ i, i < n + 1 ∧ f i = k) (Q := fun k => P k ∧ ∃ i, i < n ∧ f i = k) (a := f n) (N := N) (h1 n (by omega)) (fun k hk hne => by
      constructor
      · rintro ⟨hp, i, hi, e⟩
        refine ⟨hp, i, ?_, e⟩
        rcases Nat.lt_or_ge i n with z | z
        · exact z
        · have : i = n := by omega
          subst this
          exact absurd e.symm hne
      · rintro ⟨hp, i, hi, e⟩
        exact ⟨hp, i, by omega, e⟩)
    have q1 : cb_b (P (f n) ∧ ∃ i, i < n ∧ f i = f n) = 0 := cb_f (by
      rintro ⟨_, i, hi, e⟩
      have := h2 i n (by omega) (by omega) e
      omega)
    have q2 : cb_b (P (f n) ∧ ∃ i, i < n + 1 ∧ f i = f n) = cb_b (P (f n)) := cb_iff ⟨fun h => h.1, fun h => ⟨h, n, by omega, rfl⟩⟩
    rw [q1, q2] at this
    omega
/-- the count splits at a place -/
theorem cb_cat {P : Nat → Prop} {a : Nat} : ∀ {b : Nat}, cb_n P (a + b) = cb_n P a + cb_n (fun k => P (a + k)) b
  | 0 => rfl
  | b + 1 => by
    show cb_n P (a + b) + cb_b (P (a + b)) = cb_n P a + (cb_n (fun k => P (a + k)) b + cb_b (P (a + b)))
    rw [cb_cat (b := b)]
    omega
theorem cb_srt : ∀ {l : List Nat} {m N : Nat}, l.Pairwise (· < ·) → (∀ x ∈ l, m ≤ x ∧ x < N) → l.length ≤ N - m
  | [], _, _, _, _ => Nat.zero_le _
  | x :: l, m, N, h, h2 => by
    have h3 := List.pairwise_cons.mp h
    have h4 := h2 x List.mem_cons_self
    have := cb_srt (l := l) (m := x + 1) (N := N) h3.2 (fun y hy => ⟨h3.1 y hy, (h2 y (List.mem_cons_of_mem _ hy)).2⟩)
    rw [List.length_cons]
    omega
section
variable {L a b : List tr_C} {e e' v : tr_C} {k : Nat}
theorem cb_inj (h : (L.map Prod.fst).Pairwise (· < ·)) (he : e ∈ L) (he' : e' ∈ L) (hk : e.1 = e'.1) : e = e' := by
  induction L with
  | nil => exact absurd he List.not_mem_nil
  | cons x L ih =>
    rw [List.map_cons, List.pairwise_cons] at h
    rcases List.mem_cons.mp he with q1 | q1
    · rcases List.mem_cons.mp he' with q2 | q2
      · rw [q1, q2]
      · have := h.1 _ (List.mem_map_of_mem (f := Prod.fst) q2)
        rw [q1] at hk
        omega
    · rcases List.mem_cons.mp he' with q2 | q2
      · have := h.1 _ (List.mem_map_of_mem (f := Prod.fst) q1)
        rw [q2] at hk
        omega
      · exact ih h.2 q1 q2
theorem cb_del (h : ((a ++ e :: b).map Prod.fst).Pairwise (· < ·)) : e' ∈ a ++ b ↔ e' ∈ a ++ e :: b ∧ e' ≠ e := by
  constructor
  · intro hm
    refine ⟨?_, ?_⟩
    · rcases List.mem_append.mp hm with q | q
      · exact List.mem_append_left _ q
      · exact List.mem_append_right _ (List.mem_cons_of_mem _ q)
    · intro eq
      subst eq
      rw [List.map_append, List.pairwise_append, List.map_cons, List.pairwise_cons] at h
      rcases List.mem_append.mp hm with q | q
      · have := h.2.2 _ (List.mem_map_of_mem (f := Prod.fst) q) e'.1 (by simp)
        omega
      · have := h.2.1.1 _ (List.mem_map_of_mem (f := Prod.fst) q)
        omega
  · rintro ⟨hm, hne⟩
    rcases List.mem_append.mp hm with q | q
    · exact List.mem_append_left _ q
    · rcases List.mem_cons.mp q with q | q
      · exact absurd q hne
      · exact List.mem_append_right _ q
theorem cb_add : e' ∈ a ++ v :: b ↔ e' = v ∨ e' ∈ a ++ b := by
  simp only [List.mem_append, List.mem_cons]
  constructor
  · rintro (h | h | h)
    · exact Or.inr (Or.inl h)
    · exact Or.inl h
    · exact Or.inr (Or.inr h)
  · rintro (h | h | h)
    · exact Or.inr (Or.inl h)
    · exact Or.inl h
    · exact Or.inr (Or.inr h)
/-- the last entry that isn't above k -/
theorem cb_flo (h : (L.map Prod.fst).Pairwise (· < ·)) (hL : L = a ++ e :: b) (hb : ∀ e' ∈ b, k < e'.1) (he' : e' ∈ L) (hk : e'.1 ≤ k) : e'.1 ≤ e.1 := by
  rw [hL] at he' h
  rcases List.mem_append.mp he' with q | q
  · rw [List.map_append, List.pairwise_append] at h
    have := h.2.2 _ (List.mem_map_of_mem (f := Prod.fst) q) e.1 (by simp)
    omega
  · rcases List.mem_cons.mp q with rfl | q
    · exact Nat.le_refl _
    · have := hb e' q
      omega
theorem cb_cei (h : (L.map Prod.fst).Pairwise (· < ·)) (hL : L = a ++ e :: b) (ha : ∀ e' ∈ a, e'.1 < k) (he' : e' ∈ L) (hk : k ≤ e'.1) : e.1 ≤ e'.1 := by
  rw [hL] at he' h
  rcases List.mem_append.mp he' with q | q
  · have := ha e' q
    omega
  · rcases List.mem_cons.mp q with rfl | q
    · exact Nat.le_refl _
    · rw [List.map_append, List.pairwise_append, List.map_cons, List.pairwise_cons] at h
      have := h.2.1.1 _ (List.mem_map_of_mem (f := Prod.fst) q)
      omega
end
end
section
/-! free rows -/
def fr_e (fr : Nat → Prop) (e : tr_C) : Prop :=
  e.2.1 = e.1 ∧ 1 ≤ e.2.2 ∧ e.1 + e.2.2 ≤ 96 ∧ (∀ p, e.1 ≤ p → p < e.1 + e.2.2 → fr p) ∧ (e.1 + e.2.2 < 96 → ¬ fr (e.1 + e.2.2)) ∧ (0 < e.1 → ¬ fr (e.1 - 1))
def fr_F (L : List tr_C) (fr : Nat → Prop) : Prop := (∀ e ∈ L, fr_e fr e) ∧ ∀ p, p < 96 → fr p → ∃ e ∈ L, e.1 ≤ p ∧ p < e.1 + e.2.2
section
variable {L L' a b : List tr_C} {e e' e0 el er v : tr_C} {fr fr' : Nat → Prop} {p st nn : Nat}
theorem fr_cg (h : fr_F L fr) (hq : ∀ q, q < 96 → (fr' q ↔ fr q)) : fr_F L fr' := by
  refine ⟨fun e he => ?_, fun p hp hf => h.2 p hp ((hq p hp).mp hf)⟩
  obtain ⟨h1, h2, h3, h4, h5, h6⟩ := h.1 e he
  exact ⟨h1, h2, h3, fun p q1 q2 => (hq p (by omega)).mpr (h4 p q1 q2), fun q z => h5 q ((hq _ q).mp z), fun q z => h6 q ((hq _ (by omega)).mp z)⟩
theorem fr_two (hs : (L.map Prod.fst).Pairwise (· < ·)) (h : fr_F L fr) : (L.map (fun e => e.1 / 2)).Pairwise (· < ·) := by
  rw [List.pairwise_map] at hs ⊢
  refine List.Pairwise.imp_of_mem (fun {x y} hx hy hxy => ?_) hs
  have h1 := h.1 x hx
  have h2 := h.1 y hy
  have q1 := h1.2.2.2.1 x.1 (Nat.le_refl _) (by have := h1.2.1; omega)
  have q2 := h2.2.2.2.2.2 (by omega)
  have : y.1 - 1 ≠ x.1 := by intro z; rw [z] at q2; exact q2 q1
  omega
theorem fr_len (hs : (L.map Prod.fst).Pairwise (· < ·)) (h : fr_F L fr) : L.length ≤ 48 := by
  have := cb_srt (m := 0) (N := 48) (fr_two hs h) (fun x hx => by
    obtain ⟨e, he, rfl⟩ := List.mem_map.mp hx
    have := h.1 e he
    have h3 := this.2.2.1
    have h2 := this.2.1
    show 0 ≤ e.1 / 2 ∧ e.1 / 2 < 48
    omega)
  rw [List.length_map] at this
  omega
/-- the floor is the row that holds p or ends there -/
theorem fr_flo (hs : (L.map Prod.fst).Pairwise (· < ·)) (h : fr_F L fr) (hL : L = a ++ e :: b) (hb : ∀ e' ∈ b, p < e'.1) (hp : e.1 ≤ p) (h0 : e0 ∈ L) (h1 : e0.1 ≤ p) (h2 : p ≤ e0.1 + e0.2.2) : e0 = e := by
  have hem : e ∈ L := by rw [hL]; simp
  have q := cb_flo hs hL hb h0 h1
  have f0 := h.1 e0 h0
  have f1 := h.1 e hem
  refine cb_inj hs h0 hem ?_
  rcases Nat.lt_or_ge e0.1 e.1 with z | z
  · exfalso
    exact f1.2.2.2.2.2 (by omega) (f0.2.2.2.1 (e.1 - 1) (by omega) (by omega))
  · omega
theorem fr_rel (hs : (L.map Prod.fst).Pairwise (· < ·)) (h : fr_F L fr) (hp : p < 96) (hn : ¬ fr p)
    (hl : (st = p ∧ (0 < p → ¬ fr (p - 1))) ∨ (∃ el ∈ L, el.1 + el.2.2 = p ∧ st = el.1))
    (hr : (st + nn = p + 1 ∧ (p + 1 < 96 → ¬ fr (p + 1))) ∨ (∃ er ∈ L, er.1 = p + 1 ∧ st + nn = er.1 + er.2.2))
    (hL : ∀ e, e ∈ L' ↔ e = (st, st, nn) ∨ (e ∈ L ∧ e.1 ≠ p + 1 ∧ e.1 + e.2.2 ≠ p)) : fr_F L' (fun q => fr q ∨ q = p) := by
  have hst : st ≤ p := by
    rcases hl with ⟨q, _⟩ | ⟨el, hm, q1, q2⟩ <;> omega
  have hen : p + 1 ≤ st + nn := by
    rcases hr with ⟨q, _⟩ | ⟨er, hm, q1, q2⟩
    · omega
    · have := h.1 er hm; omega
  have hle : ∀ q, st ≤ q → q < p → fr q := by
    intro q q1 q2
    rcases hl with ⟨z, _⟩ | ⟨el, hm, z1, z2⟩
    · omega
    · exact (h.1 el hm).2.2.2.1 q (by omega) (by omega)
  have hri : ∀ q, p < q → q < st + nn → fr q := by
    intro q q1 q2
    rcases hr with ⟨z, _⟩ | ⟨er, hm, z1, z2⟩
    · omega
    · exact (h.1 er hm).2.2.2.1 q (by omega) (by omega)
  have hend : st + nn ≤ 96 := by
    rcases hr with ⟨z, _⟩ | ⟨er, hm, z1, z2⟩
    · omega
    · have := (h.1 er hm).2.2.1; omega
  refine ⟨fun e he => ?_, fun q hq hf => ?_⟩
  · rcases (hL e).mp he with rfl | ⟨hm, n1, n2⟩
    · show st = st ∧ 1 ≤ nn ∧ st + nn ≤ 96 ∧ (∀ q, st ≤ q → q < st + nn → fr q ∨ q = p) ∧ (st + nn < 96 → ¬ (fr (st + nn) ∨ st + nn = p)) ∧ (0 < st → ¬ (fr (st - 1) ∨ st - 1 = p))
      refine ⟨rfl, by omega, hend, fun q q1 q2 => ?_, fun q z => ?_, fun q z => ?_⟩
      · rcases Nat.lt_trichotomy q p with z | z | z
        · exact Or.inl (hle q q1 z)
        · exact Or.inr z
        · exact Or.inl (hri q z q2)
      · rcases z with z | z
        · rcases hr with ⟨y, y2⟩ | ⟨er, hm, y1, y2⟩
          · rw [y] at z q; exact y2 q z
          · rw [y2] at z q; exact (h.1 er hm).2.2.2.2.1 q z
        · omega
      · rcases z with z | z
        · rcases hl with ⟨y, y2⟩ | ⟨el, hm, y1, y2⟩
          · rw [y] at z q; exact y2 q z
          · rw [y2] at z q; exact (h.1 el hm).2.2.2.2.2 q z
        · omega
    · obtain ⟨h1, h2, h3, h4, h5, h6⟩ := h.1 e hm
      refine ⟨h1, h2, h3, fun q q1 q2 => Or.inl (h4 q q1 q2), fun q z => ?_, fun q z => ?_⟩
      · rcases z with z | z
        · exact h5 q z
        · exact n2 z
      · rcases z with z | z
        · exact h6 q z
        · omega
  · have new : ((st, st, nn) : tr_C) ∈ L' := (hL _).mpr (Or.inl rfl)
    rcases hf with hf | hf
    · obtain ⟨e, hm, q1, q2⟩ := h.2 q hq hf
      by_cases n1 : e.1 = p + 1
      · refine ⟨_, new, ?_, ?_⟩
        · show st ≤ q; omega
        · show q < st + nn
          rcases hr with ⟨y, y2⟩ | ⟨er, hm2, y1, y2⟩
          · exfalso
            have := h.1 e hm
            exact y2 (by omega) (by rw [← n1]; exact this.2.2.2.1 e.1 (Nat.le_refl _) (by have := this.2.1; omega))
          · have := cb_inj hs hm hm2 (by omega)
            rw [this] at q2; omega
      · by_cases n2 : e.1 + e.2.2 = p
        · refine ⟨_, new, ?_, ?_⟩
          · show st ≤ q
            rcases hl with ⟨y, y2⟩ | ⟨el, hm2, y1, y2⟩
            · exfalso
              have := h.1 e hm
              exact y2 (by omega) (this.2.2.2.1 (p - 1) (by have := this.2.1; omega) (by have := this.2.1; omega))
            · have f1 := h.1 e hm
              have f2 := h.1 el hm2
              have : e.1 = el.1 := by
                rcases Nat.lt_trichotomy e.1 el.1 with z | z | z
                · exfalso
                  exact f2.2.2.2.2.2 (by omega) (f1.2.2.2.1 (el.1 - 1) (by omega) (by have := f2.2.1; omega))
                · exact z
                · exfalso
                  exact f1.2.2.2.2.2 (by omega) (f2.2.2.2.1 (e.1 - 1) (by omega) (by have := f1.2.1; omega))
              omega
          · show q < st + nn; omega
        · exact ⟨e, (hL e).mpr (Or.inr ⟨hm, n1, n2⟩), q1, q2⟩
    · subst hf
      exact ⟨_, new, hst, by show q < st + nn; omega⟩
theorem fr_occ (hs : (L.map Prod.fst).Pairwise (· < ·)) (h : fr_F L fr) (he : e ∈ L) (h1 : e.1 ≤ p) (h2 : p < e.1 + e.2.2)
    (hL : ∀ x, x ∈ L' ↔ (x ∈ L ∧ x ≠ e) ∨ (e.1 < p ∧ x = (e.1, e.1, p - e.1)) ∨ (p + 1 < e.1 + e.2.2 ∧ x = (p + 1, p + 1, e.1 + e.2.2 - p - 1))) : fr_F L' (fun q => fr q ∧ q ≠ p) := by
  obtain ⟨g1, g2, g3, g4, g5, g6⟩ := h.1 e he
  refine ⟨fun x hx => ?_, fun q hq hf => ?_⟩
  · rcases (hL x).mp hx with ⟨hm, hne⟩ | ⟨hlt, rfl⟩ | ⟨hlt, rfl⟩
    · obtain ⟨k1, k2, k3, k4, k5, k6⟩ := h.1 x hm
      refine ⟨k1, k2, k3, fun q q1 q2 => ⟨k4 q q1 q2, ?_⟩, fun q z => k5 q z.1, fun q z => k6 q z.1⟩
      intro z
      subst z
      -- x and e both hold p
      refine hne (cb_inj hs hm he ?_)
      rcases Nat.lt_trichotomy x.1 e.1 with z | z | z
      · exfalso
        exact g6 (by omega) (k4 (e.1 - 1) (by omega) (by omega))
      · exact z
      · exfalso
        exact k6 (by omega) (g4 (x.1 - 1) (by omega) (by omega))
    · show e.1 = e.1 ∧ 1 ≤ p - e.1 ∧ e.1 + (p - e.1) ≤ 96 ∧ (∀ q, e.1 ≤ q → q < e.1 + (p - e.1) → fr q ∧ q ≠ p) ∧ (e.1 + (p - e.1) < 96 → ¬ (fr (e.1 + (p - e.1)) ∧ e.1 + (p - e.1) ≠ p)) ∧ (0 < e.1 → ¬ (fr (e.1 - 1) ∧ e.1 - 1 ≠ p))
      exact ⟨rfl, by omega, by omega, fun q q1 q2 => ⟨g4 q q1 (by omega), by omega⟩, fun q z => z.2 (by omega), fun q z => g6 q z.1⟩
    · show p + 1 = p + 1 ∧ 1 ≤ e.1 + e.2.2 - p - 1 ∧ p + 1 + (e.1 + e.2.2 - p - 1) ≤ 96 ∧ (∀ q, p + 1 ≤ q → q < p + 1 + (e.1 + e.2.2 - p - 1) → fr q ∧ q ≠ p) ∧ (p + 1 + (e.1 + e.2.2 - p - 1) < 96 → ¬ (fr (p + 1 + (e.1 + e.2.2 - p - 1)) ∧ p + 1 + (e.1 + e.2.2 - p - 1) ≠ p)) ∧ (0 < p + 1 → ¬ (fr (p + 1 - 1) ∧ p + 1 - 1 ≠ p))
      have ee : p + 1 + (e.1 + e.2.2 - p - 1) = e.1 + e.2.2 := by omega
      rw [ee]
      exact ⟨rfl, by omega, g3, fun q q1 q2 => ⟨g4 q (by omega) q2, by omega⟩, fun q z => g5 q z.1, fun q z => z.2 (by omega)⟩
  · obtain ⟨x, hm, q1, q2⟩ := h.2 q hq hf.1
    have hqp := hf.2
    by_cases hxe : x = e
    · subst hxe
      rcases Nat.lt_or_ge q p with z | z
      · exact ⟨(x.1, x.1, p - x.1), (hL _).mpr (Or.inr (Or.inl ⟨by omega, rfl⟩)), q1, by show q < x.1 + (p - x.1); omega⟩
      · exact ⟨(p + 1, p + 1, x.1 + x.2.2 - p - 1), (hL _).mpr (Or.inr (Or.inr ⟨by omega, rfl⟩)), by show p + 1 ≤ q; omega, by show q < p + 1 + (x.1 + x.2.2 - p - 1); omega⟩
    · exact ⟨x, (hL x).mpr (Or.inl ⟨hm, hxe⟩), q1, q2⟩
end
end
section
/-! release, occupy -/
theorem n_cl {n : Nat} (h : n < 2 ^ 31) : (nI n).toNatClampNeg = n := nI_clamp h
theorem n_one : ¬ (1 : Int32) = 0 := by decide
theorem cb_mem {α : Type} {l : List α} {x : α} (h : x ∈ l) : ∃ a b, l = a ++ x :: b := by
  obtain ⟨s, t, e⟩ := List.append_of_mem h
  exact ⟨s, t, e⟩
def fx_R (un : Int32) (ke fi si us le nx ro : Nat → Int32) (L0 : List tr_C) (fr : Nat → Prop) : Prop := ∃ L1, ts_W 1 un ke fi si us le nx ro L1 L0 ∧ fr_F L1 fr
section
variable {g md ll un dp : Int32} {da nw hd ct bf th lg ws il ke fi si us le nx ro pa sl : Nat → Int32}
variable {p st nn k : Nat} {L L0 : List tr_C} {fr : Nat → Prop} {e : tr_C}
theorem xr_ins {post : SX → Prop} (h : ts_W 1 un ke fi si us le nx ro L L0) (hL : L.length ≤ 50) (h0 : L0.length ≤ 300) (h1 : st < 32768) (h2 : nn < 128) (hnk : ∀ e ∈ L, e.1 ≠ st)
    (K : ∀ L' un' dp' ke' fi' si' us' le' nx' ro' pa' sl', ts_W 1 un' ke' fi' si' us' le' nx' ro' L' L0 → (∀ e, e ∈ L' ↔ e = (st, st, nn) ∨ e ∈ L) → post (g, md, ll, un', dp', da, nw, hd, ct, bf, th, lg, ws, il, ke', fi', si', us', le', nx', ro', pa', sl')) :
    wpX_insert post (g, md, ll, un, dp, da, nw, hd, ct, bf, th, lg, ws, il, ke, fi, si, us, le, nx, ro, pa, sl) 1 (nI st) (nI st) (nI nn) := by
  refine ty_insert (t := 1) (by omega) h (by omega) h1 h1 h2 hnk ?_
  intro a b hab ha hb un' dp' ke' fi' si' us' le' nx' ro' pa' sl' hW
  refine K _ _ _ _ _ _ _ _ _ _ _ _ hW (fun e => ?_)
  rw [hab]
  exact cb_add
theorem xr_rem {post : SX → Prop} (h : ts_W 1 un ke fi si us le nx ro L L0) (hL : L.length ≤ 50) (he : ∃ e ∈ L, e.1 = k) (hk : k < 32768)
    (K : ∀ L' un' dp' ke' fi' si' us' le' nx' ro' pa' sl', ts_W 1 un' ke' fi' si' us' le' nx' ro' L' L0 → (∀ e, e ∈ L' ↔ e ∈ L ∧ e.1 ≠ k) → L'.length ≤ L.length → post (g, md, ll, un', dp', da, nw, hd, ct, bf, th, lg, ws, il, ke', fi', si', us', le', nx', ro', pa', sl')) :
    wpX_remove post (g, md, ll, un, dp, da, nw, hd, ct, bf, th, lg, ws, il, ke, fi, si, us, le, nx, ro, pa, sl) 1 (nI k) := by
  obtain ⟨e, hm, rfl⟩ := he
  obtain ⟨a, b, rfl⟩ := cb_mem hm
  have hs := ts_W_srt h
  refine ty_remove (t := 1) (by omega) h (by omega) hk ?_
  intro un' dp' ke' fi' si' us' le' nx' ro' pa' sl' hW
  refine K _ _ _ _ _ _ _ _ _ _ _ _ hW (fun e' => ?_) (by simp)
  rw [cb_del hs]
  constructor
  · rintro ⟨q1, q2⟩
    exact ⟨q1, fun z => q2 (cb_inj hs q1 hm z)⟩
  · rintro ⟨q1, q2⟩
    exact ⟨q1, fun z => q2 (by rw [z])⟩
theorem xr_133 {post : SX → Prop} {x3 : Int32} (h : ts_W 1 un ke fi si us le nx ro L L0) (hL : L.length ≤ 50) (h0 : L0.length ≤ 300) (h1 : st < 32768) (h2 : nn < 128) (hf : (x3 = 0 ∧ ∀ e ∈ L, e.1 ≠ st) ∨ (x3 = 1 ∧ ∃ e ∈ L, e.1 = st))
    (K : ∀ L' un' dp' ke' fi' si' us' le' nx' ro' pa' sl', ts_W 1 un' ke' fi' si' us' le' nx' ro' L' L0 → (∀ e, e ∈ L' ↔ e = (st, st, nn) ∨ (e ∈ L ∧ e.1 ≠ st)) → post (g, md, ll, un', dp', da, nw, hd, ct, bf, th, lg, ws, il, ke', fi', si', us', le', nx', ro', pa', sl')) :
    wX_release_133 post x3 (nI st) (nI nn) g md ll un dp da nw hd ct bf th lg ws il ke fi si us le nx ro pa sl := by
  unfold wX_release_133
  rcases hf with ⟨rfl, hf⟩ | ⟨rfl, hf⟩
  · refine br_t rfl ?_
    unfold wX_release_144
    refine xr_ins h hL h0 h1 h2 hf ?_
    intro L' un' dp' ke' fi' si' us' le' nx' ro' pa' sl' hW hm
    refine K _ _ _ _ _ _ _ _ _ _ _ _ hW (fun e => ?_)
    rw [hm]
    exact ⟨fun q => q.imp id (fun z => ⟨z, hf e z⟩), fun q => q.imp id (fun z => z.1)⟩
  · refine br_f n_one ?_
    refine xr_rem h hL hf h1 ?_
    intro L2 un dp ke fi si us le nx ro pa sl hW2 hm2 hl2
    show wX_release_144 _ _ _ g md ll un dp da nw hd ct bf th lg ws il ke fi si us le nx ro pa sl
    unfold wX_release_144
    refine xr_ins hW2 (by omega) h0 h1 h2 (fun e he => ((hm2 e).mp he).2) ?_
    intro L' un' dp' ke' fi' si' us' le' nx' ro' pa' sl' hW hm
    refine K _ _ _ _ _ _ _ _ _ _ _ _ hW (fun e => ?_)
    rw [hm, hm2]
theorem xr_120 {post : SX → Prop} {x3 x7 : Int32} (h : ts_W 1 un ke fi si us le nx ro L L0) (hL : L.length ≤ 50) (h0 : L0.length ≤ 300) (h1 : st < 32768) (h2 : nn < 128) (hp : p < 96) (hst : st ≤ p)
    (hf : (x3 = 0 ∧ ∀ e ∈ L, e.1 ≠ st) ∨ (x3 = 1 ∧ ∃ e ∈ L, e.1 = st)) (hg : (x7 = 0 ∧ ∀ e ∈ L, e.1 ≠ p + 1) ∨ (x7 = 1 ∧ ∃ e ∈ L, e.1 = p + 1))
    (K : ∀ L' un' dp' ke' fi' si' us' le' nx' ro' pa' sl', ts_W 1 un' ke' fi' si' us' le' nx' ro' L' L0 → (∀ e, e ∈ L' ↔ e = (st, st, nn) ∨ (e ∈ L ∧ e.1 ≠ st ∧ e.1 ≠ p + 1)) → post (g, md, ll, un', dp', da, nw, hd, ct, bf, th, lg, ws, il, ke', fi', si', us', le', nx', ro', pa', sl')) :
    wX_release_120 post (nI p) x3 (nI st) (nI nn) x7 g md ll un dp da nw hd ct bf th lg ws il ke fi si us le nx ro pa sl := by
  unfold wX_release_120
  rcases hg with ⟨rfl, hg⟩ | ⟨rfl, hg⟩
  · refine br_t rfl ?_
    refine xr_133 h hL h0 h1 h2 hf ?_
    intro L' un' dp' ke' fi' si' us' le' nx' ro' pa' sl' hW hm
    refine K _ _ _ _ _ _ _ _ _ _ _ _ hW (fun e => ?_)
    rw [hm]
    exact ⟨fun q => q.imp id (fun z => ⟨z.1, z.2, hg e z.1⟩), fun q => q.imp id (fun z => ⟨z.1, z.2.1⟩)⟩
  · refine br_f n_one ?_
    rw [nI_1]
    refine xr_rem h hL hg (by omega) ?_
    intro L2 un dp ke fi si us le nx ro pa sl hW2 hm2 hl2
    show wX_release_133 _ _ _ _ g md ll un dp da nw hd ct bf th lg ws il ke fi si us le nx ro pa sl
    refine xr_133 hW2 (by omega) h0 h1 h2 ?_ ?_
    · rcases hf with ⟨q, z⟩ | ⟨q, e, z1, z2⟩
      · exact Or.inl ⟨q, fun e he => z e ((hm2 e).mp he).1⟩
      · exact Or.inr ⟨q, e, (hm2 e).mpr ⟨z1, by omega⟩, z2⟩
    · intro L' un' dp' ke' fi' si' us' le' nx' ro' pa' sl' hW hm
      refine K _ _ _ _ _ _ _ _ _ _ _ _ hW (fun e => ?_)
      rw [hm, hm2]
      exact ⟨fun q => q.imp id (fun z => ⟨z.1.1, z.2, z.1.2⟩), fun q => q.imp id (fun z => ⟨⟨z.1, z.2.2⟩, z.2.1⟩)⟩
theorem xr_66 {post : SX → Prop} {x3 : Int32} {n1 : Nat} (h : ts_W 1 un ke fi si us le nx ro L L0) (hF : fr_F L fr) (h0 : L0.length ≤ 300) (hp : p < 96) (hnp : ¬ fr p) (hst : st ≤ p) (hn1 : st + n1 = p + 1)
    (hf : (x3 = 0 ∧ st = p ∧ (0 < p → ¬ fr (p - 1))) ∨ (x3 = 1 ∧ ∃ el ∈ L, el.1 + el.2.2 = p ∧ st = el.1))
    (K : ∀ un' dp' ke' fi' si' us' le' nx' ro' pa' sl', fx_R un' ke' fi' si' us' le' nx' ro' L0 (fun q => fr q ∨ q = p) → post (g, md, ll, un', dp', da, nw, hd, ct, bf, th, lg, ws, il, ke', fi', si', us', le', nx', ro', pa', sl')) :
    wX_release_66 post (nI p) x3 (nI st) (nI n1) g md ll un dp da nw hd ct bf th lg ws il ke fi si us le nx ro pa sl := by
  have hs := ts_W_srt h
  have hlen := fr_len hs hF
  -- left in terms of keys
  have hf2 : (x3 = 0 ∧ ∀ e ∈ L, e.1 ≠ st) ∨ (x3 = 1 ∧ ∃ e ∈ L, e.1 = st) := by
    rcases hf with ⟨q, z, _⟩ | ⟨q, el, z1, z2, z3⟩
    · refine Or.inl ⟨q, fun e he z2 => hnp ?_⟩
      have := hF.1 e he
      rw [z] at z2
      rw [← z2]
      exact this.2.2.2.1 e.1 (Nat.le_refl _) (by have := this.2.1; omega)
    · exact Or.inr ⟨q, el, z1, z3.symm⟩
  have hl : (st = p ∧ (0 < p → ¬ fr (p - 1))) ∨ (∃ el ∈ L, el.1 + el.2.2 = p ∧ st = el.1) := by
    rcases hf with ⟨_, z⟩ | ⟨_, z⟩
    · exact Or.inl z
    · exact Or.inr z
  have hleft : ∀ e ∈ L, (e.1 ≠ st ↔ e.1 + e.2.2 ≠ p) := by
    intro e he
    have fe := hF.1 e he
    rcases hl with ⟨z, z2⟩ | ⟨el, z1, z2, z3⟩
    · constructor
      · intro _ q
        exact z2 (by have := fe.2.1; omega) (fe.2.2.2.1 (p - 1) (by have := fe.2.1; omega) (by have := fe.2.1; omega))
      · intro _ q
        rw [z] at q
        exact hnp (by rw [← q]; exact fe.2.2.2.1 e.1 (Nat.le_refl _) (by have := fe.2.1; omega))
    · have fl := hF.1 el z1
      constructor
      · intro q1 q2
        rcases Nat.lt_trichotomy e.1 el.1 with z | z | z
        · exact fl.2.2.2.2.2 (by omega) (fe.2.2.2.1 (el.1 - 1) (by omega) (by have := fl.2.1; omega))
        · omega
        · exact fe.2.2.2.2.2 (by omega) (fl.2.2.2.1 (e.1 - 1) (by omega) (by have := fe.2.1; omega))
      · intro q1 q2
        have := cb_inj hs he z1 (by omega)
        rw [this] at q1
        exact q1 z2
  have fin : ∀ nn x7, ((x7 = 0 ∧ (∀ e ∈ L, e.1 ≠ p + 1) ∧ nn = n1) ∨ (x7 = 1 ∧ ∃ er ∈ L, er.1 = p + 1 ∧ nn = n1 + er.2.2)) → ∀ dp pa sl, wX_release_120 post (nI p) x3 (nI st) (nI nn) x7 g md ll un dp da nw hd ct bf th lg ws il ke fi si us le nx ro pa sl := by
    intro nn x7 hg dp pa sl
    have hnn : nn < 128 := by
      rcases hg with ⟨_, _, q⟩ | ⟨_, er, q1, q2, q3⟩
      · omega
      · have := (hF.1 er q1).2.2.1; omega
    refine xr_120 h (by omega) h0 (by omega) hnn hp hst hf2 ?_ ?_
    · rcases hg with ⟨q, z, _⟩ | ⟨q, er, z1, z2, _⟩
      · exact Or.inl ⟨q, z⟩
      · exact Or.inr ⟨q, er, z1, z2⟩
    · intro L' un' dp' ke' fi' si' us' le' nx' ro' pa' sl' hW hm
      refine K _ _ _ _ _ _ _ _ _ _ _ ⟨L', hW, fr_rel (st := st) (nn := nn) hs hF hp hnp hl ?_ ?_⟩
      · rcases hg with ⟨_, z, q⟩ | ⟨_, er, z1, z2, z3⟩
        · refine Or.inl ⟨by omega, fun q1 q2 => ?_⟩
          obtain ⟨e, he, y1, y2⟩ := hF.2 (p + 1) q1 q2
          have fe := hF.1 e he
          rcases Nat.lt_or_ge e.1 (p + 1) with y3 | y3
          · exact hnp (fe.2.2.2.1 p (by omega) (by omega))
          · exact z e he (by omega)
        · exact Or.inr ⟨er, z1, z2, by omega⟩
      · intro e
        rw [hm]
        constructor
        · rintro (q | ⟨q1, q2, q3⟩)
          · exact Or.inl q
          · exact Or.inr ⟨q1, q3, (hleft e q1).mp q2⟩
        · rintro (q | ⟨q1, q2, q3⟩)
          · exact Or.inl q
          · exact Or.inr ⟨q1, (hleft e q1).mpr q3, q2⟩
  unfold wX_release_66
  rw [nI_1]
  refine ty_ceiling (t := 1) (by omega) h (by omega) (by omega) ?_ ?_
  · intro hall dp pa sl
    refine br_t n_neg ?_
    show wX_release_101 _ _ _ _ _ _ 0 g md ll un dp da nw hd ct bf th lg ws il ke fi si us le nx ro pa sl
    exact br_t rfl (fin n1 0 (Or.inl ⟨rfl, fun e he z => by have := hall e he; omega, rfl⟩) dp pa sl)
  · intro cell a e b hA hke hka dp pa sl
    have hc := ts_At_lt hA
    have ce := ts_At_ce hA
    have hL := ts_At_L hA
    have hem : e ∈ L := by rw [hL]; simp
    have fe := hF.1 e hem
    refine br_f (nI_pos (by omega)) ⟨vp_in_nI hc (by omega), ?_⟩
    rw [n_cl (by omega : cell < 2 ^ 31), ce.1]
    refine pk_eq e.1 (p + 1) (fun z => ?_) (fun z => ?_) rfl rfl (by have := fe.2.2.1; omega) (by omega)
    · refine br_f n_one ⟨vp_in_nI hc (by omega), ?_⟩
      rw [n_cl (by omega : cell < 2 ^ 31), ce.2.2.1, nI_add]
      exact nm_e (fin (n1 + e.2.2) 1 (Or.inr ⟨rfl, e, hem, z, rfl⟩) dp pa sl)
    · show wX_release_101 _ _ _ _ _ _ 0 g md ll un dp da nw hd ct bf th lg ws il ke fi si us le nx ro pa sl
      refine br_t rfl (fin n1 0 (Or.inl ⟨rfl, fun e' he' z2 => z ?_, rfl⟩) dp pa sl)
      have := cb_cei hs hL hka he' (by omega)
      omega
theorem xr_release {post : SX → Prop} (h : fx_R un ke fi si us le nx ro L0 fr) (h0 : L0.length ≤ 300) (hp : p < 96) (hnp : ¬ fr p)
    (K : ∀ un' dp' ke' fi' si' us' le' nx' ro' pa' sl', fx_R un' ke' fi' si' us' le' nx' ro' L0 (fun q => fr q ∨ q = p) → post (g, md, ll, un', dp', da, nw, hd, ct, bf, th, lg, ws, il, ke', fi', si', us', le', nx', ro', pa', sl')) :
    wpX_release post (g, md, ll, un, dp, da, nw, hd, ct, bf, th, lg, ws, il, ke, fi, si, us, le, nx, ro, pa, sl) (nI p) := by
  obtain ⟨L, hW, hF⟩ := h
  have hs := ts_W_srt hW
  have hlen := fr_len hs hF
  unfold wpX_release
  refine ty_floor (t := 1) (by omega) hW (by omega) (by omega) ?_ ?_
  · intro hall dp pa sl
    refine br_t n_neg ?_
    show wX_release_33 _ _ _ 0 g md ll un dp da nw hd ct bf th lg ws il ke fi si us le nx ro pa sl
    refine br_t rfl ?_
    show wX_release_48 _ _ _ 0 (nI p) g md ll un dp da nw hd ct bf th lg ws il ke fi si us le nx ro pa sl
    refine br_t rfl ?_
    refine xr_66 (n1 := 1) hW hF h0 hp hnp (Nat.le_refl _) rfl (Or.inl ⟨rfl, rfl, fun q z => ?_⟩) K
    obtain ⟨e, he, y1, y2⟩ := hF.2 (p - 1) (by omega) z
    have := hall e he
    omega
  · intro cell a e b hA hek hb dp pa sl
    have hc := ts_At_lt hA
    have ce := ts_At_ce hA
    have hL := ts_At_L hA
    have hem : e ∈ L := by rw [hL]; simp
    have fe := hF.1 e hem
    have ic : vp_in (nI cell) 1170 := vp_in_nI hc (by omega)
    have ec : (nI cell).toNatClampNeg = cell := n_cl (by omega)
    have fe1 := fe.2.1
    have fe2 := fe.2.2.1
    refine br_f (nI_pos (by omega)) ⟨ic, ic, ?_⟩
    rw [ec, ce.1, ce.2.2.1, nI_add]
    refine pk_eq (e.1 + e.2.2) p (fun z => ?_) (fun z => ?_) rfl rfl (by omega) (by omega)
    · refine br_f n_one ⟨ic, ?_⟩
      rw [ec, ce.1]
      refine br_f n_one ⟨ic, ?_⟩
      rw [ec, ce.2.2.1, nI_1]
      exact xr_66 (n1 := e.2.2 + 1) hW hF h0 hp hnp (by omega) (by omega) (Or.inr ⟨rfl, e, hem, z, rfl⟩) K
    · show wX_release_33 _ _ _ 0 g md ll un dp da nw hd ct bf th lg ws il ke fi si us le nx ro pa sl
      refine br_t rfl ?_
      show wX_release_48 _ _ _ 0 (nI p) g md ll un dp da nw hd ct bf th lg ws il ke fi si us le nx ro pa sl
      refine br_t rfl ?_
      refine xr_66 (n1 := 1) hW hF h0 hp hnp (Nat.le_refl _) rfl (Or.inl ⟨rfl, rfl, fun q z2 => ?_⟩) K
      obtain ⟨e0, he0, y1, y2⟩ := hF.2 (p - 1) (by omega) z2
      have f0 := hF.1 e0 he0
      have : e0.1 + e0.2.2 = p := by
        rcases Nat.lt_or_ge p (e0.1 + e0.2.2) with y3 | y3
        · exact absurd (f0.2.2.2.1 p (by omega) y3) hnp
        · omega
      have e0e := fr_flo hs hF hL hb hek he0 (by omega) (by omega)
      rw [e0e] at this
      exact z this
theorem xr_occupy {post : SX → Prop} (h : fx_R un ke fi si us le nx ro L0 fr) (h0 : L0.length ≤ 300) (hp : p < 96) (hfp : fr p)
    (K : ∀ un' dp' ke' fi' si' us' le' nx' ro' pa' sl', fx_R un' ke' fi' si' us' le' nx' ro' L0 (fun q => fr q ∧ q ≠ p) → post (g, md, ll, un', dp', da, nw, hd, ct, bf, th, lg, ws, il, ke', fi', si', us', le', nx', ro', pa', sl')) :
    wpX_occupy post (g, md, ll, un, dp, da, nw, hd, ct, bf, th, lg, ws, il, ke, fi, si, us, le, nx, ro, pa, sl) (nI p) := by
  obtain ⟨L, hW, hF⟩ := h
  have hs := ts_W_srt hW
  have hlen := fr_len hs hF
  obtain ⟨e0, he0, y1, y2⟩ := hF.2 p hp hfp
  unfold wpX_occupy
  refine ty_floor (t := 1) (by omega) hW (by omega) (by omega) ?_ ?_
  · intro hall dp pa sl
    have := hall e0 he0
    omega
  · intro cell a e b hA hek hb dp pa sl
    have hc := ts_At_lt hA
    have ce := ts_At_ce hA
    have hL := ts_At_L hA
    have hem : e ∈ L := by rw [hL]; simp
    have e0e := fr_flo hs hF hL hb hek he0 y1 (by omega)
    subst e0e
    have fe := hF.1 e0 hem
    have ic : vp_in (nI cell) 1170 := vp_in_nI hc (by omega)
    have ec : (nI cell).toNatClampNeg = cell := n_cl (by omega)
    have fe1 := fe.2.1
    have fe2 := fe.2.2.1
    refine ⟨ic, ?_⟩
    rw [ec, ce.1]
    refine nm_e ⟨ic, ?_⟩
    rw [ce.2.2.1, nI_add]
    refine nm_e ?_
    refine xr_rem hW (by omega) ⟨e0, hem, rfl⟩ (by omega) ?_
    intro L2 un dp ke fi si us le nx ro pa sl hW2 hm2 hl2
    have hm2' : ∀ x, x ∈ L2 ↔ x ∈ L ∧ x ≠ e0 := fun x => by
      rw [hm2]
      constructor
      · rintro ⟨q1, q2⟩
        exact ⟨q1, fun z => q2 (by rw [z])⟩
      · rintro ⟨q1, q2⟩
        exact ⟨q1, fun z => q2 (cb_inj hs q1 hem z)⟩
    -- the right rest
    have fin : ∀ (L3 : List tr_C) (un dp : Int32) (ke fi si us le nx ro pa sl : Nat → Int32), ts_W 1 un ke fi si us le nx ro L3 L0 → L3.length ≤ 50 → (∀ x, x ∈ L3 ↔ (x ∈ L ∧ x ≠ e0) ∨ (e0.1 < p ∧ x = (e0.1, e0.1, p - e0.1))) → wX_occupy_45 post (nI p) (nI (e0.1 + e0.2.2)) g md ll un dp da nw hd ct bf th lg ws il ke fi si us le nx ro pa sl := by
      intro L3 un dp ke fi si us le nx ro pa sl hW3 hl3 hm3
      unfold wX_occupy_45
      rw [nI_1]
      refine pk_le (e0.1 + e0.2.2) (p + 1) (fun z => ?_) (fun z => ?_) rfl rfl (by omega) (by omega)
      · refine K _ _ _ _ _ _ _ _ _ _ _ ⟨L3, hW3, fr_occ hs hF hem y1 y2 (fun x => ?_)⟩
        rw [hm3]
        constructor
        · rintro (q | q)
          · exact Or.inl q
          · exact Or.inr (Or.inl q)
        · rintro (q | q | q)
          · exact Or.inl q
          · exact Or.inr q
          · omega
      · have e5 : nI (e0.1 + e0.2.2) - nI p - 1 = nI (e0.1 + e0.2.2 - p - 1) := by
          rw [pk_sub (by omega), n_m1 (by omega)]
        rw [e5]
        refine xr_ins hW3 hl3 h0 (by omega) (by omega) (fun x hx z2 => ?_) ?_
        · rcases (hm3 x).mp hx with ⟨q1, q2⟩ | ⟨q1, q2⟩
          · have fx := hF.1 x q1
            have g1 := fx.2.2.2.2.2 (by omega)
            rw [z2] at g1
            exact g1 hfp
          · rw [q2] at z2
            have z3 : e0.1 = p + 1 := z2
            omega
        · intro L' un' dp' ke' fi' si' us' le' nx' ro' pa' sl' hW' hm'
          refine K _ _ _ _ _ _ _ _ _ _ _ ⟨L', hW', fr_occ hs hF hem y1 y2 (fun x => ?_)⟩
          rw [hm', hm3]
          constructor
          · rintro (q | q | q)
            · exact Or.inr (Or.inr ⟨by omega, q⟩)
            · exact Or.inl q
            · exact Or.inr (Or.inl q)
          · rintro (q | q | q)
            · exact Or.inr (Or.inl q)
            · exact Or.inr (Or.inr q)
            · exact Or.inl q.2
    show ((nI p ≤ nI e0.1 → wX_occupy_45 post (nI p) (nI (e0.1 + e0.2.2)) g md ll un dp da nw hd ct bf th lg ws il ke fi si us le nx ro pa sl) ∧ (¬ nI p ≤ nI e0.1 → wpX_insert (fun u => match u with | (g, md, ll, un, dp, da, nw, hd, ct, bf, th, lg, ws, il, ke, fi, si, us, le, nx, ro, pa, sl) => wX_occupy_45 post (nI p) (nI (e0.1 + e0.2.2)) g md ll un dp da nw hd ct bf th lg ws il ke fi si us le nx ro pa sl) (g, md, ll, un, dp, da, nw, hd, ct, bf, th, lg, ws, il, ke, fi, si, us, le, nx, ro, pa, sl) 1 (nI e0.1) (nI e0.1) (nI p - nI e0.1)))
    refine pk_le p e0.1 (fun z => ?_) (fun z => ?_) rfl rfl (by omega) (by omega)
    · refine fin L2 _ _ _ _ _ _ _ _ _ _ _ hW2 (by omega) (fun x => ?_)
      rw [hm2']
      exact ⟨fun q => Or.inl q, fun q => q.elim id (fun z2 => by omega)⟩
    · rw [pk_sub (by omega)]
      refine xr_ins hW2 (by omega) h0 (by omega) (by omega) (fun x hx => ((hm2 x).mp hx).2) ?_
      intro L' un dp ke fi si us le nx ro pa sl hW' hm'
      have hs2 := ts_W_srt hW'
      refine fin L' _ _ _ _ _ _ _ _ _ _ _ hW' ?_ (fun x => ?_)
      · have := cb_srt (l := L'.map (fun e => e.1 / 2)) (m := 0) (N := 48) ?_ ?_
        · rw [List.length_map] at this; omega
        · rw [List.pairwise_map] at hs2 ⊢
          refine List.Pairwise.imp_of_mem (fun {x y} hx hy hxy => ?_) hs2
          have keyfr : ∀ x ∈ L', fr x.1 ∧ (0 < x.1 → ¬ fr (x.1 - 1)) := by
            intro x hx
            rcases (hm' x).mp hx with q | q
            · rw [q]
              exact ⟨fe.2.2.2.1 e0.1 (Nat.le_refl _) (by omega), fe.2.2.2.2.2⟩
            · have fx := hF.1 x ((hm2 x).mp q).1
              exact ⟨fx.2.2.2.1 x.1 (Nat.le_refl _) (by have := fx.2.1; omega), fx.2.2.2.2.2⟩
          have q1 := (keyfr x hx).1
          have q2 := (keyfr y hy).2 (by omega)
          have : y.1 - 1 ≠ x.1 := by intro z; rw [z] at q2; exact q2 q1
          omega
        · intro v hv
          obtain ⟨x, hx, rfl⟩ := List.mem_map.mp hv
          show 0 ≤ x.1 / 2 ∧ x.1 / 2 < 48
          rcases (hm' x).mp hx with q | q
          · rw [q]
            show 0 ≤ e0.1 / 2 ∧ e0.1 / 2 < 48
            omega
          · have fx := hF.1 x ((hm2 x).mp q).1
            have := fx.2.1
            have := fx.2.2.1
            omega
      · rw [hm', hm2']
        constructor
        · rintro (q | q)
          · exact Or.inr ⟨by omega, q⟩
          · exact Or.inl q
        · rintro (q | q)
          · exact Or.inr q
          · exact Or.inl q.2
end
end
section
/-! references and free blocks -/
def fre (nw hd : Nat → Int32) (q : Nat) : Prop := nw q = 0 ∧ hd q = 0
section
variable {g md ll un dp : Int32} {da nw hd ct bf th lg ws il ke fi si us le nx ro pa sl : Nat → Int32}
variable {p c c' : Nat} {L L0 : List tr_C} {fr : Nat → Prop} {e : tr_C}
theorem xr_cg {fr' : Nat → Prop} (h : fx_R un ke fi si us le nx ro L0 fr) (hq : ∀ q, q < 96 → (fr' q ↔ fr q)) : fx_R un ke fi si us le nx ro L0 fr' := by
  obtain ⟨L, hW, hF⟩ := h
  exact ⟨L, hW, fr_cg hF hq⟩
theorem xr_isFree {post : Int32 → Prop} (hp : p < 96) (h1 : fre nw hd p → post 1) (h0 : ¬ fre nw hd p → post 0) : wpX_isFree post (g, md, ll, un, dp, da, nw, hd, ct, bf, th, lg, ws, il, ke, fi, si, us, le, nx, ro, pa, sl) (nI p) := by
  have i : vp_in (nI p) 96 := vp_in_nI hp (by omega)
  have e : (nI p).toNatClampNeg = p := n_cl (by omega)
  unfold wpX_isFree
  refine ⟨i, ?_⟩
  rw [e]
  exact br_c (fun z => ⟨i, br_c (fun z2 => h1 ⟨z, z2⟩) (fun z2 => h0 (fun q => z2 q.2))⟩) (fun z => h0 (fun q => z q.1))
theorem xr_turned {post : SX → Prop} {b : Int32} (h : fx_R un ke fi si us le nx ro L0 fr) (h0 : L0.length ≤ 300) (hp : p < 96) (hb : (b = 1 ∧ fr p) ∨ (b = 0 ∧ ¬ fr p)) (ho : ∀ q, q < 96 → q ≠ p → (fre nw hd q ↔ fr q))
    (K : ∀ un' dp' ke' fi' si' us' le' nx' ro' pa' sl', fx_R un' ke' fi' si' us' le' nx' ro' L0 (fre nw hd) → post (g, md, ll, un', dp', da, nw, hd, ct, bf, th, lg, ws, il, ke', fi', si', us', le', nx', ro', pa', sl')) : wpX_turned post (g, md, ll, un, dp, da, nw, hd, ct, bf, th, lg, ws, il, ke, fi, si, us, le, nx, ro, pa, sl) (nI p) b := by
  unfold wpX_turned
  refine xr_isFree hp ?_ ?_
  · intro hf
    rcases hb with ⟨rfl, hb⟩ | ⟨rfl, hb⟩
    · refine br_f n_one (br_f n_one ?_)
      unfold wX_turned_19
      refine br_f n_one (K _ _ _ _ _ _ _ _ _ _ _ (xr_cg h (fun q hq => ?_)))
      by_cases z : q = p
      · subst z; exact ⟨fun _ => hb, fun _ => hf⟩
      · exact ho q hq z
    · refine br_t rfl ?_
      unfold wX_turned_19
      refine br_t rfl (br_f n_one ?_)
      refine xr_release h h0 hp hb ?_
      intro un' dp' ke' fi' si' us' le' nx' ro' pa' sl' hR
      refine K _ _ _ _ _ _ _ _ _ _ _ (xr_cg hR (fun q hq => ?_))
      by_cases z : q = p
      · subst z; exact ⟨fun _ => Or.inr rfl, fun _ => hf⟩
      · rw [ho q hq z]
        exact ⟨fun y => Or.inl y, fun y => y.elim id (fun y2 => absurd y2 z)⟩
  · intro hf
    rcases hb with ⟨rfl, hb⟩ | ⟨rfl, hb⟩
    · refine br_f n_one (br_t rfl ?_)
      refine xr_occupy h h0 hp hb ?_
      intro un' dp' ke' fi' si' us' le' nx' ro' pa' sl' hR
      show wX_turned_19 post (nI p) 1 0 _ _ _ _ _ _ _ _ _ _ _ _ _ _ _ _ _ _ _ _ _ _ _
      unfold wX_turned_19
      refine br_f n_one (K _ _ _ _ _ _ _ _ _ _ _ (xr_cg hR (fun q hq => ?_)))
      by_cases z : q = p
      · subst z; exact ⟨fun y => absurd y hf, fun y => absurd rfl y.2⟩
      · rw [ho q hq z]
        exact ⟨fun y => ⟨y, z⟩, fun y => y.1⟩
    · refine br_t rfl ?_
      unfold wX_turned_19
      refine br_t rfl (br_t rfl (K _ _ _ _ _ _ _ _ _ _ _ (xr_cg h (fun q hq => ?_))))
      by_cases z : q = p
      · subst z; exact ⟨fun y => absurd y hf, fun y => absurd y hb⟩
      · exact ho q hq z
theorem xr_fre_o {q : Nat} {x : Int32} (h : q ≠ p) : fre (upd nw p x) hd q ↔ fre nw hd q := by
  unfold fre; rw [pk_un h]
theorem xr_fre_o2 {q : Nat} {x : Int32} (h : q ≠ p) : fre nw (upd hd p x) q ↔ fre nw hd q := by
  unfold fre; rw [pk_un h]
theorem xr_refer {post : SX → Prop} {d : Int32} (h : fx_R un ke fi si us le nx ro L0 (fre nw hd)) (h0 : L0.length ≤ 300) (hp : p < 96) (hc : nw p + d = nI c') (hc' : c' < 32768)
    (K : ∀ un' dp' ke' fi' si' us' le' nx' ro' pa' sl', fx_R un' ke' fi' si' us' le' nx' ro' L0 (fre (upd nw p (nI c')) hd) → post (g, md, ll, un', dp', da, upd nw p (nI c'), hd, ct, bf, th, lg, ws, il, ke', fi', si', us', le', nx', ro', pa', sl')) : wpX_refer post (g, md, ll, un, dp, da, nw, hd, ct, bf, th, lg, ws, il, ke, fi, si, us, le, nx, ro, pa, sl) (nI p) d := by
  have i : vp_in (nI p) 96 := vp_in_nI hp (by omega)
  have e : (nI p).toNatClampNeg = p := n_cl (by omega)
  unfold wpX_refer
  refine br_t (nI_pos' (by omega)) ?_
  rw [e, hc, ar_c16 hc', ar_s16 hc']
  refine xr_isFree hp ?_ ?_
  · intro hf
    exact ⟨i, i, nm_e (xr_turned h h0 hp (Or.inl ⟨rfl, hf⟩) (fun q _ hq => xr_fre_o hq) K)⟩
  · intro hf
    exact ⟨i, i, nm_e (xr_turned h h0 hp (Or.inr ⟨rfl, hf⟩) (fun q _ hq => xr_fre_o hq) K)⟩
theorem xr_hold {post : SX → Prop} {d : Int32} (h : fx_R un ke fi si us le nx ro L0 (fre nw hd)) (h0 : L0.length ≤ 300) (hp : p < 96) (hc : hd p + d = nI c') (hc' : c' < 32768)
    (K : ∀ un' dp' ke' fi' si' us' le' nx' ro' pa' sl', fx_R un' ke' fi' si' us' le' nx' ro' L0 (fre nw (upd hd p (nI c'))) → post (g, md, ll, un', dp', da, nw, upd hd p (nI c'), ct, bf, th, lg, ws, il, ke', fi', si', us', le', nx', ro', pa', sl')) : wpX_hold post (g, md, ll, un, dp, da, nw, hd, ct, bf, th, lg, ws, il, ke, fi, si, us, le, nx, ro, pa, sl) (nI p) d := by
  have i : vp_in (nI p) 96 := vp_in_nI hp (by omega)
  have e : (nI p).toNatClampNeg = p := n_cl (by omega)
  unfold wpX_hold
  refine br_t (nI_pos' (by omega)) ?_
  rw [e, hc, ar_c16 hc', ar_s16 hc']
  refine xr_isFree hp ?_ ?_
  · intro hf
    exact ⟨i, i, nm_e (xr_turned h h0 hp (Or.inl ⟨rfl, hf⟩) (fun q _ hq => xr_fre_o2 hq) K)⟩
  · intro hf
    exact ⟨i, i, nm_e (xr_turned h h0 hp (Or.inr ⟨rfl, hf⟩) (fun q _ hq => xr_fre_o2 hq) K)⟩
theorem n_nle : ¬ (0 : Int32) ≤ -1 := by decide
theorem xr_refer_n {post : SX → Prop} {d : Int32} (h : post (g, md, ll, un, dp, da, nw, hd, ct, bf, th, lg, ws, il, ke, fi, si, us, le, nx, ro, pa, sl)) : wpX_refer post (g, md, ll, un, dp, da, nw, hd, ct, bf, th, lg, ws, il, ke, fi, si, us, le, nx, ro, pa, sl) (-1) d := by
  unfold wpX_refer
  exact br_f n_nle h
theorem xr_hold_n {post : SX → Prop} {d : Int32} (h : post (g, md, ll, un, dp, da, nw, hd, ct, bf, th, lg, ws, il, ke, fi, si, us, le, nx, ro, pa, sl)) : wpX_hold post (g, md, ll, un, dp, da, nw, hd, ct, bf, th, lg, ws, il, ke, fi, si, us, le, nx, ro, pa, sl) (-1) d := by
  unfold wpX_hold
  exact br_f n_nle h
theorem xr_freeFrom {post : Int32 → SX → Prop} (h : fx_R un ke fi si us le nx ro L0 fr) (hp : p < 96)
    (K1 : ∀ q, p ≤ q → q < 96 → fr q → (∀ j, p ≤ j → j < q → ¬ fr j) → ∀ dp' pa' sl', post (nI q) (g, md, ll, un, dp', da, nw, hd, ct, bf, th, lg, ws, il, ke, fi, si, us, le, nx, ro, pa', sl'))
    (K0 : (∀ j, p ≤ j → j < 96 → ¬ fr j) → ∀ dp' pa' sl', post (-1) (g, md, ll, un, dp', da, nw, hd, ct, bf, th, lg, ws, il, ke, fi, si, us, le, nx, ro, pa', sl')) : wpX_freeFrom post (g, md, ll, un, dp, da, nw, hd, ct, bf, th, lg, ws, il, ke, fi, si, us, le, nx, ro, pa, sl) (nI p) := by
  obtain ⟨L, hW, hF⟩ := h
  have hs := ts_W_srt hW
  have hlen := fr_len hs hF
  have fin : (∀ e ∈ L, e.1 < p → e.1 + e.2.2 ≤ p) → ∀ dp pa sl, wX_freeFrom_30 post (nI p) g md ll un dp da nw hd ct bf th lg ws il ke fi si us le nx ro pa sl := by
    intro hno dp pa sl
    unfold wX_freeFrom_30
    refine ty_ceiling (t := 1) (by omega) hW (by omega) (by omega) ?_ ?_
    · intro hall dp pa sl
      refine br_f n_nle (K0 (fun j q1 q2 q3 => ?_) _ _ _)
      obtain ⟨e, he, y1, y2⟩ := hF.2 j q2 q3
      have := hall e he
      have := hno e he this
      omega
    · intro cell a e b hA hke hka dp pa sl
      have hc := ts_At_lt hA
      have ce := ts_At_ce hA
      have hL := ts_At_L hA
      have hem : e ∈ L := by rw [hL]; simp
      have fe := hF.1 e hem
      have fe1 := fe.2.1
      have fe2 := fe.2.2.1
      refine br_t (nI_pos' (by omega)) ⟨vp_in_nI hc (by omega), ?_⟩
      rw [n_cl (by omega : cell < 2 ^ 31), ce.1]
      refine K1 e.1 hke (by omega) (fe.2.2.2.1 e.1 (Nat.le_refl _) (by omega)) (fun j q1 q2 q3 => ?_) _ _ _
      obtain ⟨e', he', y1, y2⟩ := hF.2 j (by omega) q3
      rcases Nat.lt_or_ge e'.1 p with z | z
      · have := hno e' he' z
        omega
      · have := cb_cei hs hL hka he' z
        omega
  unfold wpX_freeFrom
  refine ty_floor (t := 1) (by omega) hW (by omega) (by omega) ?_ ?_
  · intro hall dp pa sl
    refine br_t n_neg (fin (fun e he z => ?_) dp pa sl)
    have := hall e he
    omega
  · intro cell a e b hA hek hb dp pa sl
    have hc := ts_At_lt hA
    have ce := ts_At_ce hA
    have hL := ts_At_L hA
    have hem : e ∈ L := by rw [hL]; simp
    have fe := hF.1 e hem
    have fe1 := fe.2.1
    have fe2 := fe.2.2.1
    have ic : vp_in (nI cell) 1170 := vp_in_nI hc (by omega)
    refine br_f (nI_pos (by omega)) ⟨ic, ic, ?_⟩
    rw [n_cl (by omega : cell < 2 ^ 31), ce.1, ce.2.2.1, nI_add]
    refine pk_le (e.1 + e.2.2) p (fun z => ?_) (fun z => ?_) rfl rfl (by omega) (by omega)
    · refine fin (fun e' he' z2 => ?_) dp pa sl
      rcases Nat.lt_or_ge p (e'.1 + e'.2.2) with y | y
      · have := fr_flo hs hF hL hb hek he' (by omega) (by omega)
        rw [this] at y
        omega
      · exact y
    · exact K1 p (Nat.le_refl _) hp (fe.2.2.2.1 p hek z) (fun j q1 q2 => by omega) _ _ _
end
end
section
/-! extents of the maps: mp k the block of logical block k (32 * map + block), -1 a hole -/
theorem n_ne1 {a : Nat} (h : a < 2 ^ 31) : nI a ≠ -1 := by
  intro z
  have := nI_pos h
  rw [z] at this
  exact this n_neg
theorem n_inj {a b : Nat} (ha : a < 2 ^ 31) (hb : b < 2 ^ 31) (h : nI a = nI b) : a = b := (nI_eq ha hb).mp h
def ex_e (mp : Nat → Int32) (e : tr_C) : Prop :=
  e.1 < 288 ∧ 1 ≤ e.2.2 ∧ e.1 % 32 + e.2.2 ≤ 32 ∧ e.2.1 + e.2.2 ≤ 96 ∧ (∀ j, j < e.2.2 → mp (e.1 + j) = nI (e.2.1 + j)) ∧ (e.1 % 32 + e.2.2 < 32 → mp (e.1 + e.2.2) ≠ nI (e.2.1 + e.2.2)) ∧ (0 < e.1 % 32 → 0 < e.2.1 → mp (e.1 - 1) ≠ nI (e.2.1 - 1))
def ex_E (L : List tr_C) (mp : Nat → Int32) : Prop := (∀ e ∈ L, ex_e mp e) ∧ ∀ k, k < 288 → mp k = -1 ∨ ∃ e ∈ L, e.1 ≤ k ∧ k < e.1 + e.2.2
section
variable {L L' a b : List tr_C} {e e' e0 el er v x : tr_C} {mp mp' : Nat → Int32} {k p fm st nn : Nat}
theorem ex_cg (h : ex_E L mp) (hq : ∀ k, k < 288 → mp' k = mp k) : ex_E L mp' := by
  refine ⟨fun e he => ?_, fun k hk => by rw [hq k hk]; exact h.2 k hk⟩
  obtain ⟨h1, h2, h3, h4, h5, h6, h7⟩ := h.1 e he
  exact ⟨h1, h2, h3, h4, fun j hj => by rw [hq _ (by omega)]; exact h5 j hj, fun q => by rw [hq _ (by omega)]; exact h6 q, fun q1 q2 => by rw [hq _ (by omega)]; exact h7 q1 q2⟩
theorem ex_len (hs : (L.map Prod.fst).Pairwise (· < ·)) (h : ex_E L mp) : L.length ≤ 288 := by
  have := cb_srt (m := 0) (N := 288) hs (fun x hx => by
    obtain ⟨e, he, rfl⟩ := List.mem_map.mp hx
    exact ⟨Nat.zero_le _, (h.1 e he).1⟩)
  rw [List.length_map] at this
  omega
theorem ex_val (h : ex_E L mp) (he : e ∈ L) (h1 : e.1 ≤ k) (h2 : k < e.1 + e.2.2) : mp k = nI (e.2.1 + (k - e.1)) := by
  have := (h.1 e he).2.2.2.2.1 (k - e.1) (by omega)
  have ee : e.1 + (k - e.1) = k := by omega
  rw [ee] at this
  exact this
theorem ex_ov (hs : (L.map Prod.fst).Pairwise (· < ·)) (h : ex_E L mp) (he : e ∈ L) (h0 : e0 ∈ L) (h1 : e0.1 ≤ e.1) (h2 : e.1 < e0.1 + e0.2.2) : e = e0 := by
  refine cb_inj hs he h0 ?_
  rcases Nat.lt_or_ge e0.1 e.1 with z | z
  · exfalso
    obtain ⟨a1, a2, a3, a4, a5, a6, a7⟩ := h.1 e he
    obtain ⟨b1, b2, b3, b4, b5, b6, b7⟩ := h.1 e0 h0
    have v1 := ex_val h h0 h1 h2
    have v2 := ex_val h he (Nat.le_refl _) (by omega : e.1 < e.1 + e.2.2)
    rw [v1] at v2
    have v3 := n_inj (by omega) (by omega) v2
    have v4 := ex_val h h0 (k := e.1 - 1) (by omega) (by omega)
    refine a7 (by omega) (by omega) ?_
    rw [v4]
    exact congrArg nI (by omega)
  · omega
theorem ex_cov2 (hs : (L.map Prod.fst).Pairwise (· < ·)) (h : ex_E L mp) (he : e ∈ L) (h0 : e0 ∈ L) (h1 : e.1 ≤ k) (h2 : k < e.1 + e.2.2) (h3 : e0.1 ≤ k) (h4 : k < e0.1 + e0.2.2) : e = e0 := by
  rcases Nat.le_total e0.1 e.1 with z | z
  · exact ex_ov hs h he h0 z (by omega)
  · exact (ex_ov hs h h0 he z (by omega)).symm
/-- the floor is the extent that holds k or ends there -/
theorem ex_flo (hs : (L.map Prod.fst).Pairwise (· < ·)) (h : ex_E L mp) (hL : L = a ++ e :: b) (hb : ∀ e' ∈ b, k < e'.1) (hp : e.1 ≤ k) (h0 : e0 ∈ L) (h1 : e0.1 ≤ k) (h2 : k < e0.1 + e0.2.2) : e0 = e := by
  have hem : e ∈ L := by rw [hL]; simp
  have q := cb_flo hs hL hb h0 h1
  exact (ex_ov hs h hem h0 q (by omega)).symm
theorem ex_unmap (hs : (L.map Prod.fst).Pairwise (· < ·)) (h : ex_E L mp) (he : e ∈ L) (h1 : e.1 ≤ k) (h2 : k < e.1 + e.2.2)
    (hL : ∀ x, x ∈ L' ↔ (x ∈ L ∧ x ≠ e) ∨ (0 < k - e.1 ∧ x = (e.1, e.2.1, k - e.1)) ∨ (0 < e.2.2 - (k - e.1) - 1 ∧ x = (k + 1, e.2.1 + (k - e.1) + 1, e.2.2 - (k - e.1) - 1))) : ex_E L' (upd mp k (-1)) := by
  obtain ⟨a1, a2, a3, a4, a5, a6, a7⟩ := h.1 e he
  refine ⟨fun x hx => ?_, fun j hj => ?_⟩
  · rcases (hL x).mp hx with ⟨hm, hne⟩ | ⟨hlt, rfl⟩ | ⟨hlt, rfl⟩
    · obtain ⟨b1, b2, b3, b4, b5, b6, b7⟩ := h.1 x hm
      have nk : ¬ (x.1 ≤ k ∧ k < x.1 + x.2.2) := fun z => hne (ex_cov2 hs h hm he z.1 z.2 h1 h2)
      refine ⟨b1, b2, b3, b4, fun j hj => ?_, fun q => ?_, fun q1 q2 => ?_⟩
      · rw [pk_un (by omega)]; exact b5 j hj
      · by_cases z : x.1 + x.2.2 = k
        · rw [z, pk_us]; exact (n_ne1 (by omega)).symm
        · rw [pk_un z]; exact b6 q
      · by_cases z : x.1 - 1 = k
        · rw [z, pk_us]; exact (n_ne1 (by omega)).symm
        · rw [pk_un z]; exact b7 q1 q2
    · show e.1 < 288 ∧ 1 ≤ k - e.1 ∧ e.1 % 32 + (k - e.1) ≤ 32 ∧ e.2.1 + (k - e.1) ≤ 96 ∧ (∀ j, j < k - e.1 → upd mp k (-1) (e.1 + j) = nI (e.2.1 + j)) ∧ (e.1 % 32 + (k - e.1) < 32 → upd mp k (-1) (e.1 + (k - e.1)) ≠ nI (e.2.1 + (k - e.1))) ∧ (0 < e.1 % 32 → 0 < e.2.1 → upd mp k (-1) (e.1 - 1) ≠ nI (e.2.1 - 1))
      refine ⟨a1, by omega, by omega, by omega, fun j hj => ?_, fun q => ?_, fun q1 q2 => ?_⟩
      · rw [pk_un (by omega)]; exact a5 j (by omega)
      · have z : e.1 + (k - e.1) = k := by omega
        rw [z, pk_us]; exact (n_ne1 (by omega)).symm
      · rw [pk_un (by omega)]; exact a7 q1 q2
    · show k + 1 < 288 ∧ 1 ≤ e.2.2 - (k - e.1) - 1 ∧ (k + 1) % 32 + (e.2.2 - (k - e.1) - 1) ≤ 32 ∧ e.2.1 + (k - e.1) + 1 + (e.2.2 - (k - e.1) - 1) ≤ 96 ∧ (∀ j, j < e.2.2 - (k - e.1) - 1 → upd mp k (-1) (k + 1 + j) = nI (e.2.1 + (k - e.1) + 1 + j)) ∧ ((k + 1) % 32 + (e.2.2 - (k - e.1) - 1) < 32 → upd mp k (-1) (k + 1 + (e.2.2 - (k - e.1) - 1)) ≠ nI (e.2.1 + (k - e.1) + 1 + (e.2.2 - (k - e.1) - 1))) ∧ (0 < (k + 1) % 32 → 0 < e.2.1 + (k - e.1) + 1 → upd mp k (-1) (k + 1 - 1) ≠ nI (e.2.1 + (k - e.1) + 1 - 1))
      refine ⟨by omega, by omega, by omega, by omega, fun j hj => ?_, fun q => ?_, fun q1 q2 => ?_⟩
      · rw [pk_un (by omega)]
        have := a5 (k - e.1 + 1 + j) (by omega)
        have z1 : e.1 + (k - e.1 + 1 + j) = k + 1 + j := by omega
        rw [z1] at this
        rw [this]
        exact congrArg nI (by omega)
      · rw [pk_un (by omega)]
        have z1 : k + 1 + (e.2.2 - (k - e.1) - 1) = e.1 + e.2.2 := by omega
        have z2 : e.2.1 + (k - e.1) + 1 + (e.2.2 - (k - e.1) - 1) = e.2.1 + e.2.2 := by omega
        rw [z1, z2]
        exact a6 (by omega)
      · have z : k + 1 - 1 = k := by omega
        rw [z, pk_us]; exact (n_ne1 (by omega)).symm
  · by_cases z : j = k
    · rw [z, pk_us]; exact Or.inl rfl
    · rw [pk_un z]
      rcases h.2 j hj with q | ⟨x, hm, q1, q2⟩
      · exact Or.inl q
      · refine Or.inr ?_
        by_cases hxe : x = e
        · subst hxe
          rcases Nat.lt_or_ge j k with y | y
          · exact ⟨_, (hL _).mpr (Or.inr (Or.inl ⟨by omega, rfl⟩)), q1, by show j < x.1 + (k - x.1); omega⟩
          · exact ⟨_, (hL _).mpr (Or.inr (Or.inr ⟨by omega, rfl⟩)), by show k + 1 ≤ j; omega, by show j < k + 1 + (x.2.2 - (k - x.1) - 1); omega⟩
        · exact ⟨x, (hL x).mpr (Or.inl ⟨hm, hxe⟩), q1, q2⟩
theorem ex_map (hs : (L.map Prod.fst).Pairwise (· < ·)) (h : ex_E L mp) (hk : k < 288) (hp : p < 96) (hh : mp k = -1)
    (hl : (fm = k ∧ st = p ∧ (0 < k % 32 → 0 < p → mp (k - 1) ≠ nI (p - 1))) ∨ (∃ el ∈ L, el.1 + el.2.2 = k ∧ 0 < k % 32 ∧ el.2.1 + el.2.2 = p ∧ fm = el.1 ∧ st = el.2.1))
    (hr : (fm + nn = k + 1 ∧ (k % 32 < 31 → mp (k + 1) ≠ nI (p + 1))) ∨ (∃ er ∈ L, er.1 = k + 1 ∧ k % 32 < 31 ∧ er.2.1 = p + 1 ∧ fm + nn = er.1 + er.2.2))
    (hL : ∀ x, x ∈ L' ↔ x = (fm, st, nn) ∨ (x ∈ L ∧ ¬ (x.1 + x.2.2 = k ∧ 0 < k % 32 ∧ x.2.1 + x.2.2 = p) ∧ ¬ (x.1 = k + 1 ∧ k % 32 < 31 ∧ x.2.1 = p + 1))) : ex_E L' (upd mp k (nI p)) := by
  have F1 : fm ≤ k ∧ st + (k - fm) = p ∧ fm % 32 + (k - fm) = k % 32 ∧ (∀ j, fm + j < k → mp (fm + j) = nI (st + j)) ∧ (0 < fm % 32 → 0 < st → mp (fm - 1) ≠ nI (st - 1)) := by
    rcases hl with ⟨z1, z2, z3⟩ | ⟨el, hm, z1, z2, z3, z4, z5⟩
    · subst z1 z2
      exact ⟨Nat.le_refl _, by omega, by omega, fun j hj => by omega, z3⟩
    · obtain ⟨a1, a2, a3, a4, a5, a6, a7⟩ := h.1 el hm
      subst z4 z5
      exact ⟨by omega, by omega, by omega, fun j hj => a5 j (by omega), a7⟩
  have F2 : k + 1 ≤ fm + nn ∧ st + nn ≤ 96 ∧ k % 32 + (fm + nn - k) ≤ 32 ∧ (∀ j, k < fm + j → j < nn → mp (fm + j) = nI (st + j)) ∧ (k % 32 + (fm + nn - k) < 32 → mp (fm + nn) ≠ nI (st + nn)) := by
    have f1 := F1.1
    have f2 := F1.2.1
    rcases hr with ⟨z1, z2⟩ | ⟨er, hm, z1, z2, z3, z4⟩
    · refine ⟨by omega, by omega, by omega, fun j q1 q2 => by omega, fun q => ?_⟩
      rw [z1]
      have : st + nn = p + 1 := by omega
      rw [this]
      exact z2 (by omega)
    · obtain ⟨a1, a2, a3, a4, a5, a6, a7⟩ := h.1 er hm
      refine ⟨by omega, by omega, by omega, fun j q1 q2 => ?_, fun q => ?_⟩
      · have := a5 (fm + j - er.1) (by omega)
        have y1 : er.1 + (fm + j - er.1) = fm + j := by omega
        rw [y1] at this
        rw [this]
        exact congrArg nI (by omega)
      · have y1 : st + nn = er.2.1 + er.2.2 := by omega
        rw [z4, y1]
        exact a6 (by omega)
  obtain ⟨f1, f2, f3, f4, f5⟩ := F1
  obtain ⟨g1, g2, g3, g4, g5⟩ := F2
  refine ⟨fun x hx => ?_, fun j hj => ?_⟩
  · rcases (hL x).mp hx with rfl | ⟨hm, n1, n2⟩
    · show fm < 288 ∧ 1 ≤ nn ∧ fm % 32 + nn ≤ 32 ∧ st + nn ≤ 96 ∧ (∀ j, j < nn → upd mp k (nI p) (fm + j) = nI (st + j)) ∧ (fm % 32 + nn < 32 → upd mp k (nI p) (fm + nn) ≠ nI (st + nn)) ∧ (0 < fm % 32 → 0 < st → upd mp k (nI p) (fm - 1) ≠ nI (st - 1))
      refine ⟨by omega, by omega, by omega, g2, fun j hj => ?_, fun q => ?_, fun q1 q2 => ?_⟩
      · by_cases z : fm + j = k
        · rw [z, pk_us]; exact congrArg nI (by omega)
        · rw [pk_un z]
          rcases Nat.lt_or_ge (fm + j) k with y | y
          · exact f4 j y
          · exact g4 j (by omega) hj
      · rw [pk_un (by omega)]; exact g5 (by omega)
      · rw [pk_un (by omega)]; exact f5 q1 q2
    · obtain ⟨b1, b2, b3, b4, b5, b6, b7⟩ := h.1 x hm
      refine ⟨b1, b2, b3, b4, fun j hj => ?_, fun q => ?_, fun q1 q2 => ?_⟩
      · have : x.1 + j ≠ k := by
          intro z
          have := b5 j hj
          rw [z, hh] at this
          exact n_ne1 (by omega) this.symm
        rw [pk_un this]; exact b5 j hj
      · by_cases z : x.1 + x.2.2 = k
        · rw [z, pk_us]
          intro y
          have := n_inj (by omega) (by omega) y
          exact n1 ⟨z, by omega, this.symm⟩
        · rw [pk_un z]; exact b6 q
      · by_cases z : x.1 - 1 = k
        · rw [z, pk_us]
          intro y
          have := n_inj (by omega) (by omega) y
          exact n2 ⟨by omega, by omega, by omega⟩
        · rw [pk_un z]; exact b7 q1 q2
  · have new : ((fm, st, nn) : tr_C) ∈ L' := (hL _).mpr (Or.inl rfl)
    by_cases z : j = k
    · exact Or.inr ⟨_, new, by show fm ≤ j; omega, by show j < fm + nn; omega⟩
    · rw [pk_un z]
      rcases h.2 j hj with q | ⟨x, hm, q1, q2⟩
      · exact Or.inl q
      · refine Or.inr ?_
        by_cases n1 : x.1 + x.2.2 = k ∧ 0 < k % 32 ∧ x.2.1 + x.2.2 = p
        · refine ⟨_, new, ?_, by show j < fm + nn; omega⟩
          show fm ≤ j
          rcases hl with ⟨y1, y2, y3⟩ | ⟨el, hm2, y1, y2, y3, y4, y5⟩
          · exfalso
            have := ex_val h hm (k := k - 1) (by omega) (by omega)
            refine y3 n1.2.1 (by omega) ?_
            rw [this]
            exact congrArg nI (by omega)
          · have b1 := (h.1 x hm).2.1
            have b2 := (h.1 el hm2).2.1
            have := ex_cov2 hs h hm hm2 (k := k - 1) (by omega) (by omega) (by omega) (by omega)
            rw [this] at q1
            omega
        · by_cases n2 : x.1 = k + 1 ∧ k % 32 < 31 ∧ x.2.1 = p + 1
          · refine ⟨_, new, by show fm ≤ j; omega, ?_⟩
            show j < fm + nn
            rcases hr with ⟨y1, y2⟩ | ⟨er, hm2, y1, y2, y3, y4⟩
            · exfalso
              have b1 := (h.1 x hm).2.1
              have := ex_val h hm (k := k + 1) (by omega) (by omega)
              refine y2 n2.2.1 ?_
              rw [this]
              exact congrArg nI (by omega)
            · have := cb_inj hs hm hm2 (by omega)
              rw [this] at q2
              omega
          · exact ⟨x, (hL x).mpr (Or.inr ⟨hm, n1, n2⟩), q1, q2⟩
end
end
section
/-! maps over the first tree -/
def mx_c (L : List tr_C) (m : Nat) : Nat := L.countP (fun e => decide (e.1 / 32 = m))
def mx_T (ct : Nat → Int32) (L : List tr_C) : Prop := ∀ m, m < 9 → ct m = nI (mx_c L m)
def mx_M (un : Int32) (ke fi si us le nx ro ct mp : Nat → Int32) (fr : Nat → Prop) : Prop :=
  ∃ L0 L1, ts_W 0 un ke fi si us le nx ro L0 L1 ∧ ex_E L0 mp ∧ fr_F L1 fr ∧ mx_T ct L0
theorem mx_c32 {L : List tr_C} {m : Nat} (hs : (L.map Prod.fst).Pairwise (· < ·)) : mx_c L m ≤ 32 := by
  unfold mx_c
  rw [List.countP_eq_length_filter]
  have h1 : ((L.filter (fun e => decide (e.1 / 32 = m))).map Prod.fst).Pairwise (· < ·) := hs.sublist (List.Sublist.map _ List.filter_sublist)
  have := cb_srt (m := 32 * m) (N := 32 * m + 32) h1 (fun x hx => by
    obtain ⟨e, he, rfl⟩ := List.mem_map.mp hx
    have := (List.mem_filter.mp he).2
    simp only [decide_eq_true_eq] at this
    show 32 * m ≤ e.1 ∧ e.1 < 32 * m + 32
    omega)
  rw [List.length_map] at this
  omega
theorem mx_c_add {a b : List tr_C} {v : tr_C} {m : Nat} : mx_c (a ++ v :: b) m = mx_c (a ++ b) m + (if v.1 / 32 = m then 1 else 0) := by
  unfold mx_c
  rw [List.countP_append, List.countP_append, List.countP_cons]
  simp only [decide_eq_true_eq]
  omega
theorem n32 (n : Nat) : (32 : Int32) * nI n = nI (32 * n) := pk_mul 32 n
theorem n_shr5 {n : Nat} (h : n < 2 ^ 31) : nI n >>> ((5 : Int32) &&& 31) = nI (n / 32) := pk_shrN h _ 5 (by decide)
theorem n_and31 {n : Nat} (h : n < 2 ^ 32) : nI n &&& 31 = nI (n % 32) := pk_andN h 5 (by decide)
section
variable {g md ll un dp : Int32} {da nw hd ct bf th lg ws il ke fi si us le nx ro pa sl : Nat → Int32}
variable {m b k p n : Nat} {L0 L1 : List tr_C} {fr fr' : Nat → Prop} {e : tr_C} {mp : Nat → Int32}
theorem mx_fx {ct' : Nat → Int32} (h : mx_M un ke fi si us le nx ro ct mp fr) : ∃ L0, fx_R un ke fi si us le nx ro L0 fr ∧ L0.length ≤ 288 ∧ ex_E L0 mp ∧ mx_T ct L0 := by
  obtain ⟨L0, L1, hW, hE, hF, hC⟩ := h
  exact ⟨L0, ⟨L1, ts_swap (t := 0) (by omega) hW, hF⟩, ex_len (ts_W_srt hW) hE, hE, hC⟩
theorem mx_xf (h : fx_R un ke fi si us le nx ro L0 fr) (hE : ex_E L0 mp) (hC : mx_T ct L0) : mx_M un ke fi si us le nx ro ct mp fr := by
  obtain ⟨L1, hW, hF⟩ := h
  exact ⟨L0, L1, ts_swap (t := 1) (by omega) hW, hE, hF, hC⟩
theorem mx_refer {post : SX → Prop} {d : Int32} {c' : Nat} (h : mx_M un ke fi si us le nx ro ct mp (fre nw hd)) (hp : p < 96) (hc : nw p + d = nI c') (hc' : c' < 32768)
    (K : ∀ un' dp' ke' fi' si' us' le' nx' ro' pa' sl', mx_M un' ke' fi' si' us' le' nx' ro' ct mp (fre (upd nw p (nI c')) hd) → post (g, md, ll, un', dp', da, upd nw p (nI c'), hd, ct, bf, th, lg, ws, il, ke', fi', si', us', le', nx', ro', pa', sl')) : wpX_refer post (g, md, ll, un, dp, da, nw, hd, ct, bf, th, lg, ws, il, ke, fi, si, us, le, nx, ro, pa, sl) (nI p) d := by
  obtain ⟨L0, h1, h2, h3, h4⟩ := mx_fx (ct' := ct) h
  refine xr_refer h1 (by omega) hp hc hc' ?_
  intro un' dp' ke' fi' si' us' le' nx' ro' pa' sl' hR
  exact K _ _ _ _ _ _ _ _ _ _ _ (mx_xf hR h3 h4)
theorem mx_hold {post : SX → Prop} {d : Int32} {c' : Nat} (h : mx_M un ke fi si us le nx ro ct mp (fre nw hd)) (hp : p < 96) (hc : hd p + d = nI c') (hc' : c' < 32768)
    (K : ∀ un' dp' ke' fi' si' us' le' nx' ro' pa' sl', mx_M un' ke' fi' si' us' le' nx' ro' ct mp (fre nw (upd hd p (nI c'))) → post (g, md, ll, un', dp', da, nw, upd hd p (nI c'), ct, bf, th, lg, ws, il, ke', fi', si', us', le', nx', ro', pa', sl')) : wpX_hold post (g, md, ll, un, dp, da, nw, hd, ct, bf, th, lg, ws, il, ke, fi, si, us, le, nx, ro, pa, sl) (nI p) d := by
  obtain ⟨L0, h1, h2, h3, h4⟩ := mx_fx (ct' := ct) h
  refine xr_hold h1 (by omega) hp hc hc' ?_
  intro un' dp' ke' fi' si' us' le' nx' ro' pa' sl' hR
  exact K _ _ _ _ _ _ _ _ _ _ _ (mx_xf hR h3 h4)
theorem mx_extent {post : Int32 → SX → Prop} (hW : ts_W 0 un ke fi si us le nx ro L0 L1) (hE : ex_E L0 mp) (hm : m < 9) (hb : b < 32)
    (K0 : (∀ e ∈ L0, e.1 / 32 = m → 32 * m + b < e.1) → ∀ dp' pa' sl', post (-1) (g, md, ll, un, dp', da, nw, hd, ct, bf, th, lg, ws, il, ke, fi, si, us, le, nx, ro, pa', sl'))
    (K1 : ∀ cell a e b', ts_At 0 un ke fi si us le nx ro L0 L1 cell a e b' → e.1 / 32 = m → e.1 ≤ 32 * m + b → (∀ e' ∈ b', 32 * m + b < e'.1) → ∀ dp' pa' sl', post (nI cell) (g, md, ll, un, dp', da, nw, hd, ct, bf, th, lg, ws, il, ke, fi, si, us, le, nx, ro, pa', sl')) :
    wpX_extent post (g, md, ll, un, dp, da, nw, hd, ct, bf, th, lg, ws, il, ke, fi, si, us, le, nx, ro, pa, sl) (nI m) (nI b) := by
  have hs := ts_W_srt hW
  have hlen := ex_len hs hE
  unfold wpX_extent
  rw [n32, nI_add]
  refine ty_floor (t := 0) (by omega) hW (by omega) (by omega) ?_ ?_
  · intro hall dp pa sl
    exact br_t n_neg (K0 (fun e he _ => hall e he) _ _ _)
  · intro cell a e b' hA hek hb' dp pa sl
    have hc := ts_At_lt hA
    have ce := ts_At_ce hA
    have hL := ts_At_L hA
    have hem : e ∈ L0 := by rw [hL]; simp
    have fe := (hE.1 e hem).1
    refine br_f (nI_pos (by omega)) ⟨vp_in_nI hc (by omega), ?_⟩
    rw [n_cl (by omega : cell < 2 ^ 31), ce.1, n_shr5 (by omega)]
    refine pk_eq (e.1 / 32) m (fun z => ?_) (fun z => ?_) rfl rfl (by omega) (by omega)
    · exact K1 cell a e b' hA z hek hb' _ _ _
    · refine K0 (fun e' he' z2 => ?_) _ _ _
      rcases Nat.lt_or_ge (32 * m + b) e'.1 with y | y
      · exact y
      · have := cb_flo hs hL hb' he' y
        omega
theorem mx_mapped {post : Int32 → SX → Prop} (h : mx_M un ke fi si us le nx ro ct mp fr) (hm : m < 9) (hb : b < 32) (K : ∀ dp' pa' sl', post (mp (32 * m + b)) (g, md, ll, un, dp', da, nw, hd, ct, bf, th, lg, ws, il, ke, fi, si, us, le, nx, ro, pa', sl')) : wpX_mapped post (g, md, ll, un, dp, da, nw, hd, ct, bf, th, lg, ws, il, ke, fi, si, us, le, nx, ro, pa, sl) (nI m) (nI b) := by
  obtain ⟨L0, L1, hW, hE, hF, hC⟩ := h
  have hs := ts_W_srt hW
  unfold wpX_mapped
  refine mx_extent hW hE hm hb ?_ ?_
  · intro hall dp pa sl
    refine br_f n_nle ?_
    have : mp (32 * m + b) = -1 := by
      rcases hE.2 (32 * m + b) (by omega) with q | ⟨e, he, q1, q2⟩
      · exact q
      · have fe := hE.1 e he
        have := hall e he (by have := fe.2.2.1; omega)
        omega
    rw [← this]
    exact K _ _ _
  · intro cell a e b' hA hem1 hek hb' dp pa sl
    have hc := ts_At_lt hA
    have ce := ts_At_ce hA
    have hL := ts_At_L hA
    have hem : e ∈ L0 := by rw [hL]; simp
    obtain ⟨f1, f2, f3, f4, f5, f6, f7⟩ := hE.1 e hem
    have ic : vp_in (nI cell) 1170 := vp_in_nI hc (by omega)
    refine br_t (nI_pos' (by omega)) ⟨ic, ?_⟩
    rw [n_cl (by omega : cell < 2 ^ 31), ce.1, n_and31 (by omega)]
    refine nm_e ⟨ic, ?_⟩
    rw [ce.2.1, ce.2.2.1, nI_add (e.1 % 32)]
    refine pk_lt b (e.1 % 32 + e.2.2) (fun z => ?_) (fun z => ?_) rfl rfl (by omega) (by omega)
    · refine ⟨ic, ?_⟩
      rw [nI_add, pk_sub (by omega)]
      have v := ex_val hE hem hek (by omega : 32 * m + b < e.1 + e.2.2)
      have e3 : e.2.1 + b - e.1 % 32 = e.2.1 + (32 * m + b - e.1) := by omega
      rw [e3, ← v]
      exact K _ _ _
    · have : mp (32 * m + b) = -1 := by
        rcases hE.2 (32 * m + b) (by omega) with q | ⟨e0, he, q1, q2⟩
        · exact q
        · have := ex_flo hs hE hL hb' hek he q1 q2
          rw [this] at q2
          omega
      rw [← this]
      exact K _ _ _
theorem mx_add {post : SX → Prop} (hW : ts_W 0 un ke fi si us le nx ro L0 L1) (hk0 : ∀ e ∈ L0, e.1 < 288) (hl1 : L1.length ≤ 50) (hm : m < 9) (hb : b < 32) (hp : p < 96) (hn : n < 128) (hnk : ∀ e ∈ L0, e.1 ≠ 32 * m + b) (hC : mx_T ct L0)
    (K : ∀ L' ct' un' dp' ke' fi' si' us' le' nx' ro' pa' sl', ts_W 0 un' ke' fi' si' us' le' nx' ro' L' L1 → (∀ e, e ∈ L' ↔ e = (32 * m + b, p, n) ∨ e ∈ L0) → mx_T ct' L' → post (g, md, ll, un', dp', da, nw, hd, ct', bf, th, lg, ws, il, ke', fi', si', us', le', nx', ro', pa', sl')) :
    wpX_add post (g, md, ll, un, dp, da, nw, hd, ct, bf, th, lg, ws, il, ke, fi, si, us, le, nx, ro, pa, sl) (nI m) (nI b) (nI p) (nI n) := by
  have hs := ts_W_srt hW
  have hlen : L0.length ≤ 288 := by
    have := cb_srt (m := 0) (N := 288) hs (fun x hx => by
      obtain ⟨e, he, rfl⟩ := List.mem_map.mp hx
      exact ⟨Nat.zero_le _, hk0 e he⟩)
    rw [List.length_map] at this
    omega
  have i : vp_in (nI m) 9 := vp_in_nI hm (by omega)
  unfold wpX_add
  rw [n32, nI_add]
  refine ty_insert (t := 0) (by omega) hW (by omega) (by omega) (by omega) hn hnk ?_
  intro a b' hab ha hb' un' dp' ke' fi' si' us' le' nx' ro' pa' sl' hW'
  have hs' := ts_W_srt hW'
  have c32 := mx_c32 (m := m) hs'
  have cadd := mx_c_add (a := a) (b := b') (v := (32 * m + b, p, n)) (m := m)
  rw [if_pos (show (32 * m + b) / 32 = m by omega)] at cadd
  refine ⟨i, i, ?_⟩
  rw [n_cl (by omega : m < 2 ^ 31), hC m hm, nI_1, hab, ← cadd, ar_c8 (by omega), ar_s8 (by omega)]
  refine nm_e (K _ _ _ _ _ _ _ _ _ _ _ _ _ hW' (fun e => ?_) ?_)
  · rw [hab]; exact cb_add
  · intro j hj
    by_cases z : j = m
    · subst z; rw [pk_us]
    · rw [pk_un z, hC j hj, hab]
      have := mx_c_add (a := a) (b := b') (v := (32 * m + b, p, n)) (m := j)
      rw [if_neg (show ¬ (32 * m + b) / 32 = j by omega)] at this
      exact congrArg nI (by omega)
theorem mx_cut {post : SX → Prop} (hW : ts_W 0 un ke fi si us le nx ro L0 L1) (hk0 : ∀ e ∈ L0, e.1 < 288) (hm : m < 9) (hb : b < 32) (he : ∃ e ∈ L0, e.1 = 32 * m + b) (hC : mx_T ct L0)
    (K : ∀ L' ct' un' dp' ke' fi' si' us' le' nx' ro' pa' sl', ts_W 0 un' ke' fi' si' us' le' nx' ro' L' L1 → (∀ e, e ∈ L' ↔ e ∈ L0 ∧ e.1 ≠ 32 * m + b) → mx_T ct' L' → post (g, md, ll, un', dp', da, nw, hd, ct', bf, th, lg, ws, il, ke', fi', si', us', le', nx', ro', pa', sl')) :
    wpX_cut post (g, md, ll, un, dp, da, nw, hd, ct, bf, th, lg, ws, il, ke, fi, si, us, le, nx, ro, pa, sl) (nI m) (nI b) := by
  have hs := ts_W_srt hW
  have hlen : L0.length ≤ 288 := by
    have := cb_srt (m := 0) (N := 288) hs (fun x hx => by
      obtain ⟨e, he, rfl⟩ := List.mem_map.mp hx
      exact ⟨Nat.zero_le _, hk0 e he⟩)
    rw [List.length_map] at this
    omega
  obtain ⟨e, hem, hek⟩ := he
  have i : vp_in (nI m) 9 := vp_in_nI hm (by omega)
  obtain ⟨a, b', rfl⟩ := cb_mem hem
  have c32 := mx_c32 (m := m) hs
  have cadd := mx_c_add (a := a) (b := b') (v := e) (m := m)
  rw [if_pos (show e.1 / 32 = m by omega)] at cadd
  unfold wpX_cut
  rw [n32, nI_add, ← hek]
  refine ty_remove (t := 0) (by omega) hW (by omega) (by have := hk0 e hem; omega) ?_
  intro un' dp' ke' fi' si' us' le' nx' ro' pa' sl' hW'
  refine ⟨i, i, ?_⟩
  rw [n_cl (by omega : m < 2 ^ 31), hC m hm, cadd, nI_pred, ar_c8 (by omega), ar_s8 (by omega)]
  refine nm_e (K _ _ _ _ _ _ _ _ _ _ _ _ _ hW' (fun e' => ?_) ?_)
  · rw [cb_del hs]
    constructor
    · rintro ⟨q1, q2⟩
      exact ⟨q1, fun z => q2 (cb_inj hs q1 hem (by omega))⟩
    · rintro ⟨q1, q2⟩
      exact ⟨q1, fun z => q2 (by rw [z]; exact hek)⟩
  · intro j hj
    by_cases z : j = m
    · subst z; rw [pk_us]
    · rw [pk_un z, hC j hj]
      have := mx_c_add (a := a) (b := b') (v := e) (m := j)
      rw [if_neg (show ¬ e.1 / 32 = j by omega)] at this
      exact congrArg nI (by omega)
theorem mx_unmap {post : SX → Prop} (h : mx_M un ke fi si us le nx ro ct mp fr) (hm : m < 9) (hb : b < 32) (hne : mp (32 * m + b) ≠ -1)
    (K : ∀ ct' un' dp' ke' fi' si' us' le' nx' ro' pa' sl', mx_M un' ke' fi' si' us' le' nx' ro' ct' (upd mp (32 * m + b) (-1)) fr → post (g, md, ll, un', dp', da, nw, hd, ct', bf, th, lg, ws, il, ke', fi', si', us', le', nx', ro', pa', sl')) : wpX_unmap post (g, md, ll, un, dp, da, nw, hd, ct, bf, th, lg, ws, il, ke, fi, si, us, le, nx, ro, pa, sl) (nI m) (nI b) := by
  obtain ⟨L0, L1, hW, hE, hF, hC⟩ := h
  have hs := ts_W_srt hW
  have hs1 := ts_W_srt (ts_swap (t := 0) (by omega) hW)
  have hl1 := fr_len hs1 hF
  obtain ⟨e0, he0, y1, y2⟩ : ∃ e ∈ L0, e.1 ≤ 32 * m + b ∧ 32 * m + b < e.1 + e.2.2 := by
    rcases hE.2 (32 * m + b) (by omega) with q | q
    · exact absurd q hne
    · exact q
  have hk0 : ∀ e ∈ L0, e.1 < 288 := fun e he => (hE.1 e he).1
  unfold wpX_unmap
  refine mx_extent hW hE hm hb ?_ ?_
  · intro hall dp pa sl
    have fe := hE.1 e0 he0
    have := hall e0 he0 (by have := fe.2.2.1; omega)
    omega
  · intro cell a e b' hA hem1 hek hb' dp pa sl
    have hc := ts_At_lt hA
    have ce := ts_At_ce hA
    have hL := ts_At_L hA
    have hem : e ∈ L0 := by rw [hL]; simp
    have e0e := ex_flo hs hE hL hb' hek he0 y1 y2
    subst e0e
    obtain ⟨f1, f2, f3, f4, f5, f6, f7⟩ := hE.1 e0 hem
    have ic : vp_in (nI cell) 1170 := vp_in_nI hc (by omega)
    have ec : (nI cell).toNatClampNeg = cell := n_cl (by omega)
    refine ⟨ic, ?_⟩
    rw [ec, ce.1, n_and31 (by omega)]
    refine nm_e ⟨ic, ?_⟩
    rw [ce.2.1]
    refine nm_e ?_
    rw [pk_sub (by omega)]
    refine nm_e ⟨ic, ?_⟩
    have e6 : b - e0.1 % 32 = 32 * m + b - e0.1 := by omega
    rw [ce.2.2.1, e6, pk_sub (by omega), n_m1 (by omega)]
    refine nm_e ?_
    -- the rest behind
    have fin : ∀ (L2 : List tr_C) (ct : Nat → Int32) (un dp : Int32) (ke fi si us le nx ro pa sl : Nat → Int32), ts_W 0 un ke fi si us le nx ro L2 L1 → mx_T ct L2 → (∀ x, x ∈ L2 ↔ (x ∈ L0 ∧ x ≠ e0) ∨ (0 < 32 * m + b - e0.1 ∧ x = (e0.1, e0.2.1, 32 * m + b - e0.1))) →
        wX_unmap_69 post (nI m) (nI b) (nI e0.2.1) (nI (32 * m + b - e0.1)) (nI (e0.2.2 - (32 * m + b - e0.1) - 1)) g md ll un dp da nw hd ct bf th lg ws il ke fi si us le nx ro pa sl := by
      intro L2 ct un dp ke fi si us le nx ro pa sl hW2 hC2 hm2
      have hk2 : ∀ e ∈ L2, e.1 < 288 := by
        intro x hx
        rcases (hm2 x).mp hx with ⟨q, _⟩ | ⟨_, q⟩
        · exact hk0 x q
        · rw [q]; exact f1
      unfold wX_unmap_69
      refine pk_le (e0.2.2 - (32 * m + b - e0.1) - 1) 0 (fun z => ?_) (fun z => ?_) rfl rfl (by omega) (by omega)
      · refine K _ _ _ _ _ _ _ _ _ _ _ _ ⟨L2, L1, hW2, ex_unmap hs hE hem y1 y2 (fun x => ?_), hF, hC2⟩
        rw [hm2]
        constructor
        · rintro (q | q)
          · exact Or.inl q
          · exact Or.inr (Or.inl q)
        · rintro (q | q | q)
          · exact Or.inl q
          · exact Or.inr q
          · omega
      · rw [nI_1 b, nI_add, nI_1]
        have eb : 32 * m + (b + 1) = 32 * m + b + 1 := by omega
        refine mx_add hW2 hk2 (by omega) hm (by omega) (by omega) (by omega) (fun x hx z2 => ?_) hC2 ?_
        · rcases (hm2 x).mp hx with ⟨q1, q2⟩ | ⟨q1, q2⟩
          · exact q2 (ex_ov hs hE q1 hem (by omega) (by omega))
          · rw [q2] at z2
            have z3 : e0.1 = 32 * m + (b + 1) := z2
            omega
        · intro L' ct' un' dp' ke' fi' si' us' le' nx' ro' pa' sl' hW' hm' hC'
          refine K _ _ _ _ _ _ _ _ _ _ _ _ ⟨L', L1, hW', ex_unmap hs hE hem y1 y2 (fun x => ?_), hF, hC'⟩
          rw [hm', hm2, eb]
          constructor
          · rintro (q | q | q)
            · exact Or.inr (Or.inr ⟨z, q⟩)
            · exact Or.inl q
            · exact Or.inr (Or.inl q)
          · rintro (q | q | q)
            · exact Or.inr (Or.inl q)
            · exact Or.inr (Or.inr q)
            · exact Or.inl q.2
    refine pk_le (32 * m + b - e0.1) 0 (fun z => ?_) (fun z => ?_) rfl rfl (by omega) (by omega)
    · refine mx_cut hW hk0 hm (b := e0.1 % 32) (by omega) ⟨e0, hem, by omega⟩ hC ?_
      intro L' ct un dp ke fi si us le nx ro pa sl hW' hm' hC'
      refine fin L' ct un dp ke fi si us le nx ro pa sl hW' hC' (fun x => ?_)
      rw [hm']
      constructor
      · rintro ⟨q1, q2⟩
        exact Or.inl ⟨q1, fun z2 => q2 (by rw [z2]; omega)⟩
      · rintro (⟨q1, q2⟩ | ⟨q1, q2⟩)
        · exact ⟨q1, fun z2 => q2 (cb_inj hs q1 hem (by omega))⟩
        · omega
    · refine ⟨ic, ?_⟩
      rw [ar_c8 (by omega), ar_s8 (by omega)]
      have hW' := ty_siz hA (s := 32 * m + b - e0.1) (by omega)
      refine nm_e (fin _ _ _ _ _ _ _ _ _ _ _ _ _ hW' ?_ (fun x => ?_))
      · intro j hj
        rw [hC j hj, hL, mx_c_add, mx_c_add]
      · rw [cb_add]
        have hd2 := cb_del (a := a) (b := b') (e := e0) (e' := x) (by rw [← hL]; exact hs)
        rw [hd2, ← hL]
        constructor
        · rintro (q | q)
          · exact Or.inr ⟨z, q⟩
          · exact Or.inl q
        · rintro (q | q)
          · exact Or.inr q
          · exact Or.inl q.2
end
end
section
/-! map: a hole gets a block -/
section
variable {g md ll un dp : Int32} {da nw hd ct bf th lg ws il ke fi si us le nx ro pa sl : Nat → Int32}
variable {m b k p n fb st nn : Nat} {L L0 L1 : List tr_C} {fr fr' : Nat → Prop} {e : tr_C} {mp : Nat → Int32}
theorem mm_211 {post : SX → Prop} {x5 : Int32} (hW : ts_W 0 un ke fi si us le nx ro L L1) (hk0 : ∀ e ∈ L, e.1 < 288) (hl1 : L1.length ≤ 50) (hm : m < 9) (hb : fb < 32) (hst : st < 96) (hnn : nn < 128) (hC : mx_T ct L)
    (hf : (x5 = 0 ∧ ∀ e ∈ L, e.1 ≠ 32 * m + fb) ∨ (x5 = 1 ∧ ∃ e ∈ L, e.1 = 32 * m + fb))
    (K : ∀ L' ct' un' dp' ke' fi' si' us' le' nx' ro' pa' sl', ts_W 0 un' ke' fi' si' us' le' nx' ro' L' L1 → (∀ e, e ∈ L' ↔ e = (32 * m + fb, st, nn) ∨ (e ∈ L ∧ e.1 ≠ 32 * m + fb)) → mx_T ct' L' → post (g, md, ll, un', dp', da, nw, hd, ct', bf, th, lg, ws, il, ke', fi', si', us', le', nx', ro', pa', sl')) :
    wX_map_211 post (nI m) x5 (nI fb) (nI st) (nI nn) g md ll un dp da nw hd ct bf th lg ws il ke fi si us le nx ro pa sl := by
  unfold wX_map_211
  rcases hf with ⟨rfl, hf⟩ | ⟨rfl, hf⟩
  · refine br_t rfl ?_
    unfold wX_map_223
    refine mx_add hW hk0 hl1 hm hb hst hnn hf hC ?_
    intro L' ct' un' dp' ke' fi' si' us' le' nx' ro' pa' sl' hW' hm' hC'
    refine K _ _ _ _ _ _ _ _ _ _ _ _ _ hW' (fun e => ?_) hC'
    rw [hm']
    exact ⟨fun q => q.imp id (fun z => ⟨z, hf e z⟩), fun q => q.imp id (fun z => z.1)⟩
  · refine br_f n_one ?_
    refine mx_cut hW hk0 hm hb hf hC ?_
    intro L2 ct un dp ke fi si us le nx ro pa sl hW2 hm2 hC2
    show wX_map_223 _ _ _ _ _ g md ll un dp da nw hd ct bf th lg ws il ke fi si us le nx ro pa sl
    unfold wX_map_223
    refine mx_add hW2 (fun e he => hk0 e ((hm2 e).mp he).1) hl1 hm hb hst hnn (fun e he => ((hm2 e).mp he).2) hC2 ?_
    intro L' ct' un' dp' ke' fi' si' us' le' nx' ro' pa' sl' hW' hm' hC'
    refine K _ _ _ _ _ _ _ _ _ _ _ _ _ hW' (fun e => ?_) hC'
    rw [hm', hm2]
theorem mm_198 {post : SX → Prop} {x5 x10 : Int32} (hW : ts_W 0 un ke fi si us le nx ro L L1) (hk0 : ∀ e ∈ L, e.1 < 288) (hl1 : L1.length ≤ 50) (hm : m < 9) (hb : b < 32) (hfb : fb ≤ b) (hst : st < 96) (hnn : nn < 128) (hC : mx_T ct L)
    (hf : (x5 = 0 ∧ ∀ e ∈ L, e.1 ≠ 32 * m + fb) ∨ (x5 = 1 ∧ ∃ e ∈ L, e.1 = 32 * m + fb)) {Q : Prop} (hg : (x10 = 0 ∧ ¬ Q) ∨ (x10 = 1 ∧ Q ∧ b < 31 ∧ ∃ e ∈ L, e.1 = 32 * m + b + 1))
    (K : ∀ L' ct' un' dp' ke' fi' si' us' le' nx' ro' pa' sl', ts_W 0 un' ke' fi' si' us' le' nx' ro' L' L1 → (∀ e, e ∈ L' ↔ e = (32 * m + fb, st, nn) ∨ (e ∈ L ∧ e.1 ≠ 32 * m + fb ∧ ¬ (Q ∧ e.1 = 32 * m + b + 1))) → mx_T ct' L' → post (g, md, ll, un', dp', da, nw, hd, ct', bf, th, lg, ws, il, ke', fi', si', us', le', nx', ro', pa', sl')) :
    wX_map_198 post (nI m) (nI b) x5 (nI fb) (nI st) (nI nn) x10 g md ll un dp da nw hd ct bf th lg ws il ke fi si us le nx ro pa sl := by
  unfold wX_map_198
  rcases hg with ⟨rfl, hg⟩ | ⟨rfl, hg, h31, hg2⟩
  · refine br_t rfl ?_
    refine mm_211 hW hk0 hl1 hm (by omega) hst hnn hC hf ?_
    intro L' ct' un' dp' ke' fi' si' us' le' nx' ro' pa' sl' hW' hm' hC'
    refine K _ _ _ _ _ _ _ _ _ _ _ _ _ hW' (fun e => ?_) hC'
    rw [hm']
    exact ⟨fun q => q.imp id (fun z => ⟨z.1, z.2, fun y => hg y.1⟩), fun q => q.imp id (fun z => ⟨z.1, z.2.1⟩)⟩
  · refine br_f n_one ?_
    rw [nI_1]
    have eb : 32 * m + (b + 1) = 32 * m + b + 1 := by omega
    refine mx_cut hW hk0 hm (b := b + 1) (by omega) (by rw [eb]; exact hg2) hC ?_
    intro L2 ct un dp ke fi si us le nx ro pa sl hW2 hm2 hC2
    show wX_map_211 _ _ _ _ _ _ g md ll un dp da nw hd ct bf th lg ws il ke fi si us le nx ro pa sl
    refine mm_211 hW2 (fun e he => hk0 e ((hm2 e).mp he).1) hl1 hm (by omega) hst hnn hC2 ?_ ?_
    · rcases hf with ⟨q, z⟩ | ⟨q, e, z1, z2⟩
      · exact Or.inl ⟨q, fun e he => z e ((hm2 e).mp he).1⟩
      · exact Or.inr ⟨q, e, (hm2 e).mpr ⟨z1, by omega⟩, z2⟩
    · intro L' ct' un' dp' ke' fi' si' us' le' nx' ro' pa' sl' hW' hm' hC'
      refine K _ _ _ _ _ _ _ _ _ _ _ _ _ hW' (fun e => ?_) hC'
      rw [hm', hm2, eb]
      exact ⟨fun q => q.imp id (fun z => ⟨z.1.1, z.2, fun y => z.1.2 y.2⟩), fun q => q.imp id (fun z => ⟨⟨z.1, fun y => z.2.2 ⟨hg, y⟩⟩, z.2.1⟩)⟩
theorem mm_118 {post : SX → Prop} {x5 : Int32} {n1 : Nat} (hW : ts_W 0 un ke fi si us le nx ro L L1) (hE : ex_E L mp) (hF : fr_F L1 fr) (hC : mx_T ct L) (hm : m < 9) (hb : b < 32) (hp : p < 96) (hh : mp (32 * m + b) = -1) (hfb : fb ≤ b) (hn1 : fb + n1 = b + 1) (hst : st + (b - fb) = p)
    (hf : (x5 = 0 ∧ fb = b ∧ (0 < b → 0 < p → mp (32 * m + b - 1) ≠ nI (p - 1))) ∨ (x5 = 1 ∧ ∃ el ∈ L, el.1 + el.2.2 = 32 * m + b ∧ 0 < b ∧ el.2.1 + el.2.2 = p ∧ 32 * m + fb = el.1))
    (K : ∀ ct' un' dp' ke' fi' si' us' le' nx' ro' pa' sl', mx_M un' ke' fi' si' us' le' nx' ro' ct' (upd mp (32 * m + b) (nI p)) fr → post (g, md, ll, un', dp', da, nw, hd, ct', bf, th, lg, ws, il, ke', fi', si', us', le', nx', ro', pa', sl')) :
    wX_map_118 post (nI m) (nI b) (nI p) x5 (nI fb) (nI st) (nI n1) g md ll un dp da nw hd ct bf th lg ws il ke fi si us le nx ro pa sl := by
  have hs := ts_W_srt hW
  have hs1 := ts_W_srt (ts_swap (t := 0) (by omega) hW)
  have hl1 := fr_len hs1 hF
  have hk0 : ∀ e ∈ L, e.1 < 288 := fun e he => (hE.1 e he).1
  have hmod : (32 * m + b) % 32 = b := by omega
  -- left in terms of keys
  have hf2 : (x5 = 0 ∧ ∀ e ∈ L, e.1 ≠ 32 * m + fb) ∨ (x5 = 1 ∧ ∃ e ∈ L, e.1 = 32 * m + fb) := by
    rcases hf with ⟨q, z, _⟩ | ⟨q, el, z1, z2, z3, z4, z5⟩
    · refine Or.inl ⟨q, fun e he z2 => ?_⟩
      have fe := hE.1 e he
      have v := ex_val hE he (k := 32 * m + b) (by omega) (by have := fe.2.1; omega)
      rw [hh] at v
      exact n_ne1 (by have := fe.2.2.2.1; omega) v.symm
    · exact Or.inr ⟨q, el, z1, z5.symm⟩
  have hl : (32 * m + fb = 32 * m + b ∧ st = p ∧ (0 < (32 * m + b) % 32 → 0 < p → mp (32 * m + b - 1) ≠ nI (p - 1))) ∨ (∃ el ∈ L, el.1 + el.2.2 = 32 * m + b ∧ 0 < (32 * m + b) % 32 ∧ el.2.1 + el.2.2 = p ∧ 32 * m + fb = el.1 ∧ st = el.2.1) := by
    rw [hmod]
    rcases hf with ⟨_, z1, z2⟩ | ⟨_, el, z1, z2, z3, z4, z5⟩
    · exact Or.inl ⟨by omega, by omega, z2⟩
    · exact Or.inr ⟨el, z1, z2, z3, z4, z5, by omega⟩
  have hleft : ∀ e ∈ L, (e.1 ≠ 32 * m + fb ↔ ¬ (e.1 + e.2.2 = 32 * m + b ∧ 0 < (32 * m + b) % 32 ∧ e.2.1 + e.2.2 = p)) := by
    intro e he
    have fe := hE.1 e he
    have fe1 := fe.2.1
    have fe4 := fe.2.2.2.1
    rcases hl with ⟨z1, z2, z3⟩ | ⟨el, z1, z2, z3, z4, z5, z6⟩
    · constructor
      · rintro _ ⟨q1, q2, q3⟩
        have v := ex_val hE he (k := 32 * m + b - 1) (by omega) (by omega)
        refine z3 q2 (by omega) ?_
        rw [v]
        exact congrArg nI (by omega)
      · intro _ q
        have v := ex_val hE he (k := 32 * m + b) (by omega) (by omega)
        rw [hh] at v
        exact n_ne1 (by omega) v.symm
    · have fl := (hE.1 el z1).2.1
      constructor
      · rintro q0 ⟨q1, q2, q3⟩
        have := ex_cov2 hs hE he z1 (k := 32 * m + b - 1) (by omega) (by omega) (by omega) (by omega)
        rw [this] at q0
        omega
      · intro q1 q2
        have := cb_inj hs he z1 (by omega)
        rw [this] at q1
        exact q1 ⟨z2, z3, z4⟩
  -- the end, once the right one is known
  have fin : ∀ nn x10, ((x10 = 0 ∧ (b < 31 → mp (32 * m + b + 1) ≠ nI (p + 1)) ∧ nn = n1) ∨ (x10 = 1 ∧ b < 31 ∧ ∃ er ∈ L, er.1 = 32 * m + b + 1 ∧ er.2.1 = p + 1 ∧ nn = n1 + er.2.2)) → ∀ dp pa sl, wX_map_198 post (nI m) (nI b) x5 (nI fb) (nI st) (nI nn) x10 g md ll un dp da nw hd ct bf th lg ws il ke fi si us le nx ro pa sl := by
    intro nn x10 hg dp pa sl
    have hnn : nn < 128 := by
      rcases hg with ⟨_, _, q⟩ | ⟨_, _, er, q1, q2, q3, q4⟩
      · omega
      · have := (hE.1 er q1).2.2.2.1; omega
    refine mm_198 hW hk0 (by omega) hm hb hfb (by omega) hnn hC hf2 (Q := b < 31 ∧ ∃ er ∈ L, er.1 = 32 * m + b + 1 ∧ er.2.1 = p + 1) ?_ ?_
    · rcases hg with ⟨q, z, _⟩ | ⟨q, z, er, z1, z2, z3, _⟩
      · refine Or.inl ⟨q, ?_⟩
        rintro ⟨y1, er, y2, y3, y4⟩
        have fr' := hE.1 er y2
        have v := ex_val hE y2 (k := 32 * m + b + 1) (by omega) (by have := fr'.2.1; omega)
        refine z y1 ?_
        rw [v]
        exact congrArg nI (by omega)
      · exact Or.inr ⟨q, ⟨z, er, z1, z2, z3⟩, z, er, z1, z2⟩
    · intro L' ct' un' dp' ke' fi' si' us' le' nx' ro' pa' sl' hW' hm' hC'
      refine K _ _ _ _ _ _ _ _ _ _ _ _ ⟨L', L1, hW', ex_map (fm := 32 * m + fb) (st := st) (nn := nn) hs hE (by omega) hp hh hl ?_ ?_, hF, hC'⟩
      · rw [hmod]
        rcases hg with ⟨_, z, q⟩ | ⟨_, z, er, z1, z2, z3, z4⟩
        · exact Or.inl ⟨by omega, z⟩
        · exact Or.inr ⟨er, z1, z2, z, z3, by omega⟩
      · intro x
        rw [hm']
        constructor
        · rintro (q | ⟨q1, q2, q3⟩)
          · exact Or.inl q
          · refine Or.inr ⟨q1, (hleft x q1).mp q2, ?_⟩
            rw [hmod]
            rintro ⟨y1, y2, y3⟩
            exact q3 ⟨⟨y2, x, q1, y1, y3⟩, y1⟩
        · rintro (q | ⟨q1, q2, q3⟩)
          · exact Or.inl q
          · refine Or.inr ⟨q1, (hleft x q1).mpr q2, ?_⟩
            rw [hmod] at q3
            rintro ⟨⟨y1, er, y2, y3, y4⟩, y5⟩
            have := cb_inj hs q1 y2 (by omega)
            exact q3 ⟨y5, y1, by rw [this]; exact y4⟩
  -- which right one
  have fin138 : ∀ z0 : Int32, ((z0 < 0 ∧ (b < 31 → mp (32 * m + b + 1) ≠ nI (p + 1))) ∨ ∃ cell e, z0 = nI cell ∧ cell < 1170 ∧ ar_ce ke fi si cell e ∧ b < 31 ∧ e ∈ L ∧ (e.1 / 32 = m) ∧ (e.1 ≠ 32 * m + b + 1 → mp (32 * m + b + 1) ≠ nI (p + 1))) → ∀ dp pa sl, wX_map_138 post (nI m) (nI b) (nI p) x5 (nI fb) (nI st) (nI n1) z0 g md ll un dp da nw hd ct bf th lg ws il ke fi si us le nx ro pa sl := by
    intro z0 hz dp pa sl
    have no : (b < 31 → mp (32 * m + b + 1) ≠ nI (p + 1)) → wX_map_178 post (nI m) (nI b) x5 (nI fb) (nI st) (nI n1) z0 g md ll un dp da nw hd ct bf th lg ws il ke fi si us le nx ro pa sl := by
      intro hno
      show wX_map_179 _ _ _ _ _ _ _ _ 0 g md ll un dp da nw hd ct bf th lg ws il ke fi si us le nx ro pa sl
      exact br_t rfl (fin n1 0 (Or.inl ⟨rfl, hno, rfl⟩) dp pa sl)
    unfold wX_map_138
    rcases hz with ⟨hz, hno⟩ | ⟨cell, e, rfl, hc, ce, h31, hem, hemm, hno⟩
    · exact br_t hz (no hno)
    · have fe := hE.1 e hem
      have fe1 := fe.1
      have fe4 := fe.2.2.2.1
      have ic : vp_in (nI cell) 1170 := vp_in_nI hc (by omega)
      refine br_f (nI_pos (by omega)) ⟨ic, ?_⟩
      rw [n_cl (by omega : cell < 2 ^ 31), ce.1, n_and31 (by omega), nI_1 b, nI_1 p]
      refine pk_eq (e.1 % 32) (b + 1) (fun z => ?_) (fun z => ?_) rfl rfl (by omega) (by omega)
      · refine ⟨ic, ?_⟩
        rw [ce.2.1]
        refine pk_eq e.2.1 (p + 1) (fun y => ?_) (fun y => ?_) rfl rfl (by omega) (by omega)
        · refine br_f n_one ⟨ic, ?_⟩
          rw [n_cl (by omega : cell < 2 ^ 31), ce.2.2.1, nI_add]
          exact nm_e (fin (n1 + e.2.2) 1 (Or.inr ⟨rfl, h31, e, hem, by omega, y, rfl⟩) dp pa sl)
        · refine no (fun _ => ?_)
          have v := ex_val hE hem (k := 32 * m + b + 1) (by omega) (by have := fe.2.1; omega)
          rw [v]
          intro w
          have := n_inj (by omega) (by omega) w
          omega
      · exact no (fun _ => hno (by omega))
  unfold wX_map_118
  refine pk_le 31 b (fun z => ?_) (fun z => ?_) rfl rfl (by omega) (by omega)
  · exact fin138 (-1) (Or.inl ⟨n_neg, fun q => by omega⟩) _ _ _
  · rw [nI_1]
    refine mx_extent hW hE hm (b := b + 1) (by omega) ?_ ?_
    · intro hall dp pa sl
      refine fin138 (-1) (Or.inl ⟨n_neg, fun _ w => ?_⟩) _ _ _
      rcases hE.2 (32 * m + b + 1) (by omega) with q | ⟨e, he, q1, q2⟩
      · rw [q] at w
        exact n_ne1 (by omega) w.symm
      · have fe := hE.1 e he
        have := hall e he (by have := fe.2.2.1; omega)
        omega
    · intro cell a e b' hA hem1 hek hb' dp pa sl
      have hc := ts_At_lt hA
      have ce := ts_At_ce hA
      have hL := ts_At_L hA
      have hem : e ∈ L := by rw [hL]; simp
      refine fin138 (nI cell) (Or.inr ⟨cell, e, rfl, hc, ce, z, hem, hem1, fun y w => ?_⟩) _ _ _
      -- the extent that holds k + 1 would begin there
      rcases hE.2 (32 * m + b + 1) (by omega) with q | ⟨e0, he0, q1, q2⟩
      · rw [q] at w
        exact n_ne1 (by omega) w.symm
      · have := ex_flo hs hE hL hb' hek he0 (by omega) (by omega)
        subst this
        have v := ex_val hE hem (k := 32 * m + b) (by omega) (by omega)
        rw [hh] at v
        have fe := hE.1 e0 hem
        exact n_ne1 (by have := fe.2.2.2.1; omega) v.symm
theorem mm_map {post : SX → Prop} (h : mx_M un ke fi si us le nx ro ct mp fr) (hm : m < 9) (hb : b < 32) (hp : p < 96) (hh : mp (32 * m + b) = -1)
    (K : ∀ ct' un' dp' ke' fi' si' us' le' nx' ro' pa' sl', mx_M un' ke' fi' si' us' le' nx' ro' ct' (upd mp (32 * m + b) (nI p)) fr → post (g, md, ll, un', dp', da, nw, hd, ct', bf, th, lg, ws, il, ke', fi', si', us', le', nx', ro', pa', sl')) : wpX_map post (g, md, ll, un, dp, da, nw, hd, ct, bf, th, lg, ws, il, ke, fi, si, us, le, nx, ro, pa, sl) (nI m) (nI b) (nI p) := by
  obtain ⟨L, L1, hW, hE, hF, hC⟩ := h
  have hs := ts_W_srt hW
  have no : ∀ z0 : Int32, (0 < b → 0 < p → mp (32 * m + b - 1) ≠ nI (p - 1)) → ∀ dp pa sl, wX_map_58 post (nI m) (nI b) (nI p) z0 g md ll un dp da nw hd ct bf th lg ws il ke fi si us le nx ro pa sl := by
    intro z0 hno dp pa sl
    show wX_map_59 _ _ _ _ _ 0 g md ll un dp da nw hd ct bf th lg ws il ke fi si us le nx ro pa sl
    refine br_t rfl ?_
    show wX_map_80 _ _ _ _ _ 0 _ g md ll un dp da nw hd ct bf th lg ws il ke fi si us le nx ro pa sl
    refine br_t rfl ?_
    show wX_map_98 _ _ _ _ _ 0 _ _ g md ll un dp da nw hd ct bf th lg ws il ke fi si us le nx ro pa sl
    refine br_t rfl ?_
    exact mm_118 (n1 := 1) hW hE hF hC hm hb hp hh (Nat.le_refl _) rfl (by omega) (Or.inl ⟨rfl, rfl, hno⟩) K
  unfold wpX_map
  refine mx_extent hW hE hm hb ?_ ?_
  · intro hall dp pa sl
    refine br_t n_neg (no (-1) (fun q1 q2 w => ?_) _ _ _)
    rcases hE.2 (32 * m + b - 1) (by omega) with q | ⟨e, he, y1, y2⟩
    · rw [q] at w
      exact n_ne1 (by omega) w.symm
    · have fe := hE.1 e he
      have := hall e he (by have := fe.2.2.1; omega)
      omega
  · intro cell a e b' hA hem1 hek hb' dp pa sl
    have hc := ts_At_lt hA
    have ce := ts_At_ce hA
    have hL := ts_At_L hA
    have hem : e ∈ L := by rw [hL]; simp
    obtain ⟨f1, f2, f3, f4, f5, f6, f7⟩ := hE.1 e hem
    have ic : vp_in (nI cell) 1170 := vp_in_nI hc (by omega)
    have ec : (nI cell).toNatClampNeg = cell := n_cl (by omega)
    -- an extent that ends at k is the floor
    have isf : 0 < b → mp (32 * m + b - 1) ≠ -1 → e.1 + e.2.2 = 32 * m + b ∧ mp (32 * m + b - 1) = nI (e.2.1 + e.2.2 - 1) := by
      intro q0 q
      rcases hE.2 (32 * m + b - 1) (by omega) with y | ⟨e0, he0, y1, y2⟩
      · exact absurd y q
      · have f0 := hE.1 e0 he0
        have h1 : e0.1 + e0.2.2 = 32 * m + b := by
          rcases Nat.lt_or_ge (32 * m + b) (e0.1 + e0.2.2) with w | w
          · have v := ex_val hE he0 (k := 32 * m + b) (by omega) w
            rw [hh] at v
            exact absurd v.symm (n_ne1 (by have := f0.2.2.2.1; omega))
          · omega
        have h2 := cb_flo hs hL hb' he0 (by omega)
        have h3 : e.1 < 32 * m + b := by
          rcases Nat.lt_or_ge e.1 (32 * m + b) with w | w
          · exact w
          · have v := ex_val hE hem (k := 32 * m + b) (by omega) (by omega)
            rw [hh] at v
            exact absurd v.symm (n_ne1 (by omega))
        have h4 := ex_ov hs hE hem he0 h2 (by omega)
        subst h4
        refine ⟨h1, ?_⟩
        rw [ex_val hE hem (k := 32 * m + b - 1) (by omega) (by omega)]
        exact congrArg nI (by omega)
    refine br_f (nI_pos (by omega)) ⟨ic, ic, ?_⟩
    rw [ec, ce.1, ce.2.1, ce.2.2.1, n_and31 (by omega), nI_add, nI_add]
    refine pk_eq (e.1 % 32 + e.2.2) b (fun z => ?_) (fun z => ?_) rfl rfl (by omega) (by omega)
    · refine ⟨ic, ic, pk_eq (e.2.1 + e.2.2) p (fun y => ?_) (fun y => ?_) rfl rfl (by omega) (by omega)⟩
      · refine br_f n_one ⟨ic, ?_⟩
        rw [ec, ce.1, n_and31 (by omega)]
        refine br_f n_one ⟨ic, ?_⟩
        rw [ec, ce.2.1]
        refine br_f n_one ⟨ic, ?_⟩
        rw [ec, ce.2.2.1, nI_1]
        exact mm_118 (n1 := e.2.2 + 1) hW hE hF hC hm hb hp hh (by omega) (by omega) (by omega) (Or.inr ⟨rfl, e, hem, by omega, by omega, y, by omega⟩) K
      · refine no _ (fun q1 q2 w => y ?_) _ _ _
        obtain ⟨g1, g2⟩ := isf q1 (by rw [w]; exact n_ne1 (by omega))
        rw [g2] at w
        have := n_inj (by omega) (by omega) w
        omega
    · refine no _ (fun q1 q2 w => z ?_) _ _ _
      obtain ⟨g1, g2⟩ := isf q1 (by rw [w]; exact n_ne1 (by omega))
      omega
end
end
section
/-! note and change -/
def xi_L (ll : Int32) (hd lg ws il mp cm : Nat → Int32) : Prop := ∃ (n : Nat) (f : Nat → Nat), ll = nI n ∧ (∀ i, i < n → f i < 192 ∧ lg i = nI (f i) ∧ il (f i) = 1 ∧ ws i = cm (f i)) ∧ (∀ i j, i < n → j < n → f i = f j → i = j) ∧
  (∀ k, k < 192 → (il k = 0 ∧ mp k = cm k) ∨ (il k = 1 ∧ ∃ i, i < n ∧ f i = k)) ∧ (∀ p, p < 96 → hd p = nI (cb_n (fun i => ws i = nI p) n)) ∧ (∀ k, k < 192 → cm k = -1 ∨ ∃ p, p < 96 ∧ cm k = nI p)
def xi_N (nw mp : Nat → Int32) : Prop := ∀ p, p < 96 → nw p = nI (cb_n (fun k => mp k = nI p) 288)
def xi_S (ll un : Int32) (nw hd ct lg ws il ke fi si us le nx ro mp cm : Nat → Int32) : Prop :=
  mx_M un ke fi si us le nx ro ct mp (fre nw hd) ∧ xi_N nw mp ∧ xi_L ll hd lg ws il mp cm
theorem cb_all : ∀ {n : Nat}, cb_n (fun _ => True) n = n
  | 0 => rfl
  | n + 1 => by rw [cb_s, cb_all, cb_t trivial]
theorem ex_wf {L : List tr_C} {mp : Nat → Int32} (h : ex_E L mp) {k : Nat} (hk : k < 288) : mp k = -1 ∨ ∃ p, p < 96 ∧ mp k = nI p := by
  rcases h.2 k hk with q | ⟨e, he, q1, q2⟩
  · exact Or.inl q
  · have fe := h.1 e he
    exact Or.inr ⟨e.2.1 + (k - e.1), by have := fe.2.2.2.1; omega, ex_val h he q1 q2⟩
theorem n_11 : vp_nar .boolean 1 = 1 := rfl
theorem n_10 : vp_nar .boolean 0 = 0 := rfl
theorem n_m8 : vp_nar .byte ((-1 : Int32).toInt8.toInt32) = -1 := by rw [vp_nar_byte]; decide
section
variable {g md ll un dp : Int32} {da nw hd ct bf th lg ws il ke fi si us le nx ro pa sl : Nat → Int32}
variable {m b k p n f : Nat} {mp cm : Nat → Int32} {fr : Nat → Prop}
theorem mx_wf (h : mx_M un ke fi si us le nx ro ct mp fr) (hk : k < 288) : mp k = -1 ∨ ∃ p, p < 96 ∧ mp k = nI p := by
  obtain ⟨L, L1, hW, hE, hF, hC⟩ := h
  exact ex_wf hE hk
theorem xx_note {post : SX → Prop} (hM : mx_M un ke fi si us le nx ro ct mp (fre nw hd)) (hL : xi_L ll hd lg ws il mp cm) (hf : f < 6) (hb : b < 32)
    (K : ∀ ll' hd' lg' ws' il' un' dp' ke' fi' si' us' le' nx' ro' pa' sl', mx_M un' ke' fi' si' us' le' nx' ro' ct mp (fre nw hd') → xi_L ll' hd' lg' ws' il' mp cm → il' (32 * f + b) = 1 → (il (32 * f + b) = 1 → ll' = ll ∧ lg' = lg ∧ ws' = ws ∧ il' = il) →
      post (g, md, ll', un', dp', da, nw, hd', ct, bf, th, lg', ws', il', ke', fi', si', us', le', nx', ro', pa', sl')) : wpX_note post (g, md, ll, un, dp, da, nw, hd, ct, bf, th, lg, ws, il, ke, fi, si, us, le, nx, ro, pa, sl) (nI f) (nI b) (mp (32 * f + b)) := by
  obtain ⟨n, g0, rfl, l1, l2, l3, l4, l5⟩ := hL
  have hk : 32 * f + b < 192 := by omega
  have i1 : vp_in (nI (32 * f + b)) 192 := vp_in_nI hk (by omega)
  have e1 : (nI (32 * f + b)).toNatClampNeg = 32 * f + b := n_cl (by omega)
  have cnt := cb_img (P := fun _ => True) (f := g0) (N := 192) (n := n) (fun i hi => (l1 i hi).1) l2
  rw [cb_all] at cnt
  unfold wpX_note
  rw [n32, nI_add]
  refine nm_e ⟨i1, ?_⟩
  rw [e1]
  rcases l3 (32 * f + b) hk with ⟨z, zc⟩ | ⟨z, i0, hi0, ei0⟩
  · refine br_t z ⟨i1, ?_⟩
    have hn : n < 192 := by
      rw [cnt]
      refine cb_lt (a := 32 * f + b) ?_ hk
      rintro ⟨_, i, hi, ei⟩
      have := (l1 i hi).2.2.1
      rw [ei, z] at this
      exact absurd this (by decide)
    have i2 : vp_in (nI n) 192 := vp_in_nI hn (by omega)
    have e2 : (nI n).toNatClampNeg = n := n_cl (by omega)
    have ew : vp_nar .byte ((mp (32 * f + b)).toInt8.toInt32) = mp (32 * f + b) := by
      rcases mx_wf hM (k := 32 * f + b) (by omega) with q | ⟨p, hp, q⟩
      · rw [q]; exact n_m8
      · rw [q, ar_c8 (by omega), ar_s8 (by omega)]
    rw [n_11]
    refine nm_e ⟨i2, ?_⟩
    rw [e2, ew, nI_1, ar_c16 (by omega), ar_s16 (by omega)]
    refine nm_e (nm_e ⟨i2, nm_e ?_⟩)
    -- the log with one row more
    have hL' : ∀ hd', (∀ p, p < 96 → hd' p = nI (cb_n (fun i => upd ws n (mp (32 * f + b)) i = nI p) (n + 1))) → xi_L (nI (n + 1)) hd' (upd lg n (nI (32 * f + b))) (upd ws n (mp (32 * f + b))) (upd il (32 * f + b) 1) mp cm := by
      intro hd' hh
      refine ⟨n + 1, fun i => if i = n then 32 * f + b else g0 i, rfl, ?_, ?_, ?_, hh, l5⟩
      · intro i hi
        by_cases hin : i = n
        · subst hin
          simp only [if_pos]
          exact ⟨hk, pk_us, pk_us, pk_us.trans zc⟩
        · simp only [if_neg hin]
          have q := l1 i (by omega)
          refine ⟨q.1, by rw [pk_un hin]; exact q.2.1, ?_, by rw [pk_un hin]; exact q.2.2.2⟩
          unfold upd
          split
          · rfl
          · exact q.2.2.1
      · intro i j hi hj hij
        have no : ∀ i, i < n → g0 i ≠ 32 * f + b := by
          intro i hi e
          have := (l1 i hi).2.2.1
          rw [e, z] at this
          exact absurd this (by decide)
        by_cases h1 : i = n
        · by_cases h2 : j = n
          · omega
          · simp only [if_pos h1, if_neg h2] at hij
            exact absurd hij.symm (no j (by omega))
        · by_cases h2 : j = n
          · simp only [if_neg h1, if_pos h2] at hij
            exact absurd hij (no i (by omega))
          · simp only [if_neg h1, if_neg h2] at hij
            exact l2 i j (by omega) (by omega) hij
      · intro k hk2
        by_cases hkk : k = 32 * f + b
        · subst hkk
          exact Or.inr ⟨pk_us, n, by omega, by simp⟩
        · rw [pk_un hkk]
          rcases l3 k hk2 with q | ⟨q, i, hi, ei⟩
          · exact Or.inl q
          · exact Or.inr ⟨q, i, by omega, by simp only [if_neg (show i ≠ n by omega)]; exact ei⟩
    have cold : ∀ p, cb_n (fun i => upd ws n (mp (32 * f + b)) i = nI p) (n + 1) = cb_n (fun i => ws i = nI p) n + cb_b (mp (32 * f + b) = nI p) := by
      intro p
      rw [cb_s, pk_us]
      rw [cb_eq (N := n) (Q := fun i => ws i = nI p) (fun i hi => by rw [pk_un (by omega)])]
    rcases mx_wf hM (k := 32 * f + b) (by omega) with q | ⟨p, hp, q⟩
    · have : ∀ {P : Int32 → Prop}, P (-1) → P (mp (32 * f + b)) := fun h => by rw [q]; exact h
      have hL2 := hL' hd (fun p hp => by
        rw [cold, cb_f (by rw [q]; exact (n_ne1 (by omega)).symm)]
        exact l4 p hp)
      rw [q] at hL2 ⊢
      refine xr_hold_n ?_
      refine K _ _ _ _ _ _ _ _ _ _ _ _ _ _ _ _ hM hL2 pk_us (fun z2 => ?_)
      rw [z] at z2
      exact absurd z2 (by decide)
    · have hc : hd p + 1 = nI (cb_n (fun i => ws i = nI p) n + 1) := by rw [l4 p hp, nI_1]
      have hle := cb_leN (fun i => ws i = nI p) n
      have hL2 := hL' (upd hd p (nI (cb_n (fun i => ws i = nI p) n + 1))) (fun p' hp' => by
        rw [cold]
        by_cases z2 : p' = p
        · subst z2
          rw [pk_us, cb_t q]
        · rw [pk_un z2, cb_f (by rw [q]; intro w; exact z2 (n_inj (by omega) (by omega) w).symm)]
          exact l4 p' hp')
      rw [q] at hL2 ⊢
      refine mx_hold hM hp hc (by omega) ?_
      intro un' dp' ke' fi' si' us' le' nx' ro' pa' sl' hM'
      refine K _ _ _ _ _ _ _ _ _ _ _ _ _ _ _ _ hM' hL2 pk_us (fun z2 => ?_)
      rw [z] at z2
      exact absurd z2 (by decide)
  · refine br_f (by rw [z]; decide) ?_
    exact K _ _ _ _ _ _ _ _ _ _ _ _ _ _ _ _ hM ⟨n, g0, rfl, l1, l2, l3, l4, l5⟩ z (fun _ => ⟨rfl, rfl, rfl, rfl⟩)
theorem xi_L_mp {mp' : Nat → Int32} (h : xi_L ll hd lg ws il mp cm) (hq : ∀ k, k < 192 → il k = 0 → mp' k = mp k) : xi_L ll hd lg ws il mp' cm := by
  obtain ⟨n, g0, e, l1, l2, l3, l4, l5⟩ := h
  refine ⟨n, g0, e, l1, l2, fun k hk => ?_, l4, l5⟩
  rcases l3 k hk with ⟨q1, q2⟩ | q
  · exact Or.inl ⟨q1, (hq k hk q1).trans q2⟩
  · exact Or.inr q
theorem xi_ch {v : Int32} (hk : k < 288) (q : Nat) : cb_n (fun j => upd mp k v j = nI q) 288 + cb_b (mp k = nI q) = cb_n (fun j => mp j = nI q) 288 + cb_b (v = nI q) := by
  have := cb_ch (P := fun j => upd mp k v j = nI q) (Q := fun j => mp j = nI q) (a := k) (N := 288) hk (fun j _ hj => by rw [pk_un hj])
  have e : upd mp k v k = v := pk_us
  rw [e] at this
  exact this
theorem xx_change {post : SX → Prop} (h : xi_S ll un nw hd ct lg ws il ke fi si us le nx ro mp cm) (hf : f < 6) (hb : b < 32) {pp : Int32} (hp : pp = -1 ∨ ∃ q, q < 96 ∧ pp = nI q)
    (K : ∀ ll' un' dp' nw' hd' ct' lg' ws' il' ke' fi' si' us' le' nx' ro' pa' sl', xi_S ll' un' nw' hd' ct' lg' ws' il' ke' fi' si' us' le' nx' ro' (upd mp (32 * f + b) pp) cm → (il (32 * f + b) = 1 → ll' = ll ∧ lg' = lg ∧ ws' = ws ∧ il' = il) → post (g, md, ll', un', dp', da, nw', hd', ct', bf, th, lg', ws', il', ke', fi', si', us', le', nx', ro', pa', sl')) : wpX_change post (g, md, ll, un, dp, da, nw, hd, ct, bf, th, lg, ws, il, ke, fi, si, us, le, nx, ro, pa, sl) (nI f) (nI b) pp := by
  obtain ⟨hM, hN, hL⟩ := h
  have hk : 32 * f + b < 288 := by omega
  unfold wpX_change
  refine mx_mapped hM (by omega) hb ?_
  intro dp pa sl
  refine br_c (fun z => ?_) (fun z => ?_)
  · refine K _ _ _ _ _ _ _ _ _ _ _ _ _ _ _ _ _ _ ?_ (fun _ => ⟨rfl, rfl, rfl, rfl⟩)
    have : upd mp (32 * f + b) pp = mp := (ar_upds _ _ z).symm
    rw [this]
    exact ⟨hM, hN, hL⟩
  · refine xx_note hM hL hf hb ?_
    intro ll hd lg ws il un dp ke fi si us le nx ro pa sl hM1 hL1 hil hsame
    have hL2 : xi_L ll hd lg ws il (upd mp (32 * f + b) pp) cm := xi_L_mp hL1 (fun k hk2 hz => pk_un (fun e => by rw [e, hil] at hz; exact absurd hz (by decide)))
    -- the end, once the counts are right
    have fin : ∀ (nw' : Nat → Int32) (un dp : Int32) (ke fi si us le nx ro pa sl : Nat → Int32), mx_M un ke fi si us le nx ro ct mp (fre nw' hd) → xi_N nw' (upd mp (32 * f + b) pp) →
        ((mp (32 * f + b) < 0 → wX_change_47 post (nI f) (nI b) pp g md ll un dp da nw' hd ct bf th lg ws il ke fi si us le nx ro pa sl) ∧ (¬ mp (32 * f + b) < 0 → wpX_unmap (fun u => match u with | (g, md, ll, un, dp, da, nw, hd, ct, bf, th, lg, ws, il, ke, fi, si, us, le, nx, ro, pa, sl) => wX_change_47 post (nI f) (nI b) pp g md ll un dp da nw hd ct bf th lg ws il ke fi si us le nx ro pa sl) (g, md, ll, un, dp, da, nw', hd, ct, bf, th, lg, ws, il, ke, fi, si, us, le, nx, ro, pa, sl) (nI f) (nI b))) := by
      intro nw' un dp ke fi si us le nx ro pa sl hM2 hN2
      have fin2 : ∀ (ct : Nat → Int32) (un dp : Int32) (ke fi si us le nx ro pa sl : Nat → Int32), mx_M un ke fi si us le nx ro ct (upd mp (32 * f + b) (-1)) (fre nw' hd) → wX_change_47 post (nI f) (nI b) pp g md ll un dp da nw' hd ct bf th lg ws il ke fi si us le nx ro pa sl := by
        intro ct un dp ke fi si us le nx ro pa sl hM3
        unfold wX_change_47
        rcases hp with rfl | ⟨q, hq, rfl⟩
        · exact br_t n_neg (K _ _ _ _ _ _ _ _ _ _ _ _ _ _ _ _ _ _ ⟨hM3, hN2, hL2⟩ hsame)
        · refine br_f (nI_pos (by omega)) ?_
          refine mm_map hM3 (by omega) hb hq pk_us ?_
          intro ct un dp ke fi si us le nx ro pa sl hM4
          rw [ar_uu] at hM4
          exact K _ _ _ _ _ _ _ _ _ _ _ _ _ _ _ _ _ _ ⟨hM4, hN2, hL2⟩ hsame
      rcases mx_wf hM2 hk with q | ⟨o, ho, q⟩
      · refine br_t (by rw [q]; exact n_neg) (fin2 _ _ _ _ _ _ _ _ _ _ _ _ ?_)
        rw [← ar_upds _ _ q]
        exact hM2
      · refine br_f (by rw [q]; exact nI_pos (by omega)) ?_
        refine mx_unmap hM2 (by omega) hb (by rw [q]; exact n_ne1 (by omega)) ?_
        intro ct un dp ke fi si us le nx ro pa sl hM3
        exact fin2 _ _ _ _ _ _ _ _ _ _ _ _ hM3
    -- the old block
    have old : ∀ (nw1 : Nat → Int32) (un dp : Int32) (ke fi si us le nx ro pa sl : Nat → Int32), mx_M un ke fi si us le nx ro ct mp (fre nw1 hd) → (∀ q, q < 96 → nw1 q = nI (cb_n (fun j => mp j = nI q) 288 + cb_b (pp = nI q))) →
        wpX_refer (fun u => match u with | (g, md, ll, un, dp, da, nw, hd, ct, bf, th, lg, ws, il, ke, fi, si, us, le, nx, ro, pa, sl) => ((mp (32 * f + b) < 0 → wX_change_47 post (nI f) (nI b) pp g md ll un dp da nw hd ct bf th lg ws il ke fi si us le nx ro pa sl) ∧ (¬ mp (32 * f + b) < 0 → wpX_unmap (fun u => match u with | (g, md, ll, un, dp, da, nw, hd, ct, bf, th, lg, ws, il, ke, fi, si, us, le, nx, ro, pa, sl) => wX_change_47 post (nI f) (nI b) pp g md ll un dp da nw hd ct bf th lg ws il ke fi si us le nx ro pa sl) (g, md, ll, un, dp, da, nw, hd, ct, bf, th, lg, ws, il, ke, fi, si, us, le, nx, ro, pa, sl) (nI f) (nI b)))) (g, md, ll, un, dp, da, nw1, hd, ct, bf, th, lg, ws, il, ke, fi, si, us, le, nx, ro, pa, sl) (mp (32 * f + b)) (-1) := by
      intro nw1 un dp ke fi si us le nx ro pa sl hM2 hN1
      rcases mx_wf hM2 hk with q | ⟨o, ho, q⟩
      · have hN2 : xi_N nw1 (upd mp (32 * f + b) pp) := by
          intro x hx
          rw [hN1 x hx]
          have := xi_ch (mp := mp) (v := pp) hk x
          rw [cb_f (show ¬ mp (32 * f + b) = nI x by rw [q]; exact (n_ne1 (by omega)).symm)] at this
          exact congrArg nI (by omega)
        have r := fin nw1 un dp ke fi si us le nx ro pa sl hM2 hN2
        rw [q] at r ⊢
        exact xr_refer_n r
      · have hpo : ¬ pp = nI o := fun e => z (by rw [q, e])
        have pos : 0 < cb_n (fun j => mp j = nI o) 288 := cb_pos hk q
        have hle := cb_leN (fun j => mp j = nI o) 288
        have hc : nw1 o + (-1) = nI (cb_n (fun j => mp j = nI o) 288 - 1) := by
          rw [hN1 o ho, cb_f hpo, Nat.add_zero]
          exact sb_m1 pos
        have hN2 : xi_N (upd nw1 o (nI (cb_n (fun j => mp j = nI o) 288 - 1))) (upd mp (32 * f + b) pp) := by
          intro x hx
          have := xi_ch (mp := mp) (v := pp) hk x
          by_cases zx : x = o
          · subst zx
            rw [pk_us]
            rw [cb_t q, cb_f hpo] at this
            exact congrArg nI (by omega)
          · rw [pk_un zx, hN1 x hx]
            rw [cb_f (show ¬ mp (32 * f + b) = nI x by rw [q]; intro w; exact zx (n_inj (by omega) (by omega) w).symm)] at this
            exact congrArg nI (by omega)
        have key : wpX_refer (fun u => match u with | (g, md, ll, un, dp, da, nw, hd, ct, bf, th, lg, ws, il, ke, fi, si, us, le, nx, ro, pa, sl) => ((mp (32 * f + b) < 0 → wX_change_47 post (nI f) (nI b) pp g md ll un dp da nw hd ct bf th lg ws il ke fi si us le nx ro pa sl) ∧ (¬ mp (32 * f + b) < 0 → wpX_unmap (fun u => match u with | (g, md, ll, un, dp, da, nw, hd, ct, bf, th, lg, ws, il, ke, fi, si, us, le, nx, ro, pa, sl) => wX_change_47 post (nI f) (nI b) pp g md ll un dp da nw hd ct bf th lg ws il ke fi si us le nx ro pa sl) (g, md, ll, un, dp, da, nw, hd, ct, bf, th, lg, ws, il, ke, fi, si, us, le, nx, ro, pa, sl) (nI f) (nI b)))) (g, md, ll, un, dp, da, nw1, hd, ct, bf, th, lg, ws, il, ke, fi, si, us, le, nx, ro, pa, sl) (nI o) (-1) := by
          refine mx_refer hM2 ho hc (by omega) ?_
          intro un dp ke fi si us le nx ro pa sl hM3
          exact fin _ un dp ke fi si us le nx ro pa sl hM3 hN2
        have e2 : (nI o) = mp (32 * f + b) := q.symm
        rw [e2] at key
        exact key
    show wpX_refer _ (g, md, ll, un, dp, da, nw, hd, ct, bf, th, lg, ws, il, ke, fi, si, us, le, nx, ro, pa, sl) pp 1
    rcases hp with rfl | ⟨q, hq, rfl⟩
    · refine xr_refer_n ?_
      refine old nw un dp ke fi si us le nx ro pa sl hM1 (fun x hx => ?_)
      rw [cb_f (show ¬ (-1 : Int32) = nI x from (n_ne1 (by omega)).symm)]
      exact hN x hx
    · have hle := cb_leN (fun j => mp j = nI q) 288
      refine mx_refer hM1 hq (c' := cb_n (fun j => mp j = nI q) 288 + 1) (by rw [hN q hq, nI_1]) (by omega) ?_
      intro un dp ke fi si us le nx ro pa sl hM2
      refine old _ un dp ke fi si us le nx ro pa sl hM2 (fun x hx => ?_)
      by_cases zx : x = q
      · subst zx
        rw [pk_us, cb_t rfl]
      · rw [pk_un zx, hN x hx, cb_f (show ¬ nI q = nI x from fun w => zx (n_inj (by omega) (by omega) w).symm)]
        rfl
end
end
section
/-! differing, commit, changed -/
theorem cb_head {P : Nat → Prop} {m : Nat} : cb_n P (m + 1) = cb_b (P 0) + cb_n (fun j => P (j + 1)) m := by
  have := cb_cat (P := P) (a := 1) (b := m)
  have e : 1 + m = m + 1 := by omega
  rw [e] at this
  rw [this]
  have e1 : cb_n P 1 = cb_b (P 0) := by
    show cb_n P 0 + cb_b (P 0) = _
    show 0 + cb_b (P 0) = _
    omega
  rw [e1]
  have e2 : (fun k => P (1 + k)) = (fun j => P (j + 1)) := by
    funext k
    rw [Nat.add_comm]
  rw [e2]
section
variable {g md ll un dp : Int32} {da nw hd ct bf th lg ws il ke fi si us le nx ro pa sl : Nat → Int32}
variable {m b k p n f : Nat} {mp cm : Nat → Int32} {fr : Nat → Prop} {g0 : Nat → Nat}
theorem xi_n (l1 : ∀ i, i < n → g0 i < 192) (l2 : ∀ i j, i < n → j < n → g0 i = g0 j → i = j) : n ≤ 192 := by
  have cnt := cb_img (P := fun _ => True) (f := g0) (N := 192) (n := n) l1 l2
  rw [cb_all] at cnt
  rw [cnt]
  exact cb_leN _ _
theorem xx_diff_l {post : Int32 → SX → Prop} (hM : mx_M un ke fi si us le nx ro ct mp fr) (hn : n ≤ 192) (hl : ll = nI n) (l1 : ∀ i, i < n → g0 i < 192 ∧ lg i = nI (g0 i))
    (K : ∀ dp' pa' sl', post (nI (cb_n (fun i => ¬ mp (g0 i) = ws i) n)) (g, md, ll, un, dp', da, nw, hd, ct, bf, th, lg, ws, il, ke, fi, si, us, le, nx, ro, pa', sl')) :
    ∀ j i (dp : Int32) (pa sl : Nat → Int32), i + j = n → ∀ f, j < f → wX_differing_4 post f (nI (cb_n (fun i => ¬ mp (g0 i) = ws i) i)) (nI i) g md ll un dp da nw hd ct bf th lg ws il ke fi si us le nx ro pa sl := by
  intro j
  induction j with
  | zero =>
    intro i dp pa sl hi f hf
    obtain ⟨f, rfl⟩ : ∃ m, f = m + 1 := ⟨f - 1, by omega⟩
    have : i = n := by omega
    subst this
    refine br_t ?_ (K _ _ _)
    rw [hl]
    exact nI_le (Nat.le_refl _) (by omega)
  | succ j ih =>
    intro i dp pa sl hi f hf
    obtain ⟨f, rfl⟩ : ∃ m, f = m + 1 := ⟨f - 1, by omega⟩
    have i1 : vp_in (nI i) 192 := vp_in_nI (by omega) (by omega)
    have e1 : (nI i).toNatClampNeg = i := n_cl (by omega)
    have q := l1 i (by omega)
    refine br_f ?_ ⟨i1, i1, ?_⟩
    · rw [hl]
      exact nI_ge (by omega) (by omega)
    · rw [e1, q.2, n_shr5 (by omega), n_and31 (by omega)]
      refine mx_mapped hM (by omega) (by omega) ?_
      intro dp pa sl
      have ek : 32 * (g0 i / 32) + g0 i % 32 = g0 i := by omega
      refine ⟨i1, ?_⟩
      rw [ek]
      have es := cb_s (P := fun i => ¬ mp (g0 i) = ws i) (k := i)
      refine br_c (fun z => ?_) (fun z => ?_)
      · intro y ey
        rw [ey, nI_1]
        rw [cb_f (fun w => w z), Nat.add_zero (cb_n (fun i => ¬ mp (g0 i) = ws i) i)] at es
        rw [← es]
        exact ih (i + 1) _ _ _ (by omega) f (by omega)
      · intro y ey w ew
        rw [ey, ew, nI_1, nI_1]
        rw [cb_t z] at es
        rw [← es]
        exact ih (i + 1) _ _ _ (by omega) f (by omega)
theorem xx_differing {post : Int32 → SX → Prop} (hM : mx_M un ke fi si us le nx ro ct mp fr) (hL : xi_L ll hd lg ws il mp cm)
    (K : ∀ dp' pa' sl', post (nI (cb_n (fun k => ¬ mp k = cm k) 192)) (g, md, ll, un, dp', da, nw, hd, ct, bf, th, lg, ws, il, ke, fi, si, us, le, nx, ro, pa', sl')) : wpX_differing post (g, md, ll, un, dp, da, nw, hd, ct, bf, th, lg, ws, il, ke, fi, si, us, le, nx, ro, pa, sl) := by
  obtain ⟨n, g0, e, l1, l2, l3, l4, l5⟩ := hL
  have hn := xi_n (fun i hi => (l1 i hi).1) l2
  have ec : cb_n (fun i => ¬ mp (g0 i) = ws i) n = cb_n (fun k => ¬ mp k = cm k) 192 := by
    rw [cb_eq (Q := fun i => ¬ mp (g0 i) = cm (g0 i)) (fun i hi => by rw [(l1 i hi).2.2.2])]
    rw [cb_img (P := fun k => ¬ mp k = cm k) (f := g0) (N := 192) (fun i hi => (l1 i hi).1) l2]
    refine cb_eq (fun k hk => ⟨fun z => z.1, fun z => ⟨z, ?_⟩⟩)
    rcases l3 k hk with q | q
    · exact absurd q.2 z
    · exact q.2
  unfold wpX_differing
  refine ⟨n + 1, ?_⟩
  exact xx_diff_l hM hn e (fun i hi => ⟨(l1 i hi).1, (l1 i hi).2.1⟩) (by rw [ec]; exact K) n 0 dp pa sl (by omega) (n + 1) (by omega)
theorem xx_com_l {post : Int32 → SX → Prop} {x1 : Int32} (hn : n ≤ 192) (hl : ll = nI n) (l1 : ∀ i, i < n → g0 i < 192 ∧ lg i = nI (g0 i)) (lw : ∀ i, i < n → ws i = -1 ∨ ∃ p, p < 96 ∧ ws i = nI p)
    (K : ∀ hd' il' un' dp' ke' fi' si' us' le' nx' ro' pa' sl', mx_M un' ke' fi' si' us' le' nx' ro' ct mp (fre nw hd') → (∀ p, p < 96 → hd' p = 0) → (∀ k, k < 192 → il' k = 0) → post x1 (g, 0, 0, un', dp', da, nw, hd', ct, bf, th, lg, ws, il', ke', fi', si', us', le', nx', ro', pa', sl')) :
    ∀ j i (hd il : Nat → Int32) (un dp : Int32) (ke fi si us le nx ro pa sl : Nat → Int32), i + j = n → mx_M un ke fi si us le nx ro ct mp (fre nw hd) → (∀ p, p < 96 → hd p = nI (cb_n (fun t => ws (i + t) = nI p) j)) → (∀ k, k < 192 → il k = 0 ∨ ∃ t, i ≤ t ∧ t < n ∧ g0 t = k) →
      ∀ f, j < f → wX_commit_7 post x1 f (nI i) g md ll un dp da nw hd ct bf th lg ws il ke fi si us le nx ro pa sl := by
  intro j
  induction j with
  | zero =>
    intro i hd il un dp ke fi si us le nx ro pa sl hi hM hH hI f hf
    obtain ⟨f, rfl⟩ : ∃ m, f = m + 1 := ⟨f - 1, by omega⟩
    have : i = n := by omega
    subst this
    refine br_t ?_ (K _ _ _ _ _ _ _ _ _ _ _ _ _ hM (fun p hp => hH p hp) (fun k hk => ?_))
    · rw [hl]
      exact nI_le (Nat.le_refl _) (by omega)
    · rcases hI k hk with q | ⟨t, q1, q2, _⟩
      · exact q
      · omega
  | succ j ih =>
    intro i hd il un dp ke fi si us le nx ro pa sl hi hM hH hI f hf
    obtain ⟨f, rfl⟩ : ∃ m, f = m + 1 := ⟨f - 1, by omega⟩
    have i1 : vp_in (nI i) 192 := vp_in_nI (by omega) (by omega)
    have e1 : (nI i).toNatClampNeg = i := n_cl (by omega)
    have q := l1 i (by omega)
    have i3 : vp_in (nI (g0 i)) 192 := vp_in_nI q.1 (by omega)
    have e3 : (nI (g0 i)).toNatClampNeg = g0 i := n_cl (by omega)
    have hI' : ∀ k, k < 192 → upd il (g0 i) 0 k = 0 ∨ ∃ t, i + 1 ≤ t ∧ t < n ∧ g0 t = k := by
      intro k hk
      by_cases z : k = g0 i
      · subst z; exact Or.inl pk_us
      · rw [pk_un z]
        rcases hI k hk with y | ⟨t, y1, y2, y3⟩
        · exact Or.inl y
        · refine Or.inr ⟨t, ?_, y2, y3⟩
          rcases Nat.lt_or_ge i t with w | w
          · exact w
          · have : t = i := by omega
            subst this
            exact absurd y3.symm z
    have hh : ∀ p, cb_n (fun t => ws (i + t) = nI p) (j + 1) = cb_b (ws i = nI p) + cb_n (fun t => ws (i + 1 + t) = nI p) j := by
      intro p
      rw [cb_head]
      have : (fun t => ws (i + (t + 1)) = nI p) = (fun t => ws (i + 1 + t) = nI p) := by
        funext t
        rw [show i + (t + 1) = i + 1 + t by omega]
      rw [this]
      rfl
    refine br_f ?_ ⟨i1, ?_⟩
    · rw [hl]
      exact nI_ge (by omega) (by omega)
    · rw [e1]
      -- behind the hold
      have go : ∀ (hd : Nat → Int32) (un dp : Int32) (ke fi si us le nx ro pa sl : Nat → Int32), mx_M un ke fi si us le nx ro ct mp (fre nw hd) → (∀ p, p < 96 → hd p = nI (cb_n (fun t => ws (i + 1 + t) = nI p) j)) →
          vp_in (nI i) 192 ∧ vp_in (lg i) 192 ∧ ∀ a, a = upd il (lg i).toNatClampNeg (vp_nar .boolean 0) → ∀ y, y = nI i + 1 → wX_commit_7 post x1 f y g md ll un dp da nw hd ct bf th lg ws a ke fi si us le nx ro pa sl := by
        intro hd un dp ke fi si us le nx ro pa sl hM2 hH2
        rw [q.2, e3, n_10, nI_1]
        exact ⟨i1, i3, nm_e (nm_e (ih (i + 1) hd _ un dp ke fi si us le nx ro pa sl (by omega) hM2 hH2 hI' f (by omega)))⟩
      rcases lw i (by omega) with w | ⟨p, hp, w⟩
      · rw [w]
        refine xr_hold_n ?_
        exact go hd un dp ke fi si us le nx ro pa sl hM (fun p hp => by
          rw [hH p hp, hh, cb_f (by rw [w]; exact (n_ne1 (by omega)).symm), Nat.zero_add])
      · rw [w]
        have hle := cb_leN (fun t => ws (i + 1 + t) = nI p) j
        refine mx_hold hM hp (c' := cb_n (fun t => ws (i + 1 + t) = nI p) j) ?_ (by omega) ?_
        · rw [hH p hp, hh, cb_t w, Nat.add_comm]
          exact pk_m1 _
        · intro un dp ke fi si us le nx ro pa sl hM2
          refine go _ un dp ke fi si us le nx ro pa sl hM2 (fun p' hp' => ?_)
          by_cases z : p' = p
          · subst z; exact pk_us
          · rw [pk_un z, hH p' hp', hh, cb_f (by rw [w]; intro y; exact z (n_inj (by omega) (by omega) y).symm), Nat.zero_add]
theorem xx_commit {post : Int32 → SX → Prop} (h : xi_S ll un nw hd ct lg ws il ke fi si us le nx ro mp cm)
    (K : ∀ hd' il' un' dp' ke' fi' si' us' le' nx' ro' pa' sl', (∀ cm', (∀ k, k < 192 → cm' k = mp k) → xi_S 0 un' nw hd' ct lg ws il' ke' fi' si' us' le' nx' ro' mp cm') →
      post (nI (cb_n (fun k => ¬ mp k = cm k) 192)) (g, 0, 0, un', dp', da, nw, hd', ct, bf, th, lg, ws, il', ke', fi', si', us', le', nx', ro', pa', sl')) : wpX_commit post (g, md, ll, un, dp, da, nw, hd, ct, bf, th, lg, ws, il, ke, fi, si, us, le, nx, ro, pa, sl) := by
  obtain ⟨hM, hN, hL⟩ := h
  have hL0 := hL
  obtain ⟨n, g0, e, l1, l2, l3, l4, l5⟩ := hL
  have hn := xi_n (fun i hi => (l1 i hi).1) l2
  unfold wpX_commit
  refine xx_differing hM hL0 ?_
  intro dp pa sl
  refine ⟨n + 1, ?_⟩
  refine xx_com_l (g0 := g0) (mp := mp) hn e (fun i hi => ⟨(l1 i hi).1, (l1 i hi).2.1⟩) (fun i hi => ?_) ?_ n 0 hd il un dp ke fi si us le nx ro pa sl (by omega) hM ?_ ?_ (n + 1) (by omega)
  · have q := l1 i hi
    rw [q.2.2.2]
    exact l5 _ q.1
  · intro hd' il' un' dp' ke' fi' si' us' le' nx' ro' pa' sl' hM' hH' hI'
    refine K _ _ _ _ _ _ _ _ _ _ _ _ _ (fun cm' hc => ⟨hM', hN, 0, g0, rfl, fun i hi => by omega, fun i j hi => by omega, fun k hk => Or.inl ⟨hI' k hk, (hc k hk).symm⟩, fun p hp => hH' p hp, fun k hk => ?_⟩)
    rw [hc k hk]
    exact mx_wf hM' (by omega)
  · intro p hp
    rw [l4 p hp]
    exact congrArg nI (cb_eq (fun i hi => by rw [Nat.zero_add]))
  · intro k hk
    rcases l3 k hk with q | ⟨q, i, hi, ei⟩
    · exact Or.inl q.1
    · exact Or.inr ⟨i, Nat.zero_le _, hi, ei⟩
theorem xx_changed {post : SX → Prop} (h : xi_S ll un nw hd ct lg ws il ke fi si us le nx ro mp cm)
    (K1 : md + 1 = g → ∀ hd' il' un' dp' ke' fi' si' us' le' nx' ro' pa' sl', (∀ cm', (∀ k, k < 192 → cm' k = mp k) → xi_S 0 un' nw hd' ct lg ws il' ke' fi' si' us' le' nx' ro' mp cm') →
      post (g, 0, 0, un', dp', da, nw, hd', ct, bf, th, lg, ws, il', ke', fi', si', us', le', nx', ro', pa', sl'))
    (K2 : ¬ md + 1 = g → post (g, md + 1, ll, un, dp, da, nw, hd, ct, bf, th, lg, ws, il, ke, fi, si, us, le, nx, ro, pa, sl)) : wpX_changed post (g, md, ll, un, dp, da, nw, hd, ct, bf, th, lg, ws, il, ke, fi, si, us, le, nx, ro, pa, sl) := by
  unfold wpX_changed
  refine nm_e (br_c (fun z => ?_) K2)
  exact xx_commit h (K1 z)
end
end
section
/-! the reference's counts -/
def my_mp (fy py ty : Nat → Int32) : Nat → Int32 := fun k => if k < 192 then fy k else if ty ((k - 192) / 32) = 0 then -1 else py (k - 192)
def my_kp (my : Nat → Int32) (x : Int32) : Prop := ∃ k, k < 192 ∧ my k = x
def my_fr (fy py my ty : Nat → Int32) (p : Nat) : Prop := cb_n (fun k => my_mp fy py ty k = nI p) 288 = 0 ∧ ¬ my_kp my (nI p)
section
variable {gy cy : Int32} {fy py my bz dy ty : Nat → Int32}
variable {p n : Nat} {x : Int32}
theorem yr_m32 {post : Int32 → Prop} {c0 : Nat} (hc0 : c0 ≤ 192) (K : post (nI (c0 + cb_n (fun k => ¬ ty (k / 32) = 0 ∧ py k = x) 96))) :
    ∀ j i, i + j = 96 → ∀ f, j < f → wY_mapped_32 post x gy cy fy py my bz dy ty f (nI (c0 + cb_n (fun k => ¬ ty (k / 32) = 0 ∧ py k = x) i)) (nI i) := by
  intro j
  induction j with
  | zero =>
    intro i hi f hf
    obtain ⟨f, rfl⟩ : ∃ m, f = m + 1 := ⟨f - 1, by omega⟩
    have : i = 96 := by omega
    subst this
    exact br_t (nI_le (a := 96) (b := 96) (by omega) (by omega)) K
  | succ j ih =>
    intro i hi f hf
    obtain ⟨f, rfl⟩ : ∃ m, f = m + 1 := ⟨f - 1, by omega⟩
    have ed : nI i / 32 = nI (i / 32) := pk_div (d := 32) (by omega) (by omega) (by omega)
    have es := cb_s (P := fun k => ¬ ty (k / 32) = 0 ∧ py k = x) (k := i)
    have nx := ih (i + 1) (by omega) f (by omega)
    rw [es] at nx
    refine br_f (nI_ge (a := i) (b := 96) (by omega) (by omega)) ⟨by decide, ?_⟩
    rw [ed, n_cl (by omega : i / 32 < 2 ^ 31)]
    refine ⟨vp_in_nI (by omega) (by omega), br_c (fun z => ?_) (fun z => ?_)⟩
    · intro y ey
      rw [ey, nI_1]
      rw [cb_f (fun w => w.1 z)] at nx
      exact nx
    · refine ⟨vp_in_nI (by omega) (by omega), ?_⟩
      rw [n_cl (by omega : i < 2 ^ 31)]
      refine br_c (fun z2 => ?_) (fun z2 => ?_)
      · intro y ey w ew
        rw [ey, ew, nI_1, nI_1]
        rw [cb_t ⟨z, z2⟩] at nx
        exact nx
      · intro y ey
        rw [ey, nI_1]
        rw [cb_f (fun w => z2 w.2)] at nx
        exact nx
theorem yr_m4 {post : Int32 → Prop} (K : post (nI (cb_n (fun k => fy k = x) 192 + cb_n (fun k => ¬ ty (k / 32) = 0 ∧ py k = x) 96))) :
    ∀ j i, i + j = 192 → ∀ f, j < f → wY_mapped_4 post x gy cy fy py my bz dy ty f (nI (cb_n (fun k => fy k = x) i)) (nI i) := by
  intro j
  induction j with
  | zero =>
    intro i hi f hf
    obtain ⟨f, rfl⟩ : ∃ m, f = m + 1 := ⟨f - 1, by omega⟩
    have : i = 192 := by omega
    subst this
    exact br_t (nI_le (a := 192) (b := 192) (by omega) (by omega)) ⟨97, yr_m32 (cb_leN _ _) K 96 0 rfl 97 (by omega)⟩
  | succ j ih =>
    intro i hi f hf
    obtain ⟨f, rfl⟩ : ∃ m, f = m + 1 := ⟨f - 1, by omega⟩
    have es := cb_s (P := fun k => fy k = x) (k := i)
    have nx := ih (i + 1) (by omega) f (by omega)
    rw [es] at nx
    refine br_f (nI_ge (a := i) (b := 192) (by omega) (by omega)) ⟨vp_in_nI (by omega) (by omega), ?_⟩
    rw [n_cl (by omega : i < 2 ^ 31)]
    refine br_c (fun z2 => ?_) (fun z2 => ?_)
    · intro y ey w ew
      rw [ey, ew, nI_1, nI_1]
      rw [cb_t z2] at nx
      exact nx
    · intro y ey
      rw [ey, nI_1]
      rw [cb_f z2] at nx
      exact nx
theorem my_cnt (hp : p < 2 ^ 31) : cb_n (fun k => fy k = nI p) 192 + cb_n (fun k => ¬ ty (k / 32) = 0 ∧ py k = nI p) 96 = cb_n (fun k => my_mp fy py ty k = nI p) 288 := by
  have := cb_cat (P := fun k => my_mp fy py ty k = nI p) (a := 192) (b := 96)
  have e : 192 + 96 = 288 := rfl
  rw [e] at this
  rw [this]
  have h1 : cb_n (fun k => fy k = nI p) 192 = cb_n (fun k => my_mp fy py ty k = nI p) 192 := cb_eq (fun k hk => by unfold my_mp; rw [if_pos hk])
  have h2 : cb_n (fun k => ¬ ty (k / 32) = 0 ∧ py k = nI p) 96 = cb_n (fun k => my_mp fy py ty (192 + k) = nI p) 96 := cb_eq (fun k hk => by
    unfold my_mp
    rw [if_neg (by omega), show 192 + k - 192 = k by omega]
    by_cases z : ty (k / 32) = 0
    · rw [if_pos z]
      exact ⟨fun w => absurd z w.1, fun w => absurd w.symm (n_ne1 hp)⟩
    · rw [if_neg z]
      exact ⟨fun w => w.2, fun w => ⟨z, w⟩⟩)
  rw [h1, h2]
theorem yr_mapped {post : Int32 → Prop} (hp : p < 96) (K : post (nI (cb_n (fun k => my_mp fy py ty k = nI p) 288))) : wpY_mapped post (gy, cy, fy, py, my, bz, dy, ty) (nI p) := by
  unfold wpY_mapped
  refine ⟨193, ?_⟩
  exact yr_m4 (by rw [my_cnt (by omega)]; exact K) 192 0 rfl 193 (by omega)
theorem yr_k2 {post : Int32 → Prop} (K1 : my_kp my x → post 1) (K0 : ¬ my_kp my x → post 0) :
    ∀ j i, i + j = 192 → (∀ k, k < i → ¬ my k = x) → ∀ f, j < f → wY_kept_2 post x gy cy fy py my bz dy ty f (nI i) := by
  intro j
  induction j with
  | zero =>
    intro i hi hno f hf
    obtain ⟨f, rfl⟩ : ∃ m, f = m + 1 := ⟨f - 1, by omega⟩
    have : i = 192 := by omega
    subst this
    refine br_t (nI_le (a := 192) (b := 192) (by omega) (by omega)) (K0 ?_)
    rintro ⟨k, hk, e⟩
    exact hno k hk e
  | succ j ih =>
    intro i hi hno f hf
    obtain ⟨f, rfl⟩ : ∃ m, f = m + 1 := ⟨f - 1, by omega⟩
    refine br_f (nI_ge (a := i) (b := 192) (by omega) (by omega)) ⟨vp_in_nI (by omega) (by omega), ?_⟩
    rw [n_cl (by omega : i < 2 ^ 31)]
    refine br_c (fun z => K1 ⟨i, by omega, z⟩) (fun z => ?_)
    intro y ey
    rw [ey, nI_1]
    exact ih (i + 1) (by omega) (fun k hk => by
      rcases Nat.lt_or_ge k i with w | w
      · exact hno k w
      · have : k = i := by omega
        rw [this]; exact z) f (by omega)
theorem yr_kept {post : Int32 → Prop} (K1 : my_kp my x → post 1) (K0 : ¬ my_kp my x → post 0) : wpY_kept post (gy, cy, fy, py, my, bz, dy, ty) x := by
  unfold wpY_kept
  exact ⟨193, yr_k2 K1 K0 192 0 rfl (fun k hk => by omega) 193 (by omega)⟩
theorem yr_isFree {post : Int32 → Prop} (hp : p < 96) (K1 : my_fr fy py my ty p → post 1) (K0 : ¬ my_fr fy py my ty p → post 0) : wpY_isFree post (gy, cy, fy, py, my, bz, dy, ty) (nI p) := by
  unfold wpY_isFree
  refine yr_mapped hp ?_
  have hle := cb_leN (fun k => my_mp fy py ty k = nI p) 288
  refine pk_eq (cb_n (fun k => my_mp fy py ty k = nI p) 288) 0 (fun z => ?_) (fun z => K0 (fun w => z w.1)) rfl rfl (by omega) (by omega)
  exact yr_kept (fun q => br_f n_one (K0 (fun w => w.2 q))) (fun q => br_t rfl (K1 ⟨z, q⟩))
theorem yr_d4 {post : Int32 → Prop} (K : post (nI (cb_n (fun k => ¬ fy k = my k) 192))) :
    ∀ j i, i + j = 192 → ∀ f, j < f → wY_differ_4 post gy cy fy py my bz dy ty f (nI (cb_n (fun k => ¬ fy k = my k) i)) (nI i) := by
  intro j
  induction j with
  | zero =>
    intro i hi f hf
    obtain ⟨f, rfl⟩ : ∃ m, f = m + 1 := ⟨f - 1, by omega⟩
    have : i = 192 := by omega
    subst this
    exact br_t (nI_le (a := 192) (b := 192) (by omega) (by omega)) K
  | succ j ih =>
    intro i hi f hf
    obtain ⟨f, rfl⟩ : ∃ m, f = m + 1 := ⟨f - 1, by omega⟩
    have es := cb_s (P := fun k => ¬ fy k = my k) (k := i)
    have nx := ih (i + 1) (by omega) f (by omega)
    rw [es] at nx
    have i1 : vp_in (nI i) 192 := vp_in_nI (by omega) (by omega)
    refine br_f (nI_ge (a := i) (b := 192) (by omega) (by omega)) ⟨i1, i1, ?_⟩
    rw [n_cl (by omega : i < 2 ^ 31)]
    refine br_c (fun z => ?_) (fun z => ?_)
    · intro y ey
      rw [ey, nI_1]
      rw [cb_f (fun w => w z)] at nx
      exact nx
    · intro y ey w ew
      rw [ey, ew, nI_1, nI_1]
      rw [cb_t z] at nx
      exact nx
theorem yr_differ {post : Int32 → Prop} (K : post (nI (cb_n (fun k => ¬ fy k = my k) 192))) : wpY_differ post (gy, cy, fy, py, my, bz, dy, ty) := by
  unfold wpY_differ
  exact ⟨193, yr_d4 K 192 0 rfl 193 (by omega)⟩
theorem yr_s7 {post : Int32 → SY → Prop} {x1 : Int32} (K : ∀ my', (∀ k, k < 192 → my' k = fy k) → post x1 (gy, 0, fy, py, my', bz, dy, ty)) :
    ∀ j i (my : Nat → Int32), i + j = 192 → (∀ k, k < i → my k = fy k) → ∀ f, j < f → wY_save_7 post x1 gy cy f (nI i) fy py my bz dy ty := by
  intro j
  induction j with
  | zero =>
    intro i my hi hk f hf
    obtain ⟨f, rfl⟩ : ∃ m, f = m + 1 := ⟨f - 1, by omega⟩
    have : i = 192 := by omega
    subst this
    exact br_t (nI_le (a := 192) (b := 192) (by omega) (by omega)) (K my hk)
  | succ j ih =>
    intro i my hi hk f hf
    obtain ⟨f, rfl⟩ : ∃ m, f = m + 1 := ⟨f - 1, by omega⟩
    have i1 : vp_in (nI i) 192 := vp_in_nI (by omega) (by omega)
    refine br_f (nI_ge (a := i) (b := 192) (by omega) (by omega)) ⟨i1, i1, ?_⟩
    rw [n_cl (by omega : i < 2 ^ 31)]
    refine nm_e ?_
    intro y ey
    rw [ey, nI_1]
    refine ih (i + 1) _ (by omega) (fun k hk2 => ?_) f (by omega)
    by_cases z : k = i
    · rw [z, pk_us]
    · rw [pk_un z]; exact hk k (by omega)
theorem yr_save {post : Int32 → SY → Prop} (K : ∀ my', (∀ k, k < 192 → my' k = fy k) → post (nI (cb_n (fun k => ¬ fy k = my k) 192)) (gy, 0, fy, py, my', bz, dy, ty)) : wpY_save post (gy, cy, fy, py, my, bz, dy, ty) := by
  unfold wpY_save
  refine yr_differ ?_
  exact ⟨193, yr_s7 K 192 0 my rfl (fun k hk => by omega) 193 (by omega)⟩
theorem yr_changed {post : SY → Prop} (K1 : cy + 1 = gy → ∀ my', (∀ k, k < 192 → my' k = fy k) → post (gy, 0, fy, py, my', bz, dy, ty)) (K2 : ¬ cy + 1 = gy → post (gy, cy + 1, fy, py, my, bz, dy, ty)) : wpY_changed post (gy, cy, fy, py, my, bz, dy, ty) := by
  unfold wpY_changed
  refine nm_e (br_c (fun z => ?_) K2)
  exact yr_save (K1 z)
theorem yr_c7 {post : Int32 → SY → Prop} {x1 : Int32} (K : ∀ fy', (∀ k, k < 192 → fy' k = my k) → post x1 (gy, 0, fy', py, my, bz, dy, ty)) :
    ∀ j i (fy : Nat → Int32), i + j = 192 → (∀ k, k < i → fy k = my k) → ∀ f, j < f → wY_crash_7 post x1 gy cy f (nI i) fy py my bz dy ty := by
  intro j
  induction j with
  | zero =>
    intro i fy hi hk f hf
    obtain ⟨f, rfl⟩ : ∃ m, f = m + 1 := ⟨f - 1, by omega⟩
    have : i = 192 := by omega
    subst this
    exact br_t (nI_le (a := 192) (b := 192) (by omega) (by omega)) (K fy hk)
  | succ j ih =>
    intro i fy hi hk f hf
    obtain ⟨f, rfl⟩ : ∃ m, f = m + 1 := ⟨f - 1, by omega⟩
    have i1 : vp_in (nI i) 192 := vp_in_nI (by omega) (by omega)
    refine br_f (nI_ge (a := i) (b := 192) (by omega) (by omega)) ⟨i1, i1, ?_⟩
    rw [n_cl (by omega : i < 2 ^ 31)]
    refine nm_e ?_
    intro y ey
    rw [ey, nI_1]
    refine ih (i + 1) _ (by omega) (fun k hk2 => ?_) f (by omega)
    by_cases z : k = i
    · rw [z, pk_us]
    · rw [pk_un z]; exact hk k (by omega)
theorem yr_crash {post : Int32 → SY → Prop} (K : ∀ fy', (∀ k, k < 192 → fy' k = my k) → post (nI (cb_n (fun k => ¬ fy k = my k) 192)) (gy, 0, fy', py, my, bz, dy, ty)) : wpY_crash post (gy, cy, fy, py, my, bz, dy, ty) := by
  unfold wpY_crash
  refine yr_differ ?_
  exact ⟨193, yr_c7 K 192 0 fy rfl (fun k hk => by omega) 193 (by omega)⟩
end
end
section
/-! the relation -/
def i_Rel (k : Nat) (u : SX) (v : SY) : Prop := match u, v with
  | (g, md, ll, un, dp, da, nw, hd, ct, bf, th, lg, ws, il, ke, fi, si, us, le, nx, ro, pa, sl), (gy, cy, fy, py, my, bz, dy, ty) => g = gy ∧ md = cy ∧ da = dy ∧ th = ty ∧ xi_S ll un nw hd ct lg ws il ke fi si us le nx ro (my_mp fy py ty) my
theorem i_up {k : Nat} {u : SX} {v : SY} (h : i_Rel k u v) : i_Rel (k + 6) u v := h
theorem cb_one {P : Nat → Prop} {N a b : Nat} (h : cb_n P N = 1) (ha : a < N) (hb : b < N) (pa : P a) (pb : P b) : a = b := by
  have := cb_ch (P := P) (Q := fun k => P k ∧ k ≠ a) (a := a) (N := N) ha (fun k _ hk => ⟨fun w => ⟨w, hk⟩, fun w => w.1⟩)
  rw [h, cb_t pa, cb_f (fun w => w.2 rfl)] at this
  have z : cb_n (fun k => P k ∧ k ≠ a) N = 0 := by omega
  have := cb_0.mp z b hb
  rcases Classical.em (b = a) with w | w
  · exact w.symm
  · exact absurd ⟨pb, w⟩ this
section
variable {g md ll un dp : Int32} {da nw hd ct bf th lg ws il ke fi si us le nx ro pa sl : Nat → Int32}
variable {gy cy : Int32} {fy py my bz dy ty : Nat → Int32}
variable {p k f b : Nat} {mp cm : Nat → Int32}
theorem i_mk (h : xi_S ll un nw hd ct lg ws il ke fi si us le nx ro (my_mp fy py th) my) : i_Rel k (g, md, ll, un, dp, da, nw, hd, ct, bf, th, lg, ws, il, ke, fi, si, us, le, nx, ro, pa, sl) (g, md, fy, py, my, bz, da, th) := ⟨rfl, rfl, rfl, rfl, h⟩
theorem zz_el {u : SX} {v : SY} (I : i_Rel k u v) {P : SX → SY → Prop} (h : ∀ (g md ll un dp : Int32) (da nw hd ct bf th lg ws il ke fi si us le nx ro pa sl fy py my bz : Nat → Int32), xi_S ll un nw hd ct lg ws il ke fi si us le nx ro (my_mp fy py th) my → P (g, md, ll, un, dp, da, nw, hd, ct, bf, th, lg, ws, il, ke, fi, si, us, le, nx, ro, pa, sl) (g, md, fy, py, my, bz, da, th)) : P u v := by
  obtain ⟨g, md, ll, un, dp, da, nw, hd, ct, bf, th, lg, ws, il, ke, fi, si, us, le, nx, ro, pa, sl⟩ := u
  obtain ⟨gy, cy, fy, py, my, bz, dy, ty⟩ := v
  have I' : g = gy ∧ md = cy ∧ da = dy ∧ th = ty ∧ xi_S ll un nw hd ct lg ws il ke fi si us le nx ro (my_mp fy py ty) my := I
  obtain ⟨h1, h2, h3, h4, h5⟩ := I'
  subst h1 h2 h3 h4
  exact h _ _ _ _ _ _ _ _ _ _ _ _ _ _ _ _ _ _ _ _ _ _ _ _ _ _ _ h5
theorem my_mp_f {j : Nat} (hj : j < 192) : my_mp fy py ty j = fy j := if_pos hj
theorem my_mp_u {x : Int32} (hk : k < 192) : upd (my_mp fy py ty) k x = my_mp (upd fy k x) py ty := by
  funext j
  by_cases z : j = k
  · subst z
    rw [pk_us, my_mp_f hk, pk_us]
  · rw [pk_un z]
    unfold my_mp
    rw [pk_un z]
theorem my_mp_s {s : Nat} (hs : s < 3) (hb : b < 32) (ht : ¬ ty s = 0) : my_mp fy py ty (32 * (6 + s) + b) = py (32 * s + b) := by
  unfold my_mp
  rw [if_neg (by omega)]
  have e1 : 32 * (6 + s) + b - 192 = 32 * s + b := by omega
  have e2 : (32 * s + b) / 32 = s := by omega
  rw [e1, e2, if_neg ht]
/-- free in the one, free in the other -/
theorem xi_kp (hM : mx_M un ke fi si us le nx ro ct mp (fre nw hd)) (hL : xi_L ll hd lg ws il mp cm) (hp : p < 96) : (my_kp cm (nI p) → (∃ k, k < 192 ∧ il k = 0 ∧ mp k = nI p) ∨ ¬ hd p = 0) ∧ (¬ hd p = 0 → my_kp cm (nI p)) := by
  obtain ⟨n, g0, e, l1, l2, l3, l4, l5⟩ := hL
  have hn := xi_n (fun i hi => (l1 i hi).1) l2
  have hle := cb_leN (fun i => ws i = nI p) n
  constructor
  · rintro ⟨k, hk, ek⟩
    rcases l3 k hk with ⟨q1, q2⟩ | ⟨q1, i, hi, ei⟩
    · exact Or.inl ⟨k, hk, q1, q2.trans ek⟩
    · refine Or.inr ?_
      rw [l4 p hp]
      refine nI_ne0 (cb_pos hi ?_) (by omega)
      rw [(l1 i hi).2.2.2, ei]
      exact ek
  · intro h
    rw [l4 p hp] at h
    rcases Classical.em (∃ i, i < n ∧ ws i = nI p) with ⟨i, hi, q⟩ | q
    · have r := l1 i hi
      exact ⟨g0 i, r.1, by rw [← r.2.2.2]; exact q⟩
    · exfalso
      refine h ?_
      rw [cb_0.mpr (fun i hi w => q ⟨i, hi, w⟩)]
      rfl
theorem zz_fre (h : xi_S ll un nw hd ct lg ws il ke fi si us le nx ro (my_mp fy py ty) my) (hp : p < 96) : fre nw hd p ↔ my_fr fy py my ty p := by
  obtain ⟨hM, hN, hL⟩ := h
  obtain ⟨k1, k2⟩ := xi_kp hM hL hp
  have hle := cb_leN (fun k => my_mp fy py ty k = nI p) 288
  have hz : nw p = 0 ↔ cb_n (fun k => my_mp fy py ty k = nI p) 288 = 0 := by
    rw [hN p hp]
    exact nI_eq (b := 0) (by omega) (by omega)
  unfold fre my_fr
  constructor
  · rintro ⟨q1, q2⟩
    refine ⟨hz.mp q1, fun w => ?_⟩
    rcases k1 w with ⟨k, hk, _, ek⟩ | w2
    · exact cb_0.mp (hz.mp q1) k (by omega) ek
    · exact w2 q2
  · rintro ⟨q1, q2⟩
    refine ⟨hz.mpr q1, ?_⟩
    rcases Classical.em (hd p = 0) with w | w
    · exact w
    · exact absurd (k2 w) q2
theorem zz_own (h : xi_S ll un nw hd ct lg ws il ke fi si us le nx ro (my_mp fy py ty) my) (hp : p < 96) (hk : k < 192) (hm : fy k = nI p) (hc : cb_n (fun k => my_mp fy py ty k = nI p) 288 = 1) : (hd p = 0 ∧ ¬ il k = 0) ↔ ¬ my_kp my (nI p) := by
  obtain ⟨hM, hN, hL⟩ := h
  obtain ⟨k1, k2⟩ := xi_kp hM hL hp
  have hmk : my_mp fy py ty k = nI p := (my_mp_f hk).trans hm
  constructor
  · rintro ⟨q1, q2⟩ w
    rcases k1 w with ⟨j, hj, q3, q4⟩ | w2
    · have := cb_one hc (by omega) (by omega) q4 hmk
      rw [this] at q3
      exact q2 q3
    · exact w2 q1
  · intro w
    refine ⟨?_, fun z => ?_⟩
    · rcases Classical.em (hd p = 0) with y | y
      · exact y
      · exact absurd (k2 y) w
    · obtain ⟨n, g0, e, l1, l2, l3, l4, l5⟩ := hL
      rcases l3 k hk with ⟨_, y⟩ | ⟨y, _⟩
      · exact w ⟨k, hk, y.symm.trans hmk⟩
      · rw [z] at y; exact absurd y (by decide)
/-! files and blocks, and calls that only look -/
theorem xf_file {post : Int32 → Prop} {x : Int32} (h0 : x < 0 ∨ 6 ≤ x → post 0) (h1 : ¬ x < 0 → ¬ 6 ≤ x → post 1) : wpX_isFile post x := by
  unfold wpX_isFile
  exact br_c (fun z => h0 (Or.inl z)) (fun z => br_c (fun z2 => h0 (Or.inr z2)) (fun z2 => h1 z z2))
theorem xf_block {post : Int32 → Prop} {x : Int32} (h0 : x < 0 ∨ 32 ≤ x → post 0) (h1 : ¬ x < 0 → ¬ 32 ≤ x → post 1) : wpX_isBlock post x := by
  unfold wpX_isBlock
  exact br_c (fun z => h0 (Or.inl z)) (fun z => br_c (fun z2 => h0 (Or.inr z2)) (fun z2 => h1 z z2))
theorem xf_file0 {post : Int32 → Prop} {x : Int32} (hx : x < 0 ∨ 6 ≤ x) (h : post 0) : wpX_isFile post x := xf_file (fun _ => h) (fun a b => absurd hx (fun z => z.elim a b))
theorem xf_file1 {post : Int32 → Prop} (hf : f < 6) (h : post 1) : wpX_isFile post (nI f) := xf_file (fun z => absurd z (fun w => w.elim (nI_pos (by omega)) (nI_ge (b := 6) hf (by omega)))) (fun _ _ => h)
theorem xf_block0 {post : Int32 → Prop} {x : Int32} (hx : x < 0 ∨ 32 ≤ x) (h : post 0) : wpX_isBlock post x := xf_block (fun _ => h) (fun a b => absurd hx (fun z => z.elim a b))
theorem xf_block1 {post : Int32 → Prop} (hb : b < 32) (h : post 1) : wpX_isBlock post (nI b) := xf_block (fun z => absurd z (fun w => w.elim (nI_pos (by omega)) (nI_ge (b := 32) hb (by omega)))) (fun _ _ => h)
theorem yf_file0 {post : Int32 → Prop} {x : Int32} (hx : x < 0 ∨ 6 ≤ x) (h : post 0) : wpY_file post (gy, cy, fy, py, my, bz, dy, ty) x := by
  unfold wpY_file
  exact br_c (fun _ => h) (fun z => br_c (fun _ => h) (fun z2 => absurd hx (fun w => w.elim z z2)))
theorem yf_file1 {post : Int32 → Prop} (hf : f < 6) (h : post 1) : wpY_file post (gy, cy, fy, py, my, bz, dy, ty) (nI f) := by
  unfold wpY_file
  exact br_f (nI_pos (by omega)) (br_f (nI_ge (b := 6) hf (by omega)) h)
theorem yf_block0 {post : Int32 → Prop} {x : Int32} (hx : x < 0 ∨ 32 ≤ x) (h : post 0) : wpY_block post (gy, cy, fy, py, my, bz, dy, ty) x := by
  unfold wpY_block
  exact br_c (fun _ => h) (fun z => br_c (fun _ => h) (fun z2 => absurd hx (fun w => w.elim z z2)))
theorem yf_block1 {post : Int32 → Prop} (hb : b < 32) (h : post 1) : wpY_block post (gy, cy, fy, py, my, bz, dy, ty) (nI b) := by
  unfold wpY_block
  exact br_f (nI_pos (by omega)) (br_f (nI_ge (b := 32) hb (by omega)) h)
theorem zz_six (x : Int32) : (x < 0 ∨ 6 ≤ x) ∨ ∃ f, f < 6 ∧ x = nI f := by
  rcases pk_ix x (n := 6) (by omega) with h | h | h
  · exact Or.inl (Or.inl h)
  · exact Or.inl (Or.inr h)
  · exact Or.inr h
theorem zz_32 (x : Int32) : (x < 0 ∨ 32 ≤ x) ∨ ∃ f, f < 32 ∧ x = nI f := by
  rcases pk_ix x (n := 32) (by omega) with h | h | h
  · exact Or.inl (Or.inl h)
  · exact Or.inl (Or.inr h)
  · exact Or.inr h
theorem zz_3 (x : Int32) : (x < 0 ∨ 3 ≤ x) ∨ ∃ f, f < 3 ∧ x = nI f := by
  rcases pk_ix x (n := 3) (by omega) with h | h | h
  · exact Or.inl (Or.inl h)
  · exact Or.inl (Or.inr h)
  · exact Or.inr h
end
theorem i_vc_changes {k : Nat} {u : SX} {v : SY} (I : i_Rel k u v) (hk : k + 6 ≤ 3073) : wpX_changes (fun r => wpY_changes (fun r' => r' = r ∧ i_Rel (k + 6) u v) v) u := by
  refine zz_el (P := fun u v => wpX_changes (fun r => wpY_changes (fun r' => r' = r ∧ i_Rel (k + 6) u v) v) u) I ?_
  intro g md ll un dp da nw hd ct bf th lg ws il ke fi si us le nx ro pa sl fy py my bz h
  exact ⟨rfl, i_mk h⟩
end
section
/-! read, place, past, uses -/
theorem n_9596 {x : Int32} (h : nI 96 ≤ x) : ¬ x ≤ 95 := by
  intro z
  rw [Int32.le_iff_toInt_le] at h z
  rw [nI_toInt (by omega)] at h
  have : (95 : Int32).toInt = 95 := by decide
  omega
theorem n_96n {x : Int32} (h : nI 96 ≤ x) : ¬ x < 0 := by
  intro z
  rw [Int32.le_iff_toInt_le] at h
  rw [Int32.lt_iff_toInt_lt] at z
  rw [nI_toInt (by omega)] at h
  have : (0 : Int32).toInt = 0 := by decide
  omega
section
variable {g md ll un dp : Int32} {da nw hd ct bf th lg ws il ke fi si us le nx ro pa sl : Nat → Int32}
variable {gy cy : Int32} {fy py my bz dy ty : Nat → Int32}
variable {p k f b s : Nat} {mp cm : Nat → Int32}
theorem xf_there0 {post : Int32 → Prop} {x : Int32} (hx : x < 0 ∨ 3 ≤ x) (h : post 0) : wpX_isThere post (g, md, ll, un, dp, da, nw, hd, ct, bf, th, lg, ws, il, ke, fi, si, us, le, nx, ro, pa, sl) x := by
  unfold wpX_isThere
  exact br_c (fun _ => h) (fun z => br_c (fun _ => h) (fun z2 => absurd hx (fun w => w.elim z z2)))
theorem xf_there1 {post : Int32 → Prop} (hs : s < 3) (h0 : th s = 0 → post 0) (h1 : ¬ th s = 0 → post 1) : wpX_isThere post (g, md, ll, un, dp, da, nw, hd, ct, bf, th, lg, ws, il, ke, fi, si, us, le, nx, ro, pa, sl) (nI s) := by
  unfold wpX_isThere
  refine br_f (nI_pos (by omega)) (br_f (nI_ge (b := 3) hs (by omega)) ⟨vp_in_nI hs (by omega), ?_⟩)
  rw [n_cl (by omega : s < 2 ^ 31)]
  exact br_c h0 h1
theorem yf_shot0 {post : Int32 → Prop} {x : Int32} (hx : x < 0 ∨ 3 ≤ x) (h : post 0) : wpY_shot post (gy, cy, fy, py, my, bz, dy, ty) x := by
  unfold wpY_shot
  exact br_c (fun _ => h) (fun z => br_c (fun _ => h) (fun z2 => absurd hx (fun w => w.elim z z2)))
theorem yf_shot1 {post : Int32 → Prop} (hs : s < 3) (h0 : ty s = 0 → post 0) (h1 : ¬ ty s = 0 → post 1) : wpY_shot post (gy, cy, fy, py, my, bz, dy, ty) (nI s) := by
  unfold wpY_shot
  refine br_f (nI_pos (by omega)) (br_f (nI_ge (b := 3) hs (by omega)) ⟨vp_in_nI hs (by omega), ?_⟩)
  rw [n_cl (by omega : s < 2 ^ 31)]
  exact br_c h0 h1
end
theorem i_vc_read {k : Nat} {u : SX} {v : SY} (I : i_Rel k u v) (hk : k + 6 ≤ 3073) (v1 : Int32) (v2 : Int32) : wpX_read (fun r u' => wpY_read (fun r' => r' = r ∧ i_Rel (k + 6) u' v) v v1 v2) u v1 v2 := by
  refine zz_el (P := fun u v => wpX_read (fun r u' => wpY_read (fun r' => r' = r ∧ i_Rel (k + 6) u' v) v v1 v2) u v1 v2) I ?_
  intro g md ll un dp da nw hd ct bf th lg ws il ke fi si us le nx ro pa sl fy py my bz h
  unfold wpX_read wpY_read
  rcases zz_six v1 with h1 | ⟨f, hf, rfl⟩
  · exact xf_file0 h1 (br_t rfl (yf_file0 h1 (br_t rfl ⟨rfl, i_mk h⟩)))
  · refine xf_file1 hf (br_f n_one ?_)
    rcases zz_32 v2 with h2 | ⟨b, hb, rfl⟩
    · exact xf_block0 h2 (br_t rfl (yf_file1 hf (br_f n_one (yf_block0 h2 (br_t rfl ⟨rfl, i_mk h⟩)))))
    · refine xf_block1 hb (br_f n_one ?_)
      refine mx_mapped h.1 (by omega) hb ?_
      intro dp pa sl
      have e0 : my_mp fy py th (32 * f + b) = fy (32 * f + b) := my_mp_f (by omega)
      have Y : ∀ r, ((0 ≤ fy (32 * f + b) → vp_in (fy (32 * f + b)) 96 ∧ da (fy (32 * f + b)).toNatClampNeg = r) ∧ (¬ 0 ≤ fy (32 * f + b) → (0 : Int32) = r)) → wpY_file (fun r_1 => ((r_1 = 0 → (0 = r ∧ i_Rel (k + 6) (g, md, ll, un, dp, da, nw, hd, ct, bf, th, lg, ws, il, ke, fi, si, us, le, nx, ro, pa, sl) (g, md, fy, py, my, bz, da, th))) ∧ (¬ r_1 = 0 → (wpY_block (fun r_11 => ((r_11 = 0 → (0 = r ∧ i_Rel (k + 6) (g, md, ll, un, dp, da, nw, hd, ct, bf, th, lg, ws, il, ke, fi, si, us, le, nx, ro, pa, sl) (g, md, fy, py, my, bz, da, th))) ∧ (¬ r_11 = 0 → (vp_in ((32 * nI f) + nI b) 192 ∧ (wpY_valueOf (fun r_22 => (r_22 = r ∧ i_Rel (k + 6) (g, md, ll, un, dp, da, nw, hd, ct, bf, th, lg, ws, il, ke, fi, si, us, le, nx, ro, pa, sl) (g, md, fy, py, my, bz, da, th))) (g, md, fy, py, my, bz, da, th) (fy ((32 * nI f) + nI b).toNatClampNeg)))))) (g, md, fy, py, my, bz, da, th) (nI b))))) (g, md, fy, py, my, bz, da, th) (nI f) := by
        intro r hr
        refine yf_file1 hf (br_f n_one (yf_block1 hb (br_f n_one ?_)))
        rw [n32, nI_add, n_cl (by omega : 32 * f + b < 2 ^ 31)]
        refine ⟨vp_in_nI (by omega) (by omega), ?_⟩
        unfold wpY_valueOf
        exact br_c (fun z => ⟨(hr.1 z).1, (hr.1 z).2, i_mk h⟩) (fun z => ⟨hr.2 z, i_mk h⟩)
      rw [e0]
      rcases mx_wf h.1 (k := 32 * f + b) (by omega) with q | ⟨p, hp, q⟩
      · rw [e0] at q
        exact br_f (by rw [q]; exact n_nle) (Y 0 ⟨fun z => absurd z (by rw [q]; exact n_nle), fun _ => rfl⟩)
      · rw [e0] at q
        have hv : vp_in (fy (32 * f + b)) 96 := by rw [q]; exact vp_in_nI hp (by omega)
        refine br_t (by rw [q]; exact nI_pos' (by omega)) ⟨hv, Y _ ⟨fun _ => ⟨hv, rfl⟩, fun z => absurd (by rw [q]; exact nI_pos' (by omega)) z⟩⟩
theorem i_vc_place {k : Nat} {u : SX} {v : SY} (I : i_Rel k u v) (hk : k + 6 ≤ 3073) (v1 : Int32) (v2 : Int32) : wpX_place (fun r u' => wpY_place (fun r' => r' = r ∧ i_Rel (k + 6) u' v) v v1 v2) u v1 v2 := by
  refine zz_el (P := fun u v => wpX_place (fun r u' => wpY_place (fun r' => r' = r ∧ i_Rel (k + 6) u' v) v v1 v2) u v1 v2) I ?_
  intro g md ll un dp da nw hd ct bf th lg ws il ke fi si us le nx ro pa sl fy py my bz h
  unfold wpX_place wpY_place
  rcases zz_six v1 with h1 | ⟨f, hf, rfl⟩
  · exact xf_file0 h1 (br_t rfl (yf_file0 h1 (br_t rfl ⟨rfl, i_mk h⟩)))
  · refine xf_file1 hf (br_f n_one ?_)
    rcases zz_32 v2 with h2 | ⟨b, hb, rfl⟩
    · exact xf_block0 h2 (br_t rfl (yf_file1 hf (br_f n_one (yf_block0 h2 (br_t rfl ⟨rfl, i_mk h⟩)))))
    · refine xf_block1 hb (br_f n_one ?_)
      refine mx_mapped h.1 (by omega) hb ?_
      intro dp pa sl
      rw [my_mp_f (by omega)]
      refine yf_file1 hf (br_f n_one (yf_block1 hb (br_f n_one ?_)))
      rw [n32, nI_add, n_cl (by omega : 32 * f + b < 2 ^ 31)]
      exact ⟨vp_in_nI (by omega) (by omega), rfl, i_mk h⟩
theorem i_vc_past {k : Nat} {u : SX} {v : SY} (I : i_Rel k u v) (hk : k + 6 ≤ 3073) (v1 : Int32) (v2 : Int32) : wpX_past (fun r u' => wpY_past (fun r' => r' = r ∧ i_Rel (k + 6) u' v) v v1 v2) u v1 v2 := by
  refine zz_el (P := fun u v => wpX_past (fun r u' => wpY_past (fun r' => r' = r ∧ i_Rel (k + 6) u' v) v v1 v2) u v1 v2) I ?_
  intro g md ll un dp da nw hd ct bf th lg ws il ke fi si us le nx ro pa sl fy py my bz h
  unfold wpX_past wpY_past
  rcases zz_3 v1 with h1 | ⟨s, hs, rfl⟩
  · exact xf_there0 h1 (br_t rfl (yf_shot0 h1 (br_t rfl ⟨rfl, i_mk h⟩)))
  · refine xf_there1 hs (fun z => br_t rfl (yf_shot1 hs (fun _ => br_t rfl ⟨rfl, i_mk h⟩) (fun w => absurd z w))) (fun hth => br_f n_one ?_)
    rcases zz_32 v2 with h2 | ⟨b, hb, rfl⟩
    · exact xf_block0 h2 (br_t rfl (yf_shot1 hs (fun w => absurd w hth) (fun _ => br_f n_one (yf_block0 h2 (br_t rfl ⟨rfl, i_mk h⟩)))))
    · refine xf_block1 hb (br_f n_one ?_)
      rw [show (6 : Int32) + nI s = nI (6 + s) from nI_add 6 s]
      refine mx_mapped h.1 (by omega) hb ?_
      intro dp pa sl
      have e0 : my_mp fy py th (32 * (6 + s) + b) = py (32 * s + b) := my_mp_s hs hb hth
      have Y : ∀ r, ((0 ≤ py (32 * s + b) → vp_in (py (32 * s + b)) 96 ∧ da (py (32 * s + b)).toNatClampNeg = r) ∧ (¬ 0 ≤ py (32 * s + b) → (0 : Int32) = r)) → wpY_shot (fun r_1 => ((r_1 = 0 → (0 = r ∧ i_Rel (k + 6) (g, md, ll, un, dp, da, nw, hd, ct, bf, th, lg, ws, il, ke, fi, si, us, le, nx, ro, pa, sl) (g, md, fy, py, my, bz, da, th))) ∧ (¬ r_1 = 0 → (wpY_block (fun r_11 => ((r_11 = 0 → (0 = r ∧ i_Rel (k + 6) (g, md, ll, un, dp, da, nw, hd, ct, bf, th, lg, ws, il, ke, fi, si, us, le, nx, ro, pa, sl) (g, md, fy, py, my, bz, da, th))) ∧ (¬ r_11 = 0 → (vp_in ((32 * nI s) + nI b) 96 ∧ (wpY_valueOf (fun r_22 => (r_22 = r ∧ i_Rel (k + 6) (g, md, ll, un, dp, da, nw, hd, ct, bf, th, lg, ws, il, ke, fi, si, us, le, nx, ro, pa, sl) (g, md, fy, py, my, bz, da, th))) (g, md, fy, py, my, bz, da, th) (py ((32 * nI s) + nI b).toNatClampNeg)))))) (g, md, fy, py, my, bz, da, th) (nI b))))) (g, md, fy, py, my, bz, da, th) (nI s) := by
        intro r hr
        refine yf_shot1 hs (fun w => absurd w hth) (fun _ => br_f n_one (yf_block1 hb (br_f n_one ?_)))
        rw [n32, nI_add, n_cl (by omega : 32 * s + b < 2 ^ 31)]
        refine ⟨vp_in_nI (by omega) (by omega), ?_⟩
        unfold wpY_valueOf
        exact br_c (fun z => ⟨(hr.1 z).1, (hr.1 z).2, i_mk h⟩) (fun z => ⟨hr.2 z, i_mk h⟩)
      rw [e0]
      rcases mx_wf h.1 (k := 32 * (6 + s) + b) (by omega) with q | ⟨p, hp, q⟩
      · rw [e0] at q
        exact br_f (by rw [q]; exact n_nle) (Y 0 ⟨fun z => absurd z (by rw [q]; exact n_nle), fun _ => rfl⟩)
      · rw [e0] at q
        have hv : vp_in (py (32 * s + b)) 96 := by rw [q]; exact vp_in_nI hp (by omega)
        refine br_t (by rw [q]; exact nI_pos' (by omega)) ⟨hv, Y _ ⟨fun _ => ⟨hv, rfl⟩, fun z => absurd (by rw [q]; exact nI_pos' (by omega)) z⟩⟩
theorem i_vc_uses {k : Nat} {u : SX} {v : SY} (I : i_Rel k u v) (hk : k + 6 ≤ 3073) (v1 : Int32) : wpX_uses (fun r => wpY_uses (fun r' => r' = r ∧ i_Rel (k + 6) u v) v v1) u v1 := by
  refine zz_el (P := fun u v => wpX_uses (fun r => wpY_uses (fun r' => r' = r ∧ i_Rel (k + 6) u v) v v1) u v1) I ?_
  intro g md ll un dp da nw hd ct bf th lg ws il ke fi si us le nx ro pa sl fy py my bz h
  unfold wpX_uses wpY_uses
  rcases pk_ix v1 (n := 96) (by omega) with h1 | h1 | ⟨p, hp, rfl⟩
  · exact br_t h1 (br_t h1 ⟨rfl, i_mk h⟩)
  · exact br_f (n_96n h1) (br_f (n_9596 h1) (br_f (n_96n h1) (br_f (n_9596 h1) ⟨rfl, i_mk h⟩)))
  · have ip : vp_in (nI p) 96 := vp_in_nI hp (by omega)
    have hN := h.2.1 p hp
    refine br_f (nI_pos (by omega)) (br_t (nI_le (b := 95) (by omega) (by omega)) ⟨ip, ?_⟩)
    rw [n_cl (by omega : p < 2 ^ 31)]
    refine xr_isFree hp (fun z => br_f n_one ?_) (fun z => br_t rfl ?_)
    · refine br_f (nI_pos (by omega)) (br_t (nI_le (b := 95) (by omega) (by omega)) (yr_mapped hp (yr_isFree hp (fun w => br_f n_one ⟨?_, i_mk h⟩) (fun w => absurd ((zz_fre h hp).mp z) w))))
      rw [hN, Int32.add_zero]
    · refine br_f (nI_pos (by omega)) (br_t (nI_le (b := 95) (by omega) (by omega)) (yr_mapped hp (yr_isFree hp (fun w => absurd ((zz_fre h hp).mpr w) z) (fun w => br_t rfl ⟨?_, i_mk h⟩))))
      rw [hN]
end
section
/-! allocation -/
def al_g (mp : Nat → Int32) (f : Nat) : Nat → Nat
  | 0 => 16 * f
  | j + 1 => if mp (32 * f + j) < 0 then al_g mp f j else ((mp (32 * f + j)).toNatClampNeg + 1) % 96
def al_R (fr : Nat → Prop) (G : Nat) (r : Int32) : Prop := (r = -1 ∧ ∀ j, j < 96 → ¬ fr j) ∨ ∃ q, q < 96 ∧ r = nI q ∧ fr q ∧ ((G ≤ q ∧ ∀ j, G ≤ j → j < q → ¬ fr j) ∨ (q < G ∧ (∀ j, G ≤ j → j < 96 → ¬ fr j) ∧ ∀ j, j < q → ¬ fr j))
theorem al_cg {fr fr' : Nat → Prop} {G : Nat} {r : Int32} (h : al_R fr G r) (hq : ∀ q, q < 96 → (fr q ↔ fr' q)) : al_R fr' G r := by
  rcases h with ⟨h1, h2⟩ | ⟨q, h1, h2, h3, h4⟩
  · exact Or.inl ⟨h1, fun j hj w => h2 j hj ((hq j hj).mpr w)⟩
  · refine Or.inr ⟨q, h1, h2, (hq q h1).mp h3, ?_⟩
    rcases h4 with ⟨a, b⟩ | ⟨a, b, c⟩
    · exact Or.inl ⟨a, fun j q1 q2 w => b j q1 q2 ((hq j (by omega)).mpr w)⟩
    · exact Or.inr ⟨a, fun j q1 q2 w => b j q1 q2 ((hq j q2).mpr w), fun j q1 w => c j q1 ((hq j (by omega)).mpr w)⟩
section
variable {g md ll un dp : Int32} {da nw hd ct bf th lg ws il ke fi si us le nx ro pa sl : Nat → Int32}
variable {gy cy : Int32} {fy py my bz dy ty : Nat → Int32}
variable {p k f b s G : Nat} {mp cm : Nat → Int32} {fr : Nat → Prop} {L0 : List tr_C}
theorem al_lt (hf : f < 6) : ∀ {b : Nat}, al_g mp f b < 96
  | 0 => by show 16 * f < 96; omega
  | b + 1 => by
    show (if mp (32 * f + b) < 0 then al_g mp f b else ((mp (32 * f + b)).toNatClampNeg + 1) % 96) < 96
    split
    · exact al_lt hf
    · exact Nat.mod_lt _ (by omega)
theorem al_none : ∀ {b : Nat}, (∀ i, i < b → mp (32 * f + i) = -1) → al_g mp f b = 16 * f
  | 0, _ => rfl
  | b + 1, h => by
    show (if mp (32 * f + b) < 0 then al_g mp f b else ((mp (32 * f + b)).toNatClampNeg + 1) % 96) = _
    rw [if_pos (by rw [h b (by omega)]; exact n_neg)]
    exact al_none (fun i hi => h i (by omega))
theorem al_last {j : Nat} (hp : p < 2 ^ 31) (hm : mp (32 * f + j) = nI p) : ∀ {b : Nat}, j < b → (∀ i, j < i → i < b → mp (32 * f + i) = -1) → al_g mp f b = (p + 1) % 96
  | 0, h, _ => by omega
  | b + 1, h, h2 => by
    show (if mp (32 * f + b) < 0 then al_g mp f b else ((mp (32 * f + b)).toNatClampNeg + 1) % 96) = _
    by_cases z : j = b
    · subst z
      rw [hm, if_neg (nI_pos hp), n_cl hp]
    · rw [if_pos (by rw [h2 b (by omega) (by omega)]; exact n_neg)]
      exact al_last hp hm (by omega) (fun i q1 q2 => h2 i q1 (by omega))
theorem xw_83 {post : Int32 → SX → Prop} (h : fx_R un ke fi si us le nx ro L0 fr) (hG : G < 96) (K : ∀ r, al_R fr G r → ∀ dp' pa' sl', post r (g, md, ll, un, dp', da, nw, hd, ct, bf, th, lg, ws, il, ke, fi, si, us, le, nx, ro, pa', sl')) : wX_allocate_83 post (nI G) g md ll un dp da nw hd ct bf th lg ws il ke fi si us le nx ro pa sl := by
  unfold wX_allocate_83
  refine xr_freeFrom h hG ?_ ?_
  · intro q q1 q2 q3 q4 dp pa sl
    exact br_t (nI_pos' (by omega)) (K _ (Or.inr ⟨q, q2, rfl, q3, Or.inl ⟨q1, q4⟩⟩) _ _ _)
  · intro hno dp pa sl
    refine br_f n_nle ?_
    refine xr_freeFrom (p := 0) h (by omega) ?_ ?_
    · intro q q1 q2 q3 q4 dp pa sl
      refine K _ (Or.inr ⟨q, q2, rfl, q3, Or.inr ⟨?_, hno, fun j hj => q4 j (Nat.zero_le _) hj⟩⟩) _ _ _
      rcases Nat.lt_or_ge q G with z | z
      · exact z
      · exact absurd q3 (hno q z q2)
    · intro hno2 dp pa sl
      exact K _ (Or.inl ⟨rfl, fun j hj => hno2 j (Nat.zero_le _) hj⟩) _ _ _
theorem xw_73 {post : Int32 → SX → Prop} {x : Nat} (h : fx_R un ke fi si us le nx ro L0 fr) (hx : x ≤ 96) (K : ∀ r, al_R fr (x % 96) r → ∀ dp' pa' sl', post r (g, md, ll, un, dp', da, nw, hd, ct, bf, th, lg, ws, il, ke, fi, si, us, le, nx, ro, pa', sl')) : wX_allocate_73 post (nI x) g md ll un dp da nw hd ct bf th lg ws il ke fi si us le nx ro pa sl := by
  unfold wX_allocate_73
  refine pk_le x 95 (fun z => ?_) (fun z => ?_) rfl rfl (by omega) (by omega)
  · exact xw_83 h (by omega) (by rw [show x % 96 = x by omega] at K; exact K)
  · exact xw_83 (G := 0) h (by omega) (by rw [show x % 96 = 0 by omega] at K; exact K)
theorem n16 (n : Nat) : (16 : Int32) * nI n = nI (16 * n) := pk_mul 16 n
theorem xw_alloc {post : Int32 → SX → Prop} (h : mx_M un ke fi si us le nx ro ct mp fr) (hf : f < 6) (hb : b < 32) (K : ∀ r, al_R fr (al_g mp f b) r → ∀ dp' pa' sl', post r (g, md, ll, un, dp', da, nw, hd, ct, bf, th, lg, ws, il, ke, fi, si, us, le, nx, ro, pa', sl')) : wpX_allocate post (g, md, ll, un, dp, da, nw, hd, ct, bf, th, lg, ws, il, ke, fi, si, us, le, nx, ro, pa, sl) (nI f) (nI b) := by
  obtain ⟨L0, L1, hW, hE, hF, hC⟩ := h
  have hs := ts_W_srt hW
  have hR : fx_R un ke fi si us le nx ro L0 fr := ⟨L1, ts_swap (t := 0) (by omega) hW, hF⟩
  have none : (∀ i, i < b → mp (32 * f + i) = -1) → ∀ dp pa sl, wX_allocate_16 post (nI f) (nI b) (-1) g md ll un dp da nw hd ct bf th lg ws il ke fi si us le nx ro pa sl := by
    intro hno dp pa sl
    unfold wX_allocate_16
    rw [n16]
    refine nm_e (br_t n_neg ?_)
    rw [al_none hno] at K
    exact xw_73 hR (by omega) (by rw [show 16 * f % 96 = 16 * f by omega]; exact K)
  unfold wpX_allocate
  refine pk_le b 0 (fun z => ?_) (fun z => ?_) rfl rfl (by omega) (by omega)
  · exact none (fun i hi => by omega) _ _ _
  · rw [n_m1 z]
    refine mx_extent hW hE (by omega) (b := b - 1) (by omega) ?_ ?_
    · intro hall dp pa sl
      refine none (fun i hi => ?_) _ _ _
      rcases hE.2 (32 * f + i) (by omega) with q | ⟨e, he, q1, q2⟩
      · exact q
      · have fe := hE.1 e he
        have := hall e he (by have := fe.2.2.1; omega)
        omega
    · intro cell a e b' hA hem1 hek hb' dp pa sl
      have hc := ts_At_lt hA
      have ce := ts_At_ce hA
      have hL := ts_At_L hA
      have hem : e ∈ L0 := by rw [hL]; simp
      obtain ⟨f1, f2, f3, f4, f5, f6, f7⟩ := hE.1 e hem
      have ic : vp_in (nI cell) 1170 := vp_in_nI hc (by omega)
      have ec : (nI cell).toNatClampNeg = cell := n_cl (by omega)
      show wX_allocate_16 post (nI f) (nI b) (nI cell) g md ll un dp da nw hd ct bf th lg ws il ke fi si us le nx ro pa sl
      unfold wX_allocate_16
      refine nm_e (br_f (nI_pos (by omega)) ⟨ic, ?_⟩)
      rw [ec, ce.1, n_and31 (by omega)]
      refine nm_e ⟨ic, ic, ?_⟩
      rw [ce.2.1, ce.2.2.1, nI_add]
      refine pk_le b (e.1 % 32 + e.2.2) (fun z2 => ?_) (fun z2 => ?_) rfl rfl (by omega) (by omega)
      · unfold wX_allocate_70
        rw [pk_sub (by omega), nI_add]
        refine nm_e (xw_73 hR (by omega) ?_)
        have v := ex_val hE hem (k := 32 * f + (b - 1)) (by omega) (by omega)
        have := al_last (b := b) (by omega) v (by omega) (fun i q1 q2 => by omega)
        rw [this] at K
        rw [show e.2.1 + (b - e.1 % 32) = e.2.1 + (32 * f + (b - 1) - e.1) + 1 by omega]
        exact K
      · refine ⟨ic, ?_⟩
        unfold wX_allocate_70
        rw [nI_add]
        refine nm_e (xw_73 hR (by omega) ?_)
        have v := ex_val hE hem (k := 32 * f + (e.1 % 32 + e.2.2 - 1)) (by omega) (by omega)
        have := al_last (b := b) (by omega) v (by omega) (fun i q1 q2 => by
          rcases hE.2 (32 * f + i) (by omega) with q | ⟨e0, he0, y1, y2⟩
          · exact q
          · exfalso
            have q := cb_flo hs hL hb' he0 (by omega)
            have := ex_ov hs hE hem he0 q (by omega)
            rw [← this] at y2
            omega)
        rw [this] at K
        rw [show e.2.1 + e.2.2 = e.2.1 + (32 * f + (e.1 % 32 + e.2.2 - 1) - e.1) + 1 by omega]
        exact K
theorem yw_84 {post : Int32 → Prop} {r : Int32} (hr : al_R (my_fr fy py my ty) G r) (hG : G < 96) (hno : ∀ j, G ≤ j → j < 96 → ¬ my_fr fy py my ty j) (K : post r) :
    ∀ j i, i + j = G → (∀ t, t < i → ¬ my_fr fy py my ty t) → ∀ f, j < f → wY_allocate_84 post (nI G) gy cy fy py my bz dy ty f (nI i) := by
  intro j
  induction j with
  | zero =>
    intro i hi hn f hf
    obtain ⟨f, rfl⟩ : ∃ m, f = m + 1 := ⟨f - 1, by omega⟩
    have : i = G := by omega
    subst this
    refine br_t (nI_le (Nat.le_refl _) (by omega)) ?_
    rcases hr with ⟨h1, _⟩ | ⟨q, h1, h2, h3, h4⟩
    · rw [← h1]; exact K
    · exfalso
      rcases Nat.lt_or_ge q i with z | z
      · exact hn q z h3
      · exact hno q z h1 h3
  | succ j ih =>
    intro i hi hn f hf
    obtain ⟨f, rfl⟩ : ∃ m, f = m + 1 := ⟨f - 1, by omega⟩
    refine br_f (nI_ge (by omega) (by omega)) (yr_isFree (by omega) (fun w => br_f n_one ?_) (fun w => br_t rfl ?_))
    · rcases hr with ⟨_, h1⟩ | ⟨q, h1, h2, h3, h4⟩
      · exact absurd w (h1 i (by omega))
      · have : q = i := by
          rcases h4 with ⟨y1, y2⟩ | ⟨y1, y2, y3⟩
          · exact absurd h3 (hno q y1 h1)
          · rcases Nat.lt_trichotomy q i with z | z | z
            · exact absurd h3 (hn q z)
            · exact z
            · exact absurd w (y3 i z)
        rw [← this, ← h2]
        exact K
    · intro y ey
      rw [ey, nI_1]
      exact ih (i + 1) (by omega) (fun t ht => by
        rcases Nat.lt_or_ge t i with z | z
        · exact hn t z
        · have : t = i := by omega
          rw [this]; exact w) f (by omega)
theorem yw_56 {post : Int32 → Prop} {r : Int32} (hr : al_R (my_fr fy py my ty) G r) (hG : G < 96) (K : post r) :
    ∀ j i, i + j = 96 → G ≤ i → (∀ t, G ≤ t → t < i → ¬ my_fr fy py my ty t) → ∀ f, j < f → wY_allocate_56 post (nI G) gy cy fy py my bz dy ty f (nI i) := by
  intro j
  induction j with
  | zero =>
    intro i hi hg hn f hf
    obtain ⟨f, rfl⟩ : ∃ m, f = m + 1 := ⟨f - 1, by omega⟩
    have : i = 96 := by omega
    subst this
    exact br_t (nI_le (a := 96) (b := 96) (by omega) (by omega)) ⟨G + 1, yw_84 hr hG hn K G 0 (by omega) (fun t ht => by omega) _ (by omega)⟩
  | succ j ih =>
    intro i hi hg hn f hf
    obtain ⟨f, rfl⟩ : ∃ m, f = m + 1 := ⟨f - 1, by omega⟩
    refine br_f (nI_ge (a := i) (b := 96) (by omega) (by omega)) (yr_isFree (by omega) (fun w => br_f n_one ?_) (fun w => br_t rfl ?_))
    · rcases hr with ⟨_, h1⟩ | ⟨q, h1, h2, h3, h4⟩
      · exact absurd w (h1 i (by omega))
      · have : q = i := by
          rcases h4 with ⟨y1, y2⟩ | ⟨y1, y2, y3⟩
          · rcases Nat.lt_trichotomy q i with z | z | z
            · exact absurd h3 (hn q y1 z)
            · exact z
            · exact absurd w (y2 i hg z)
          · exact absurd w (y2 i hg (by omega))
        rw [← this, ← h2]
        exact K
    · intro y ey
      rw [ey, nI_1]
      exact ih (i + 1) (by omega) (by omega) (fun t q1 ht => by
        rcases Nat.lt_or_ge t i with z | z
        · exact hn t q1 z
        · have : t = i := by omega
          rw [this]; exact w) f (by omega)
theorem yw_8 {post : Int32 → Prop} {r : Int32} (hf : f < 6) (hb : b < 32) (hwf : ∀ k, k < 192 → fy k = -1 ∨ ∃ p, p < 96 ∧ fy k = nI p) (hr : al_R (my_fr fy py my ty) (al_g fy f b) r) (K : post r) :
    ∀ j i, i + j = b → ∀ n, j < n → wY_allocate_8 post (nI f) (nI b) gy cy fy py my bz dy ty n (nI (al_g fy f i)) (nI i) := by
  intro j
  induction j with
  | zero =>
    intro i hi n hn
    obtain ⟨n, rfl⟩ : ∃ m, n = m + 1 := ⟨n - 1, by omega⟩
    have : i = b := by omega
    subst this
    have hl := al_lt (mp := fy) (b := i) hf
    exact br_t (nI_le (Nat.le_refl _) (by omega)) ⟨97, yw_56 hr hl K (96 - al_g fy f i) (al_g fy f i) (by omega) (Nat.le_refl _) (fun t q1 q2 => by omega) _ (by omega)⟩
  | succ j ih =>
    intro i hi n hn
    obtain ⟨n, rfl⟩ : ∃ m, n = m + 1 := ⟨n - 1, by omega⟩
    have iv : vp_in (nI (32 * f + i)) 192 := vp_in_nI (by omega) (by omega)
    have nx := ih (i + 1) (by omega) n (by omega)
    have eg : al_g fy f (i + 1) = if fy (32 * f + i) < 0 then al_g fy f i else ((fy (32 * f + i)).toNatClampNeg + 1) % 96 := rfl
    rw [eg] at nx
    refine br_f (nI_ge (by omega) (by omega)) ?_
    rw [n32, nI_add, n_cl (by omega : 32 * f + i < 2 ^ 31)]
    refine ⟨iv, ?_⟩
    rcases hwf (32 * f + i) (by omega) with q | ⟨p, hp, q⟩
    · rw [q] at nx ⊢
      rw [if_pos n_neg] at nx
      refine br_t n_neg ?_
      intro y ey
      rw [ey, nI_1]
      exact nx
    · rw [q] at nx ⊢
      rw [if_neg (nI_pos (by omega)), n_cl (by omega)] at nx
      refine br_f (nI_pos (by omega)) ⟨iv, by decide, ?_⟩
      have er : nI p + 1 - (nI p + 1) / 96 * 96 = nI ((p + 1) % 96) := by
        rw [nI_1]
        exact pk_rem (d := 96) (by omega) (by omega) (by omega)
      rw [er]
      refine nm_e ?_
      intro y ey
      rw [ey, nI_1]
      exact nx
theorem yw_alloc {post : Int32 → Prop} {r : Int32} (hf : f < 6) (hb : b < 32) (hwf : ∀ k, k < 192 → fy k = -1 ∨ ∃ p, p < 96 ∧ fy k = nI p) (hr : al_R (my_fr fy py my ty) (al_g fy f b) r) (K : post r) : wpY_allocate post (gy, cy, fy, py, my, bz, dy, ty) (nI f) (nI b) := by
  unfold wpY_allocate
  rw [n16]
  exact nm_e ⟨33, yw_8 hf hb hwf hr K b 0 (by omega) 33 (by omega)⟩
theorem al_mp : ∀ {b : Nat}, f < 6 → b ≤ 32 → al_g (my_mp fy py ty) f b = al_g fy f b
  | 0, _, _ => rfl
  | b + 1, hf, hb => by
    show (if my_mp fy py ty (32 * f + b) < 0 then al_g (my_mp fy py ty) f b else ((my_mp fy py ty (32 * f + b)).toNatClampNeg + 1) % 96) = (if fy (32 * f + b) < 0 then al_g fy f b else ((fy (32 * f + b)).toNatClampNeg + 1) % 96)
    rw [my_mp_f (by omega), al_mp hf (by omega)]
end
end
section
/-! write -/
section
variable {g md ll un dp : Int32} {da nw hd ct bf th lg ws il ke fi si us le nx ro pa sl : Nat → Int32}
variable {gy cy : Int32} {fy py my bz dy ty : Nat → Int32}
variable {p k f b s : Nat} {mp cm : Nat → Int32} {fr : Nat → Prop}
theorem zz_chX {post : SX → Prop} (h : xi_S ll un nw hd ct lg ws il ke fi si us le nx ro (my_mp fy py th) my)
    (hY : ∀ u', (md + 1 = g → ∀ my', (∀ j, j < 192 → my' j = fy j) → ∀ bz, i_Rel k u' (g, 0, fy, py, my', bz, da, th)) → (¬ md + 1 = g → ∀ bz, i_Rel k u' (g, md + 1, fy, py, my, bz, da, th)) → post u') : wpX_changed post (g, md, ll, un, dp, da, nw, hd, ct, bf, th, lg, ws, il, ke, fi, si, us, le, nx, ro, pa, sl) := by
  refine xx_changed h ?_ ?_
  · intro z hd' il' un' dp' ke' fi' si' us' le' nx' ro' pa' sl' hall
    exact hY _ (fun _ my' hm bz => i_mk (hall my' (fun j hj => (hm j hj).trans (my_mp_f hj).symm))) (fun z2 => absurd z z2)
  · intro z
    exact hY _ (fun z2 => absurd z2 z) (fun _ bz => i_mk h)
theorem zz_wend {post : Int32 → SX → Prop} {x3 : Int32} (h : xi_S ll un nw hd ct lg ws il ke fi si us le nx ro (my_mp fy py th) my) (hp : p < 96)
    (HY : ∀ u', wY_write_83 (fun r' v' => r' = 1 ∧ i_Rel (k + 6) u' v') x3 (nI p) g md fy py my bz da th → post 1 u') : wX_write_63 post x3 (nI p) g md ll un dp da nw hd ct bf th lg ws il ke fi si us le nx ro pa sl := by
  have ip : vp_in (nI p) 96 := vp_in_nI hp (by omega)
  unfold wX_write_63
  refine ⟨ip, ?_⟩
  rw [n_cl (by omega : p < 2 ^ 31)]
  refine nm_e (zz_chX (k := k + 6) h (fun u' c1 c2 => HY u' ?_))
  unfold wY_write_83
  refine ⟨ip, ?_⟩
  rw [n_cl (by omega : p < 2 ^ 31)]
  exact nm_e (yr_changed (fun z my' hm => ⟨rfl, c1 z my' hm _⟩) (fun z => ⟨rfl, c2 z _⟩))
theorem zz_w40 {post : Int32 → SX → Prop} {x3 : Int32} (h : xi_S ll un nw hd ct lg ws il ke fi si us le nx ro (my_mp fy py th) my) (hf : f < 6) (hb : b < 32)
    (HY : ∀ r u', wY_write_55 (fun r' v' => r' = r ∧ i_Rel (k + 6) u' v') (nI f) (nI b) x3 g md fy py my bz da th → post r u') : wX_write_40 post (nI f) (nI b) x3 g md ll un dp da nw hd ct bf th lg ws il ke fi si us le nx ro pa sl := by
  have hwf : ∀ k, k < 192 → fy k = -1 ∨ ∃ p, p < 96 ∧ fy k = nI p := fun k hk => by
    have := mx_wf h.1 (k := k) (by omega)
    rw [my_mp_f hk] at this
    exact this
  unfold wX_write_40
  refine xw_alloc h.1 hf hb ?_
  intro r hr dp pa sl
  have hr2 : al_R (my_fr fy py my th) (al_g fy f b) r := by
    rw [al_mp hf (by omega)] at hr
    exact al_cg hr (fun q hq => zz_fre h hq)
  rcases hr with ⟨rfl, _⟩ | ⟨q, hq, rfl, _⟩
  · refine br_f n_nle (HY 0 _ ?_)
    unfold wY_write_55
    exact yw_alloc hf hb hwf hr2 (br_f n_nle ⟨rfl, i_mk h⟩)
  · refine br_t (nI_pos' (by omega)) ?_
    refine xx_change h hf hb (Or.inr ⟨q, hq, rfl⟩) ?_
    intro ll un dp nw hd ct lg ws il ke fi si us le nx ro pa sl h2 _
    rw [my_mp_u (by omega)] at h2
    refine zz_wend (k := k) (bz := bz) h2 hq (fun u' hu => HY 1 u' ?_)
    unfold wY_write_55
    refine yw_alloc hf hb hwf hr2 (br_t (nI_pos' (by omega)) ?_)
    rw [n32, nI_add, n_cl (by omega : 32 * f + b < 2 ^ 31)]
    exact ⟨vp_in_nI (by omega) (by omega), nm_e hu⟩
end
theorem i_vc_write {k : Nat} {u : SX} {v : SY} (I : i_Rel k u v) (hk : k + 6 ≤ 3073) (v1 : Int32) (v2 : Int32) (v3 : Int32) : wpX_write (fun r u' => wpY_write (fun r' v' => r' = r ∧ i_Rel (k + 6) u' v') v v1 v2 v3) u v1 v2 v3 := by
  refine zz_el (P := fun u v => wpX_write (fun r u' => wpY_write (fun r' v' => r' = r ∧ i_Rel (k + 6) u' v') v v1 v2 v3) u v1 v2 v3) I ?_
  intro g md ll un dp da nw hd ct bf th lg ws il ke fi si us le nx ro pa sl fy py my bz h
  unfold wpX_write
  rcases zz_six v1 with h1 | ⟨f, hf, rfl⟩
  · exact xf_file0 h1 (br_t rfl (by unfold wpY_write; exact yf_file0 h1 (br_t rfl ⟨rfl, i_mk h⟩)))
  · refine xf_file1 hf (br_f n_one ?_)
    rcases zz_32 v2 with h2 | ⟨b, hb, rfl⟩
    · exact xf_block0 h2 (br_t rfl (by unfold wpY_write; exact yf_file1 hf (br_f n_one (yf_block0 h2 (br_t rfl ⟨rfl, i_mk h⟩)))))
    · refine xf_block1 hb (br_f n_one ?_)
      refine mx_mapped h.1 (by omega) hb ?_
      intro dp pa sl
      have hk0 : 32 * f + b < 192 := by omega
      have ik : vp_in (nI (32 * f + b)) 192 := vp_in_nI hk0 (by omega)
      have wf := mx_wf h.1 (k := 32 * f + b) (by omega)
      rw [my_mp_f hk0] at wf ⊢
      rcases wf with q | ⟨p, hp, q⟩
      · refine br_t (by rw [q]; exact n_neg) ?_
        refine zz_w40 (k := k) (bz := bz) h hf hb (fun r u' hu => ?_)
        unfold wpY_write
        refine yf_file1 hf (br_f n_one (yf_block1 hb (br_f n_one ?_)))
        rw [n32, nI_add, n_cl (by omega : 32 * f + b < 2 ^ 31)]
        exact ⟨ik, nm_e (br_t (by rw [q]; exact n_neg) hu)⟩
      · have ip : vp_in (nI p) 96 := vp_in_nI hp (by omega)
        have hN := h.2.1 p hp
        have hle := cb_leN (fun k => my_mp fy py th k = nI p) 288
        rw [q]
        refine br_f (nI_pos (by omega)) ?_
        -- the reference's way
        have Yno : ∀ r u', (cb_n (fun k => my_mp fy py th k = nI p) 288 = 1 → my_kp my (nI p)) → wY_write_55 (fun r' v' => r' = r ∧ i_Rel (k + 6) u' v') (nI f) (nI b) v3 g md fy py my bz da th →
            wpY_write (fun r' v' => r' = r ∧ i_Rel (k + 6) u' v') (g, md, fy, py, my, bz, da, th) (nI f) (nI b) v3 := by
          intro r u' hc hu
          unfold wpY_write
          refine yf_file1 hf (br_f n_one (yf_block1 hb (br_f n_one ?_)))
          rw [n32, nI_add, n_cl (by omega : 32 * f + b < 2 ^ 31), q]
          refine ⟨ik, nm_e (br_f (nI_pos (by omega)) (yr_mapped hp ?_))⟩
          refine pk_eq (cb_n (fun k => my_mp fy py th k = nI p) 288) 1 (fun z => ?_) (fun z => hu) rfl rfl (by omega) (by omega)
          exact yr_kept (fun w => br_f n_one hu) (fun w => absurd (hc z) w)
        unfold wpX_owns
        refine ⟨ip, ?_⟩
        rw [n_cl (by omega : p < 2 ^ 31), hN]
        refine pk_eq (cb_n (fun k => my_mp fy py th k = nI p) 288) 1 (fun z => ⟨ip, ?_⟩) (fun z => ?_) rfl rfl (by omega) (by omega)
        · have own := zz_own h hp hk0 q z
          refine br_c (fun z2 => ?_) (fun z2 => ?_)
          · rw [n32, nI_add, n_cl (by omega : 32 * f + b < 2 ^ 31)]
            refine ⟨ik, br_c (fun z3 => ?_) (fun z3 => ?_)⟩
            · refine br_t rfl (zz_w40 (k := k) (bz := bz) h hf hb (fun r u' hu => Yno r u' (fun _ => ?_) hu))
              rcases Classical.em (my_kp my (nI p)) with w | w
              · exact w
              · exact absurd z3 (own.mpr w).2
            · refine br_f n_one (zz_wend (k := k) (bz := bz) h hp (fun u' hu => ?_))
              unfold wpY_write
              refine yf_file1 hf (br_f n_one (yf_block1 hb (br_f n_one ?_)))
              rw [n32, nI_add, n_cl (by omega : 32 * f + b < 2 ^ 31), q]
              refine ⟨ik, nm_e (br_f (nI_pos (by omega)) (yr_mapped hp ?_))⟩
              rw [z]
              exact br_t rfl (yr_kept (fun w => absurd w (own.mp ⟨z2, z3⟩)) (fun _ => br_t rfl hu))
          · refine br_t rfl (zz_w40 (k := k) (bz := bz) h hf hb (fun r u' hu => Yno r u' (fun _ => ?_) hu))
            rcases Classical.em (my_kp my (nI p)) with w | w
            · exact w
            · exact absurd (own.mpr w).1 z2
        · exact br_t rfl (zz_w40 (k := k) (bz := bz) h hf hb (fun r u' hu => Yno r u' (fun w => absurd w z) hu))
end
section
/-! commit, crash, punch, copy, revert -/
def up_n (fy : Nat → Int32) (base : Nat) (val : Nat → Int32) : Nat → Nat → Int32
  | 0 => fy
  | j + 1 => upd (up_n fy base val j) (base + j) (val j)
theorem i_vc_commit {k : Nat} {u : SX} {v : SY} (I : i_Rel k u v) (hk : k + 6 ≤ 3073) : wpX_commit (fun r u' => wpY_commit (fun r' v' => r' = r ∧ i_Rel (k + 6) u' v') v) u := by
  refine zz_el (P := fun u v => wpX_commit (fun r u' => wpY_commit (fun r' v' => r' = r ∧ i_Rel (k + 6) u' v') v) u) I ?_
  intro g md ll un dp da nw hd ct bf th lg ws il ke fi si us le nx ro pa sl fy py my bz h
  refine xx_commit h ?_
  intro hd' il' un' dp' ke' fi' si' us' le' nx' ro' pa' sl' hall
  unfold wpY_commit
  refine yr_save ?_
  intro my' hm
  exact ⟨congrArg nI (cb_eq (fun j hj => by rw [my_mp_f hj])), i_mk (hall my' (fun j hj => (hm j hj).trans (my_mp_f hj).symm))⟩
section
variable {g md ll un dp : Int32} {da nw hd ct bf th lg ws il ke fi si us le nx ro pa sl : Nat → Int32}
variable {gy cy : Int32} {fy py my bz dy ty : Nat → Int32}
variable {p k f b s n N base a : Nat} {mp cm val : Nat → Int32} {fr : Nat → Prop} {g0 : Nat → Nat}
theorem xx_crash_l {post : Int32 → SX → Prop} {x1 : Int32} (hn : n ≤ 192) (hl : ll = nI n) (l1 : ∀ i, i < n → g0 i < 192 ∧ lg i = nI (g0 i) ∧ il (g0 i) = 1 ∧ ws i = cm (g0 i)) (lc : ∀ k, k < 192 → cm k = -1 ∨ ∃ p, p < 96 ∧ cm k = nI p)
    (K : ∀ nw' hd' ct' un' dp' ke' fi' si' us' le' nx' ro' pa' sl' mp', xi_S ll un' nw' hd' ct' lg ws il ke' fi' si' us' le' nx' ro' mp' cm → (∀ k, 192 ≤ k → mp' k = mp k) → (∀ k, k < 192 → mp' k = mp k ∨ mp' k = cm k) → (∀ i, i < n → mp' (g0 i) = cm (g0 i)) →
      wpX_commit (fun r u => match u with | (g, md, ll, un, dp, da, nw, hd, ct, bf, th, lg, ws, il, ke, fi, si, us, le, nx, ro, pa, sl) => post x1 (g, md, ll, un, dp, da, nw, hd, ct, bf, th, lg, ws, il, ke, fi, si, us, le, nx, ro, pa, sl)) (g, md, ll, un', dp', da, nw', hd', ct', bf, th, lg, ws, il, ke', fi', si', us', le', nx', ro', pa', sl')) :
    ∀ j i (un dp : Int32) (nw hd ct ke fi si us le nx ro pa sl mp' : Nat → Int32), i + j = n → xi_S ll un nw hd ct lg ws il ke fi si us le nx ro mp' cm → (∀ k, 192 ≤ k → mp' k = mp k) → (∀ k, k < 192 → mp' k = mp k ∨ mp' k = cm k) → (∀ t, t < i → mp' (g0 t) = cm (g0 t)) →
      ∀ f, j < f → wX_crash_7 post x1 f (nI i) g md ll un dp da nw hd ct bf th lg ws il ke fi si us le nx ro pa sl := by
  intro j
  induction j with
  | zero =>
    intro i un dp nw hd ct ke fi si us le nx ro pa sl mp' hi h h1 h2 h3 f hf
    obtain ⟨f, rfl⟩ : ∃ m, f = m + 1 := ⟨f - 1, by omega⟩
    have : i = n := by omega
    subst this
    refine br_t ?_ (K _ _ _ _ _ _ _ _ _ _ _ _ _ _ mp' h h1 h2 h3)
    rw [hl]
    exact nI_le (Nat.le_refl _) (by omega)
  | succ j ih =>
    intro i un dp nw hd ct ke fi si us le nx ro pa sl mp' hi h h1 h2 h3 f hf
    obtain ⟨f, rfl⟩ : ∃ m, f = m + 1 := ⟨f - 1, by omega⟩
    have i1 : vp_in (nI i) 192 := vp_in_nI (by omega) (by omega)
    have q := l1 i (by omega)
    have ek : 32 * (g0 i / 32) + g0 i % 32 = g0 i := by omega
    refine br_f ?_ ⟨i1, i1, i1, ?_⟩
    · rw [hl]
      exact nI_ge (by omega) (by omega)
    · rw [n_cl (by omega : i < 2 ^ 31), q.2.1, q.2.2.2, n_shr5 (by omega), n_and31 (by omega)]
      refine xx_change h (by omega) (by omega) (lc _ q.1) ?_
      intro ll2 un dp nw hd ct lg2 ws2 il2 ke fi si us le nx ro pa sl hS hsame
      rw [ek] at hS hsame
      obtain ⟨z1, z2, z3, z4⟩ := hsame q.2.2.1
      subst z1 z2 z3 z4
      intro y ey
      rw [ey, nI_1]
      refine ih (i + 1) un dp nw hd ct ke fi si us le nx ro pa sl _ (by omega) hS ?_ ?_ ?_ f (by omega)
      · intro k hk
        rw [pk_un (by omega)]
        exact h1 k hk
      · intro k hk
        by_cases z : k = g0 i
        · subst z; rw [pk_us]; exact Or.inr rfl
        · rw [pk_un z]; exact h2 k hk
      · intro t ht
        by_cases z : g0 t = g0 i
        · rw [z, pk_us]
        · rw [pk_un z]
          rcases Nat.lt_or_ge t i with w | w
          · exact h3 t w
          · have : t = i := by omega
            rw [this] at z
            exact absurd rfl z
theorem xx_crash {post : Int32 → SX → Prop} (h : xi_S ll un nw hd ct lg ws il ke fi si us le nx ro mp cm)
    (K : ∀ nw' hd' ct' il' un' dp' ke' fi' si' us' le' nx' ro' pa' sl' mp', xi_S 0 un' nw' hd' ct' lg ws il' ke' fi' si' us' le' nx' ro' mp' cm → (∀ k, 192 ≤ k → mp' k = mp k) → (∀ k, k < 192 → mp' k = cm k) →
      post (nI (cb_n (fun k => ¬ mp k = cm k) 192)) (g, 0, 0, un', dp', da, nw', hd', ct', bf, th, lg, ws, il', ke', fi', si', us', le', nx', ro', pa', sl')) : wpX_crash post (g, md, ll, un, dp, da, nw, hd, ct, bf, th, lg, ws, il, ke, fi, si, us, le, nx, ro, pa, sl) := by
  have h0 := h
  obtain ⟨hM, hN, hL⟩ := h
  have hL0 := hL
  obtain ⟨n, g0, e, l1, l2, l3, l4, l5⟩ := hL
  have hn := xi_n (fun i hi => (l1 i hi).1) l2
  unfold wpX_crash
  refine xx_differing hM hL0 ?_
  intro dp pa sl
  refine ⟨n + 1, ?_⟩
  refine xx_crash_l (g0 := g0) (mp := mp) (cm := cm) hn e l1 l5 ?_ n 0 un dp nw hd ct ke fi si us le nx ro pa sl mp (by omega) h0 (fun _ _ => rfl) (fun _ _ => Or.inl rfl) (fun t ht => by omega) (n + 1) (by omega)
  intro nw hd ct un dp ke fi si us le nx ro pa sl mp' hS q1 q2 q3
  have q4 : ∀ k, k < 192 → mp' k = cm k := by
    intro k hk
    rcases l3 k hk with ⟨_, y⟩ | ⟨_, i, hi, ei⟩
    · rcases q2 k hk with w | w
      · exact w.trans y
      · exact w
    · rw [← ei]; exact q3 i hi
  refine xx_commit hS ?_
  intro hd' il' un' dp' ke' fi' si' us' le' nx' ro' pa' sl' hall
  exact K _ _ _ _ _ _ _ _ _ _ _ _ _ _ _ mp' (hall cm (fun k hk => (q4 k hk).symm)) q1 q4
/-! punch -/
theorem xp_l {post : Int32 → SX → Prop} (hf : f < 6) (hN : b + N ≤ 32)
    (K : ∀ ll' un' dp' nw' hd' ct' lg' ws' il' ke' fi' si' us' le' nx' ro' pa' sl', xi_S ll' un' nw' hd' ct' lg' ws' il' ke' fi' si' us' le' nx' ro' (my_mp (up_n fy (32 * f + b) (fun _ => -1) N) py th) my → wpX_changed (fun u => match u with | (g, md, ll, un, dp, da, nw, hd, ct, bf, th, lg, ws, il, ke, fi, si, us, le, nx, ro, pa, sl) => post 1 (g, md, ll, un, dp, da, nw, hd, ct, bf, th, lg, ws, il, ke, fi, si, us, le, nx, ro, pa, sl)) (g, md, ll', un', dp', da, nw', hd', ct', bf, th, lg', ws', il', ke', fi', si', us', le', nx', ro', pa', sl')) :
    ∀ j i ll un dp nw hd ct lg ws il ke fi si us le nx ro pa sl, i + j = N → xi_S ll un nw hd ct lg ws il ke fi si us le nx ro (my_mp (up_n fy (32 * f + b) (fun _ => -1) i) py th) my → ∀ t, j < t → wX_punch_42 post (nI f) (nI (b + N)) t (nI (b + i)) g md ll un dp da nw hd ct bf th lg ws il ke fi si us le nx ro pa sl := by
  intro j
  induction j with
  | zero =>
    intro i ll un dp nw hd ct lg ws il ke fi si us le nx ro pa sl hi h t ht
    obtain ⟨t, rfl⟩ : ∃ m, t = m + 1 := ⟨t - 1, by omega⟩
    have : i = N := by omega
    subst this
    exact br_t (nI_le (Nat.le_refl _) (by omega)) (K _ _ _ _ _ _ _ _ _ _ _ _ _ _ _ _ _ _ h)
  | succ j ih =>
    intro i ll un dp nw hd ct lg ws il ke fi si us le nx ro pa sl hi h t ht
    obtain ⟨t, rfl⟩ : ∃ m, t = m + 1 := ⟨t - 1, by omega⟩
    refine br_f (nI_ge (by omega) (by omega)) ?_
    refine xx_change h hf (by omega) (Or.inl rfl) ?_
    intro ll un dp nw hd ct lg ws il ke fi si us le nx ro pa sl h2 _
    intro y ey
    rw [my_mp_u (by omega)] at h2
    rw [ey, nI_1]
    refine ih (i + 1) ll un dp nw hd ct lg ws il ke fi si us le nx ro pa sl (by omega) ?_ t (by omega)
    have e : 32 * f + (b + i) = 32 * f + b + i := by omega
    rw [e] at h2
    exact h2
theorem yp_l {post : Int32 → SY → Prop} {c : Nat} (hf : f < 6) (hb : b < 32) (hc : c < 2 ^ 31) (hN1 : N ≤ c) (hN2 : b + N ≤ 32) (hN3 : N = c ∨ b + N = 32)
    (K : wpY_changed (fun u => match u with | (gy, cy, fy, py, my, bz, dy, ty) => post 1 (gy, cy, fy, py, my, bz, dy, ty)) (gy, cy, up_n fy (32 * f + b) (fun _ => -1) N, py, my, bz, dy, ty)) :
    ∀ j i, i + j = N → ∀ t, j < t → wY_punch_26 post (nI f) (nI b) (nI c) gy cy t (nI (b + i)) (up_n fy (32 * f + b) (fun _ => -1) i) py my bz dy ty := by
  intro j
  induction j with
  | zero =>
    intro i hi t ht
    obtain ⟨t, rfl⟩ : ∃ m, t = m + 1 := ⟨t - 1, by omega⟩
    have : i = N := by omega
    subst this
    refine pk_le 32 (b + i) (fun _ => K) (fun z => ?_) rfl rfl (by omega) (by omega)
    rw [pk_sub (by omega)]
    exact br_t (nI_le (by omega) (by omega)) K
  | succ j ih =>
    intro i hi t ht
    obtain ⟨t, rfl⟩ : ∃ m, t = m + 1 := ⟨t - 1, by omega⟩
    refine br_f (nI_ge (a := b + i) (b := 32) (by omega) (by omega)) ?_
    rw [pk_sub (by omega)]
    refine br_f (nI_ge (by omega) (by omega)) ?_
    rw [n32, nI_add, n_cl (by omega : 32 * f + (b + i) < 2 ^ 31), nI_1]
    refine ⟨vp_in_nI (by omega) (by omega), nm_e (nm_e ?_)⟩
    have e : 32 * f + (b + i) = 32 * f + b + i := by omega
    rw [e]
    exact ih (i + 1) (by omega) t (by omega)
end
theorem i_vc_crash {k : Nat} {u : SX} {v : SY} (I : i_Rel k u v) (hk : k + 6 ≤ 3073) : wpX_crash (fun r u' => wpY_crash (fun r' v' => r' = r ∧ i_Rel (k + 6) u' v') v) u := by
  refine zz_el (P := fun u v => wpX_crash (fun r u' => wpY_crash (fun r' v' => r' = r ∧ i_Rel (k + 6) u' v') v) u) I ?_
  intro g md ll un dp da nw hd ct bf th lg ws il ke fi si us le nx ro pa sl fy py my bz h
  refine xx_crash h ?_
  intro nw' hd' ct' il' un' dp' ke' fi' si' us' le' nx' ro' pa' sl' mp' hS q1 q2
  refine yr_crash ?_
  intro fy' hm
  refine ⟨congrArg nI (cb_eq (fun j hj => by rw [my_mp_f hj])), i_mk ?_⟩
  have : mp' = my_mp fy' py th := by
    funext j
    rcases Nat.lt_or_ge j 192 with z | z
    · rw [q2 j z, my_mp_f z, hm j z]
    · rw [q1 j z]
      unfold my_mp
      have hz : ¬ j < 192 := by omega
      rw [if_neg hz, if_neg hz]
  rw [← this]
  exact hS
theorem n_ge1 {x : Int32} (h : 1 ≤ x) : ∃ c, 1 ≤ c ∧ c < 2 ^ 31 ∧ x = nI c := by
  have h0 : ¬ x < 0 := by
    intro z
    rw [Int32.le_iff_toInt_le] at h
    rw [Int32.lt_iff_toInt_lt] at z
    have e0 : (0 : Int32).toInt = 0 := by decide
    have e1 : (1 : Int32).toInt = 1 := by decide
    omega
  obtain ⟨c, hc, rfl⟩ := nI_of h0
  refine ⟨c, ?_, hc, rfl⟩
  have := (nI_leI (a := 1) (by omega) hc).mp h
  exact this
theorem i_vc_punch {k : Nat} {u : SX} {v : SY} (I : i_Rel k u v) (hk : k + 6 ≤ 3073) (v1 : Int32) (v2 : Int32) (v3 : Int32) : wpX_punch (fun r u' => wpY_punch (fun r' v' => r' = r ∧ i_Rel (k + 6) u' v') v v1 v2 v3) u v1 v2 v3 := by
  refine zz_el (P := fun u v => wpX_punch (fun r u' => wpY_punch (fun r' v' => r' = r ∧ i_Rel (k + 6) u' v') v v1 v2 v3) u v1 v2 v3) I ?_
  intro g md ll un dp da nw hd ct bf th lg ws il ke fi si us le nx ro pa sl fy py my bz h
  unfold wpX_punch
  rcases zz_six v1 with h1 | ⟨f, hf, rfl⟩
  · exact xf_file0 h1 (br_t rfl (by unfold wpY_punch; exact yf_file0 h1 (br_t rfl ⟨rfl, i_mk h⟩)))
  · refine xf_file1 hf (br_f n_one ?_)
    rcases zz_32 v2 with h2 | ⟨b, hb, rfl⟩
    · exact xf_block0 h2 (br_t rfl (by unfold wpY_punch; exact yf_file1 hf (br_f n_one (yf_block0 h2 (br_t rfl ⟨rfl, i_mk h⟩)))))
    · refine xf_block1 hb (br_f n_one ?_)
      refine br_c (fun hc1 => ?_) (fun hc1 => ?_)
      · obtain ⟨c, hc0, hcl, rfl⟩ := n_ge1 hc1
        have key : ∀ N, N ≤ c → b + N ≤ 32 → (N = c ∨ b + N = 32) → ∃ t, wX_punch_42 (fun r u' => wpY_punch (fun r' v' => r' = r ∧ i_Rel (k + 6) u' v') (g, md, fy, py, my, bz, da, th) (nI f) (nI b) (nI c)) (nI f) (nI (b + N)) t (nI b) g md ll un dp da nw hd ct bf th lg ws il ke fi si us le nx ro pa sl := by
          intro N hN1 hN2 hN3
          refine ⟨N + 1, xp_l (fy := fy) (py := py) (my := my) hf hN2 ?_ N 0 ll un dp nw hd ct lg ws il ke fi si us le nx ro pa sl (by omega) h (N + 1) (by omega)⟩
          intro ll un dp nw hd ct lg ws il ke fi si us le nx ro pa sl h2
          refine zz_chX (k := k + 6) h2 (fun u' c1 c2 => ?_)
          show wpY_punch (fun r' v' => r' = 1 ∧ i_Rel (k + 6) u' v') (g, md, fy, py, my, bz, da, th) (nI f) (nI b) (nI c)
          unfold wpY_punch
          refine yf_file1 hf (br_f n_one (yf_block1 hb (br_f n_one (br_t hc1 ⟨N + 1, ?_⟩))))
          exact yp_l hf hb hcl hN1 hN2 hN3 (yr_changed (fun z my' hm => ⟨rfl, c1 z my' hm _⟩) (fun z => ⟨rfl, c2 z _⟩)) N 0 (by omega) (N + 1) (by omega)
        have e32 : (32 : Int32) - nI b = nI (32 - b) := pk_sub (a := 32) (by omega)
        rw [e32]
        refine pk_le c (32 - b) (fun z => ?_) (fun z => ?_) rfl rfl (by omega) (by omega)
        · rw [nI_add]
          exact nm_e (key c (Nat.le_refl _) (by omega) (Or.inl rfl))
        · have := key (32 - b) (by omega) (by omega) (Or.inr (by omega))
          rw [show b + (32 - b) = 32 by omega] at this
          exact this
      · show wpY_punch (fun r' v' => r' = 0 ∧ i_Rel (k + 6) _ v') (g, md, fy, py, my, bz, da, th) (nI f) (nI b) v3
        unfold wpY_punch
        exact yf_file1 hf (br_f n_one (yf_block1 hb (br_f n_one (br_f hc1 ⟨rfl, i_mk h⟩))))
end
section
/-! copy, revert -/
section
variable {g md ll un dp : Int32} {da nw hd ct bf th lg ws il ke fi si us le nx ro pa sl : Nat → Int32}
variable {gy cy : Int32} {fy py my bz dy ty : Nat → Int32}
variable {p k f b s n N base a c q : Nat} {mp cm val : Nat → Int32} {fr : Nat → Prop} {g0 : Nat → Nat}
theorem xo_59 {post : Int32 → SX → Prop} (h : xi_S ll un nw hd ct lg ws il ke fi si us le nx ro (my_mp fy py th) my) (hf : f < 6) (hac : a + c ≤ 32) {x3 x4 : Int32}
    (K : ∀ bf' dp' pa' sl', (∀ t, t < c → bf' t = fy (32 * f + a + t)) → ∃ n96, wX_copy_96 post x3 x4 (nI c) n96 0 g md ll un dp' da nw hd ct bf' th lg ws il ke fi si us le nx ro pa' sl') :
    ∀ j i (bf : Nat → Int32) (dp : Int32) (pa sl : Nat → Int32), i + j = c → (∀ t, t < i → bf t = fy (32 * f + a + t)) → ∀ t, j < t → wX_copy_59 post (nI f) (nI a) x3 x4 (nI c) t (nI i) g md ll un dp da nw hd ct bf th lg ws il ke fi si us le nx ro pa sl := by
  intro j
  induction j with
  | zero =>
    intro i bf dp pa sl hi hb t ht
    obtain ⟨t, rfl⟩ : ∃ m, t = m + 1 := ⟨t - 1, by omega⟩
    have : i = c := by omega
    subst this
    exact br_t (nI_le (Nat.le_refl _) (by omega)) (K _ _ _ _ hb)
  | succ j ih =>
    intro i bf dp pa sl hi hb t ht
    obtain ⟨t, rfl⟩ : ∃ m, t = m + 1 := ⟨t - 1, by omega⟩
    refine br_f (nI_ge (by omega) (by omega)) ?_
    rw [nI_add]
    refine mx_mapped h.1 (by omega) (b := a + i) (by omega) ?_
    intro dp pa sl
    have ek : 32 * f + (a + i) = 32 * f + a + i := by omega
    have wf := mx_wf h.1 (k := 32 * f + a + i) (by omega)
    have ew : vp_nar .byte ((my_mp fy py th (32 * f + a + i)).toInt8.toInt32) = fy (32 * f + a + i) := by
      rw [my_mp_f (by omega)] at wf ⊢
      rcases wf with q | ⟨p, hp, q⟩
      · rw [q]; exact n_m8
      · rw [q, ar_c8 (by omega), ar_s8 (by omega)]
    refine ⟨vp_in_nI (by omega) (by omega), ?_⟩
    rw [ek, ew, n_cl (by omega : i < 2 ^ 31), nI_1]
    refine nm_e (nm_e (ih (i + 1) _ _ _ _ (by omega) (fun x hx => ?_) t (by omega)))
    by_cases z : x = i
    · subst z; exact pk_us
    · rw [pk_un z]; exact hb x (by omega)
theorem xo_96 {post : Int32 → SX → Prop} (hf : f < 6) (hac : b + c ≤ 32) (hbf : ∀ t, t < c → bf t = val t) (hv : ∀ t, t < c → val t = -1 ∨ ∃ p, p < 96 ∧ val t = nI p)
    (K : ∀ ll' un' dp' nw' hd' ct' lg' ws' il' ke' fi' si' us' le' nx' ro' pa' sl', xi_S ll' un' nw' hd' ct' lg' ws' il' ke' fi' si' us' le' nx' ro' (my_mp (up_n fy (32 * f + b) val c) py th) my → wpX_changed (fun u => match u with | (g, md, ll, un, dp, da, nw, hd, ct, bf, th, lg, ws, il, ke, fi, si, us, le, nx, ro, pa, sl) => post 1 (g, md, ll, un, dp, da, nw, hd, ct, bf, th, lg, ws, il, ke, fi, si, us, le, nx, ro, pa, sl)) (g, md, ll', un', dp', da, nw', hd', ct', bf, th, lg', ws', il', ke', fi', si', us', le', nx', ro', pa', sl')) :
    ∀ j i ll un dp nw hd ct lg ws il ke fi si us le nx ro pa sl, i + j = c → xi_S ll un nw hd ct lg ws il ke fi si us le nx ro (my_mp (up_n fy (32 * f + b) val i) py th) my → ∀ t, j < t → wX_copy_96 post (nI f) (nI b) (nI c) t (nI i) g md ll un dp da nw hd ct bf th lg ws il ke fi si us le nx ro pa sl := by
  intro j
  induction j with
  | zero =>
    intro i ll un dp nw hd ct lg ws il ke fi si us le nx ro pa sl hi h t ht
    obtain ⟨t, rfl⟩ : ∃ m, t = m + 1 := ⟨t - 1, by omega⟩
    have : i = c := by omega
    subst this
    exact br_t (nI_le (Nat.le_refl _) (by omega)) (K _ _ _ _ _ _ _ _ _ _ _ _ _ _ _ _ _ _ h)
  | succ j ih =>
    intro i ll un dp nw hd ct lg ws il ke fi si us le nx ro pa sl hi h t ht
    obtain ⟨t, rfl⟩ : ∃ m, t = m + 1 := ⟨t - 1, by omega⟩
    refine br_f (nI_ge (by omega) (by omega)) ⟨vp_in_nI (by omega) (by omega), ?_⟩
    rw [n_cl (by omega : i < 2 ^ 31), hbf i (by omega), nI_add]
    refine xx_change h hf (by omega) (hv i (by omega)) ?_
    intro ll un dp nw hd ct lg ws il ke fi si us le nx ro pa sl h2 _
    intro y ey
    rw [my_mp_u (by omega)] at h2
    rw [ey, nI_1]
    refine ih (i + 1) ll un dp nw hd ct lg ws il ke fi si us le nx ro pa sl (by omega) ?_ t (by omega)
    have e : 32 * f + (b + i) = 32 * f + b + i := by omega
    rw [e] at h2
    exact h2
theorem yo_70 {post : Int32 → SY → Prop} (hf : f < 6) (hac : a + c ≤ 32) {x3 x4 : Int32}
    (K : ∀ bz', (∀ t, t < c → bz' t = fy (32 * f + a + t)) → ∃ n107, wY_copy_107 post x3 x4 (nI c) gy cy n107 0 fy py my bz' dy ty) :
    ∀ j i (bz : Nat → Int32), i + j = c → (∀ t, t < i → bz t = fy (32 * f + a + t)) → ∀ t, j < t → wY_copy_70 post (nI f) (nI a) x3 x4 (nI c) gy cy t (nI i) fy py my bz dy ty := by
  intro j
  induction j with
  | zero =>
    intro i bz hi hb t ht
    obtain ⟨t, rfl⟩ : ∃ m, t = m + 1 := ⟨t - 1, by omega⟩
    have : i = c := by omega
    subst this
    exact br_t (nI_le (Nat.le_refl _) (by omega)) (K _ hb)
  | succ j ih =>
    intro i bz hi hb t ht
    obtain ⟨t, rfl⟩ : ∃ m, t = m + 1 := ⟨t - 1, by omega⟩
    refine br_f (nI_ge (by omega) (by omega)) ?_
    rw [n32, nI_add, nI_add, n_cl (by omega : 32 * f + a + i < 2 ^ 31), n_cl (by omega : i < 2 ^ 31), nI_1]
    refine ⟨vp_in_nI (by omega) (by omega), vp_in_nI (by omega) (by omega), nm_e (nm_e (ih (i + 1) _ (by omega) (fun x hx => ?_) t (by omega)))⟩
    by_cases z : x = i
    · subst z; exact pk_us
    · rw [pk_un z]; exact hb x (by omega)
theorem yo_107 {post : Int32 → SY → Prop} (hf : f < 6) (hac : b + c ≤ 32) (hbf : ∀ t, t < c → bz t = val t)
    (K : wpY_changed (fun u => match u with | (gy, cy, fy, py, my, bz, dy, ty) => post 1 (gy, cy, fy, py, my, bz, dy, ty)) (gy, cy, up_n fy (32 * f + b) val c, py, my, bz, dy, ty)) :
    ∀ j i, i + j = c → ∀ t, j < t → wY_copy_107 post (nI f) (nI b) (nI c) gy cy t (nI i) (up_n fy (32 * f + b) val i) py my bz dy ty := by
  intro j
  induction j with
  | zero =>
    intro i hi t ht
    obtain ⟨t, rfl⟩ : ∃ m, t = m + 1 := ⟨t - 1, by omega⟩
    have : i = c := by omega
    subst this
    exact br_t (nI_le (Nat.le_refl _) (by omega)) K
  | succ j ih =>
    intro i hi t ht
    obtain ⟨t, rfl⟩ : ∃ m, t = m + 1 := ⟨t - 1, by omega⟩
    refine br_f (nI_ge (by omega) (by omega)) ?_
    rw [n32, nI_add, nI_add, n_cl (by omega : 32 * f + b + i < 2 ^ 31), n_cl (by omega : i < 2 ^ 31), nI_1, hbf i (by omega)]
    exact ⟨vp_in_nI (by omega) (by omega), vp_in_nI (by omega) (by omega), nm_e (nm_e (ih (i + 1) (by omega) t (by omega)))⟩
def co_ok (v1 v2 v3 v4 v5 : Int32) : Prop := ∃ f a q b c, f < 6 ∧ q < 6 ∧ a < 32 ∧ b < 32 ∧ 1 ≤ c ∧ a + c ≤ 32 ∧ b + c ≤ 32 ∧ v1 = nI f ∧ v2 = nI a ∧ v3 = nI q ∧ v4 = nI b ∧ v5 = nI c
theorem n_nlt1 {x : Int32} (h : ¬ x < 1) : ∃ c, 1 ≤ c ∧ c < 2 ^ 31 ∧ x = nI c := n_ge1 (Int32.not_lt.mp h)
theorem xo_bad {post : Int32 → SX → Prop} {v1 v2 v3 v4 v5 : Int32} (hbad : ¬ co_ok v1 v2 v3 v4 v5) (K : post 0 (g, md, ll, un, dp, da, nw, hd, ct, bf, th, lg, ws, il, ke, fi, si, us, le, nx, ro, pa, sl)) : wpX_copy post (g, md, ll, un, dp, da, nw, hd, ct, bf, th, lg, ws, il, ke, fi, si, us, le, nx, ro, pa, sl) v1 v2 v3 v4 v5 := by
  unfold wpX_copy
  rcases zz_six v1 with h1 | ⟨f, hf, rfl⟩
  · exact xf_file0 h1 (br_t rfl K)
  · refine xf_file1 hf (br_f n_one ?_)
    rcases zz_six v3 with h1 | ⟨q, hq, rfl⟩
    · exact xf_file0 h1 (br_t rfl K)
    · refine xf_file1 hq (br_f n_one ?_)
      rcases zz_32 v2 with h1 | ⟨a, ha, rfl⟩
      · exact xf_block0 h1 (br_t rfl K)
      · refine xf_block1 ha (br_f n_one ?_)
        rcases zz_32 v4 with h1 | ⟨b, hb, rfl⟩
        · exact xf_block0 h1 (br_t rfl K)
        · refine xf_block1 hb (br_f n_one (br_c (fun _ => K) (fun z => ?_)))
          obtain ⟨c, hc1, hc2, rfl⟩ := n_nlt1 z
          have e1 : (32 : Int32) - nI a = nI (32 - a) := pk_sub (a := 32) (by omega)
          have e2 : (32 : Int32) - nI b = nI (32 - b) := pk_sub (a := 32) (by omega)
          rw [e1, e2]
          refine pk_lt (32 - a) c (fun _ => K) (fun z1 => ?_) rfl rfl (by omega) (by omega)
          refine pk_le c (32 - b) (fun z2 => ?_) (fun _ => K) rfl rfl (by omega) (by omega)
          exact absurd ⟨f, a, q, b, c, hf, hq, ha, hb, hc1, by omega, by omega, rfl, rfl, rfl, rfl, rfl⟩ hbad
theorem yo_bad {post : Int32 → SY → Prop} {v1 v2 v3 v4 v5 : Int32} (hbad : ¬ co_ok v1 v2 v3 v4 v5) (K : post 0 (gy, cy, fy, py, my, bz, dy, ty)) : wpY_copy post (gy, cy, fy, py, my, bz, dy, ty) v1 v2 v3 v4 v5 := by
  unfold wpY_copy
  rcases zz_six v1 with h1 | ⟨f, hf, rfl⟩
  · exact yf_file0 h1 (br_t rfl K)
  · refine yf_file1 hf (br_f n_one ?_)
    rcases zz_six v3 with h1 | ⟨q, hq, rfl⟩
    · exact yf_file0 h1 (br_t rfl K)
    · refine yf_file1 hq (br_f n_one (br_c (fun _ => K) (fun z => ?_)))
      obtain ⟨c, hc1, hc2, rfl⟩ := n_nlt1 z
      refine pk_lt 32 c (fun _ => K) (fun z0 => ?_) rfl rfl (by omega) (by omega)
      rcases zz_32 v2 with h1 | ⟨a, ha, rfl⟩
      · exact yf_block0 h1 (br_t rfl K)
      · refine yf_block1 ha (br_f n_one ?_)
        rcases zz_32 v4 with h1 | ⟨b, hb, rfl⟩
        · exact yf_block0 h1 (br_t rfl K)
        · refine yf_block1 hb (br_f n_one ?_)
          rw [nI_add, nI_add]
          refine pk_lt 32 (a + c) (fun _ => K) (fun z1 => ?_) rfl rfl (by omega) (by omega)
          refine pk_le (b + c) 32 (fun z2 => ?_) (fun _ => K) rfl rfl (by omega) (by omega)
          exact absurd ⟨f, a, q, b, c, hf, hq, ha, hb, hc1, by omega, by omega, rfl, rfl, rfl, rfl, rfl⟩ hbad
theorem xv_l {post : Int32 → SX → Prop} (hf : f < 6) (hs : s < 3) (hth : ¬ th s = 0)
    (K : ∀ ll' un' dp' nw' hd' ct' lg' ws' il' ke' fi' si' us' le' nx' ro' pa' sl', xi_S ll' un' nw' hd' ct' lg' ws' il' ke' fi' si' us' le' nx' ro' (my_mp (up_n fy (32 * f) (fun t => py (32 * s + t)) 32) py th) my → wpX_changed (fun u => match u with | (g, md, ll, un, dp, da, nw, hd, ct, bf, th, lg, ws, il, ke, fi, si, us, le, nx, ro, pa, sl) => post 1 (g, md, ll, un, dp, da, nw, hd, ct, bf, th, lg, ws, il, ke, fi, si, us, le, nx, ro, pa, sl)) (g, md, ll', un', dp', da, nw', hd', ct', bf, th, lg', ws', il', ke', fi', si', us', le', nx', ro', pa', sl')) :
    ∀ j i ll un dp nw hd ct lg ws il ke fi si us le nx ro pa sl, i + j = 32 → xi_S ll un nw hd ct lg ws il ke fi si us le nx ro (my_mp (up_n fy (32 * f) (fun t => py (32 * s + t)) i) py th) my → ∀ t, j < t → wX_revert_19 post (nI f) (nI s) t (nI i) g md ll un dp da nw hd ct bf th lg ws il ke fi si us le nx ro pa sl := by
  intro j
  induction j with
  | zero =>
    intro i ll un dp nw hd ct lg ws il ke fi si us le nx ro pa sl hi h t ht
    obtain ⟨t, rfl⟩ : ∃ m, t = m + 1 := ⟨t - 1, by omega⟩
    have : i = 32 := by omega
    subst this
    exact br_t (nI_le (a := 32) (b := 32) (by omega) (by omega)) (K _ _ _ _ _ _ _ _ _ _ _ _ _ _ _ _ _ _ h)
  | succ j ih =>
    intro i ll un dp nw hd ct lg ws il ke fi si us le nx ro pa sl hi h t ht
    obtain ⟨t, rfl⟩ : ∃ m, t = m + 1 := ⟨t - 1, by omega⟩
    refine br_f (nI_ge (a := i) (b := 32) (by omega) (by omega)) ?_
    rw [show (6 : Int32) + nI s = nI (6 + s) from nI_add 6 s]
    refine mx_mapped h.1 (by omega) (b := i) (by omega) ?_
    intro dp pa sl
    have wf := mx_wf h.1 (k := 32 * (6 + s) + i) (by omega)
    rw [my_mp_s hs (by omega) hth] at wf ⊢
    refine xx_change h hf (by omega) wf ?_
    intro ll un dp nw hd ct lg ws il ke fi si us le nx ro pa sl h2 _
    intro y ey
    rw [my_mp_u (by omega)] at h2
    rw [ey, nI_1]
    exact ih (i + 1) ll un dp nw hd ct lg ws il ke fi si us le nx ro pa sl (by omega) h2 t (by omega)
theorem yv_l {post : Int32 → SY → Prop} (hf : f < 6) (hs : s < 3)
    (K : wpY_changed (fun u => match u with | (gy, cy, fy, py, my, bz, dy, ty) => post 1 (gy, cy, fy, py, my, bz, dy, ty)) (gy, cy, up_n fy (32 * f) (fun t => py (32 * s + t)) 32, py, my, bz, dy, ty)) :
    ∀ j i, i + j = 32 → ∀ t, j < t → wY_revert_20 post (nI f) (nI s) gy cy t (nI i) (up_n fy (32 * f) (fun t => py (32 * s + t)) i) py my bz dy ty := by
  intro j
  induction j with
  | zero =>
    intro i hi t ht
    obtain ⟨t, rfl⟩ : ∃ m, t = m + 1 := ⟨t - 1, by omega⟩
    have : i = 32 := by omega
    subst this
    exact br_t (nI_le (a := 32) (b := 32) (by omega) (by omega)) K
  | succ j ih =>
    intro i hi t ht
    obtain ⟨t, rfl⟩ : ∃ m, t = m + 1 := ⟨t - 1, by omega⟩
    refine br_f (nI_ge (a := i) (b := 32) (by omega) (by omega)) ?_
    rw [n32, n32, nI_add, nI_add, n_cl (by omega : 32 * f + i < 2 ^ 31), n_cl (by omega : 32 * s + i < 2 ^ 31), nI_1]
    exact ⟨vp_in_nI (by omega) (by omega), vp_in_nI (by omega) (by omega), nm_e (nm_e (ih (i + 1) (by omega) t (by omega)))⟩
end
theorem i_vc_copy {k : Nat} {u : SX} {v : SY} (I : i_Rel k u v) (hk : k + 6 ≤ 3073) (v1 : Int32) (v2 : Int32) (v3 : Int32) (v4 : Int32) (v5 : Int32) : wpX_copy (fun r u' => wpY_copy (fun r' v' => r' = r ∧ i_Rel (k + 6) u' v') v v1 v2 v3 v4 v5) u v1 v2 v3 v4 v5 := by
  refine zz_el (P := fun u v => wpX_copy (fun r u' => wpY_copy (fun r' v' => r' = r ∧ i_Rel (k + 6) u' v') v v1 v2 v3 v4 v5) u v1 v2 v3 v4 v5) I ?_
  intro g md ll un dp da nw hd ct bf th lg ws il ke fi si us le nx ro pa sl fy py my bz h
  rcases Classical.em (co_ok v1 v2 v3 v4 v5) with hok | hok
  · obtain ⟨f, a, q, b, c, hf, hq, ha, hb, hc1, hac, hbc, rfl, rfl, rfl, rfl, rfl⟩ := hok
    have e1 : (32 : Int32) - nI a = nI (32 - a) := pk_sub (a := 32) (by omega)
    have e2 : (32 : Int32) - nI b = nI (32 - b) := pk_sub (a := 32) (by omega)
    unfold wpX_copy
    refine xf_file1 hf (br_f n_one (xf_file1 hq (br_f n_one (xf_block1 ha (br_f n_one (xf_block1 hb (br_f n_one ?_)))))))
    rw [e1, e2]
    refine br_f (nI_nlt (b := 1) hc1 (by omega)) (br_f (nI_nlt (by omega) (by omega)) (br_t (nI_le (by omega) (by omega)) ⟨c + 1, ?_⟩))
    refine xo_59 h hf hac ?_ c 0 bf dp pa sl (by omega) (fun t ht => by omega) (c + 1) (by omega)
    intro bf dp pa sl hbf
    refine ⟨c + 1, xo_96 (fy := fy) (py := py) (my := my) (val := fun t => fy (32 * f + a + t)) hq hbc hbf (fun t ht => ?_) ?_ c 0 ll un dp nw hd ct lg ws il ke fi si us le nx ro pa sl (by omega) h (c + 1) (by omega)⟩
    · have wf := mx_wf h.1 (k := 32 * f + a + t) (by omega)
      rw [my_mp_f (by omega)] at wf
      exact wf
    · intro ll un dp nw hd ct lg ws il ke fi si us le nx ro pa sl h2
      refine zz_chX (k := k + 6) h2 (fun u' c1 c2 => ?_)
      show wpY_copy (fun r' v' => r' = 1 ∧ i_Rel (k + 6) u' v') (g, md, fy, py, my, bz, da, th) (nI f) (nI a) (nI q) (nI b) (nI c)
      unfold wpY_copy
      refine yf_file1 hf (br_f n_one (yf_file1 hq (br_f n_one (br_f (nI_nlt (b := 1) hc1 (by omega)) (br_f (nI_nlt (b := c) (a := 32) (by omega) (by omega)) (yf_block1 ha (br_f n_one (yf_block1 hb (br_f n_one ?_)))))))))
      rw [nI_add, nI_add]
      refine br_f (nI_nlt (b := a + c) (a := 32) (by omega) (by omega)) (br_t (nI_le (b := 32) (by omega) (by omega)) ⟨c + 1, ?_⟩)
      refine yo_70 hf hac ?_ c 0 bz (by omega) (fun t ht => by omega) (c + 1) (by omega)
      intro bz' hbz
      exact ⟨c + 1, yo_107 hq hbc hbz (yr_changed (fun z my' hm => ⟨rfl, c1 z my' hm _⟩) (fun z => ⟨rfl, c2 z _⟩)) c 0 (by omega) (c + 1) (by omega)⟩
  · exact xo_bad hok (yo_bad hok ⟨rfl, i_mk h⟩)
theorem i_vc_revert {k : Nat} {u : SX} {v : SY} (I : i_Rel k u v) (hk : k + 6 ≤ 3073) (v1 : Int32) (v2 : Int32) : wpX_revert (fun r u' => wpY_revert (fun r' v' => r' = r ∧ i_Rel (k + 6) u' v') v v1 v2) u v1 v2 := by
  refine zz_el (P := fun u v => wpX_revert (fun r u' => wpY_revert (fun r' v' => r' = r ∧ i_Rel (k + 6) u' v') v v1 v2) u v1 v2) I ?_
  intro g md ll un dp da nw hd ct bf th lg ws il ke fi si us le nx ro pa sl fy py my bz h
  unfold wpX_revert
  rcases zz_six v1 with h1 | ⟨f, hf, rfl⟩
  · exact xf_file0 h1 (br_t rfl (by unfold wpY_revert; exact yf_file0 h1 (br_t rfl ⟨rfl, i_mk h⟩)))
  · refine xf_file1 hf (br_f n_one ?_)
    rcases zz_3 v2 with h2 | ⟨s, hs, rfl⟩
    · exact xf_there0 h2 (br_t rfl (by unfold wpY_revert; exact yf_file1 hf (br_f n_one (yf_shot0 h2 (br_t rfl ⟨rfl, i_mk h⟩)))))
    · refine xf_there1 hs (fun z => br_t rfl (by unfold wpY_revert; exact yf_file1 hf (br_f n_one (yf_shot1 hs (fun _ => br_t rfl ⟨rfl, i_mk h⟩) (fun w => absurd z w))))) (fun hth => br_f n_one ⟨33, ?_⟩)
      refine xv_l (fy := fy) (py := py) (my := my) hf hs hth ?_ 32 0 ll un dp nw hd ct lg ws il ke fi si us le nx ro pa sl (by omega) h 33 (by omega)
      intro ll un dp nw hd ct lg ws il ke fi si us le nx ro pa sl h2
      refine zz_chX (k := k + 6) h2 (fun u' c1 c2 => ?_)
      show wpY_revert (fun r' v' => r' = 1 ∧ i_Rel (k + 6) u' v') (g, md, fy, py, my, bz, da, th) (nI f) (nI s)
      unfold wpY_revert
      refine yf_file1 hf (br_f n_one (yf_shot1 hs (fun w => absurd w hth) (fun _ => br_f n_one ⟨33, ?_⟩)))
      exact yv_l hf hs (yr_changed (fun z my' hm => ⟨rfl, c1 z my' hm _⟩) (fun z => ⟨rfl, c2 z _⟩)) 32 0 (by omega) 33 (by omega)
end
section
/-! snapshots: duplicate, empty, referAll -/
def du_m (mp : Nat → Int32) (m to : Nat) : Nat → Int32 := fun k => if k / 32 = to then mp (32 * m + k % 32) else mp k
def du_e (mp : Nat → Int32) (m : Nat) : Nat → Int32 := fun k => if k / 32 = m then -1 else mp k
section
variable {L L' : List tr_C} {mp : Nat → Int32} {m to : Nat}
theorem ex_dup (h : ex_E L mp) (hm : m < 6) (h6 : 6 ≤ to) (h9 : to < 9) (hemp : ∀ b, b < 32 → mp (32 * to + b) = -1)
    (hL : ∀ e, e ∈ L' ↔ e ∈ L ∨ ∃ e0 ∈ L, e0.1 / 32 = m ∧ e = (32 * to + e0.1 % 32, e0.2.1, e0.2.2)) : ex_E L' (du_m mp m to) := by
  have hno : ∀ e ∈ L, e.1 / 32 ≠ to := by
    intro e he z
    obtain ⟨a1, a2, a3, a4, a5, a6, a7⟩ := h.1 e he
    have v := ex_val h he (k := e.1) (Nat.le_refl _) (by omega)
    have w := hemp (e.1 % 32) (by omega)
    rw [show 32 * to + e.1 % 32 = e.1 by omega, v] at w
    exact n_ne1 (by omega) w
  have old : ∀ k, k / 32 ≠ to → du_m mp m to k = mp k := fun k hk => if_neg hk
  have new : ∀ k, k / 32 = to → du_m mp m to k = mp (32 * m + k % 32) := fun k hk => if_pos hk
  refine ⟨fun e he => ?_, fun k hk => ?_⟩
  · rcases (hL e).mp he with he | ⟨e0, he0, hm0, rfl⟩
    · obtain ⟨a1, a2, a3, a4, a5, a6, a7⟩ := h.1 e he
      have n1 := hno e he
      refine ⟨a1, a2, a3, a4, fun j hj => ?_, fun q => ?_, fun q1 q2 => ?_⟩
      · rw [old _ (by omega)]; exact a5 j hj
      · rw [old _ (by omega)]; exact a6 q
      · rw [old _ (by omega)]; exact a7 q1 q2
    · obtain ⟨a1, a2, a3, a4, a5, a6, a7⟩ := h.1 e0 he0
      show 32 * to + e0.1 % 32 < 288 ∧ 1 ≤ e0.2.2 ∧ (32 * to + e0.1 % 32) % 32 + e0.2.2 ≤ 32 ∧ e0.2.1 + e0.2.2 ≤ 96 ∧ (∀ j, j < e0.2.2 → du_m mp m to (32 * to + e0.1 % 32 + j) = nI (e0.2.1 + j)) ∧ ((32 * to + e0.1 % 32) % 32 + e0.2.2 < 32 → du_m mp m to (32 * to + e0.1 % 32 + e0.2.2) ≠ nI (e0.2.1 + e0.2.2)) ∧ (0 < (32 * to + e0.1 % 32) % 32 → 0 < e0.2.1 → du_m mp m to (32 * to + e0.1 % 32 - 1) ≠ nI (e0.2.1 - 1))
      refine ⟨by omega, a2, by omega, a4, fun j hj => ?_, fun q => ?_, fun q1 q2 => ?_⟩
      · rw [new _ (by omega), show 32 * m + (32 * to + e0.1 % 32 + j) % 32 = e0.1 + j by omega]; exact a5 j hj
      · rw [new _ (by omega), show 32 * m + (32 * to + e0.1 % 32 + e0.2.2) % 32 = e0.1 + e0.2.2 by omega]; exact a6 (by omega)
      · rw [new _ (by omega), show 32 * m + (32 * to + e0.1 % 32 - 1) % 32 = e0.1 - 1 by omega]; exact a7 (by omega) q2
  · by_cases z : k / 32 = to
    · rw [new k z]
      rcases h.2 (32 * m + k % 32) (by omega) with q | ⟨e, he, q1, q2⟩
      · exact Or.inl q
      · have a3 := (h.1 e he).2.2.1
        exact Or.inr ⟨_, (hL _).mpr (Or.inr ⟨e, he, by omega, rfl⟩), by show 32 * to + e.1 % 32 ≤ k; omega, by show k < 32 * to + e.1 % 32 + e.2.2; omega⟩
    · rw [old k z]
      rcases h.2 k hk with q | ⟨e, he, q1, q2⟩
      · exact Or.inl q
      · exact Or.inr ⟨e, (hL e).mpr (Or.inl he), q1, q2⟩
theorem ex_emp (h : ex_E L mp) (hL : ∀ e, e ∈ L' ↔ e ∈ L ∧ e.1 / 32 ≠ m) : ex_E L' (du_e mp m) := by
  have old : ∀ k, k / 32 ≠ m → du_e mp m k = mp k := fun k hk => if_neg hk
  refine ⟨fun e he => ?_, fun k hk => ?_⟩
  · obtain ⟨he, n1⟩ := (hL e).mp he
    obtain ⟨a1, a2, a3, a4, a5, a6, a7⟩ := h.1 e he
    refine ⟨a1, a2, a3, a4, fun j hj => ?_, fun q => ?_, fun q1 q2 => ?_⟩
    · rw [old _ (by omega)]; exact a5 j hj
    · rw [old _ (by omega)]; exact a6 q
    · rw [old _ (by omega)]; exact a7 q1 q2
  · by_cases z : k / 32 = m
    · exact Or.inl (if_pos z)
    · rw [old k z]
      rcases h.2 k hk with q | ⟨e, he, q1, q2⟩
      · exact Or.inl q
      · have a3 := (h.1 e he).2.2.1
        exact Or.inr ⟨e, (hL e).mpr ⟨he, by omega⟩, q1, q2⟩
end
section
variable {g md ll un dp : Int32} {da nw hd ct bf th lg ws il ke fi si us le nx ro pa sl : Nat → Int32}
variable {m to : Nat} {mp : Nat → Int32} {fr : Nat → Prop} {L0 L1 : List tr_C}
theorem xs_dup_l {post : SX → Prop} (hE : ex_E L0 mp) (hs0 : (L0.map Prod.fst).Pairwise (· < ·)) (hF : fr_F L1 fr) (hm : m < 6) (h6 : 6 ≤ to) (h9 : to < 9) (hno : ∀ e ∈ L0, e.1 / 32 ≠ to)
    (K : ∀ L' ct' un' dp' ke' fi' si' us' le' nx' ro' pa' sl', ts_W 0 un' ke' fi' si' us' le' nx' ro' L' L1 → mx_T ct' L' → (∀ e, e ∈ L' ↔ e ∈ L0 ∨ ∃ e0 ∈ L0, e0.1 / 32 = m ∧ e = (32 * to + e0.1 % 32, e0.2.1, e0.2.2)) →
      post (g, md, ll, un', dp', da, nw, hd, ct', bf, th, lg, ws, il, ke', fi', si', us', le', nx', ro', pa', sl')) :
    ∀ d q L (ct : Nat → Int32) (un dp : Int32) (ke fi si us le nx ro pa sl : Nat → Int32) x3, 32 * m + 32 ≤ q + d → 32 * m ≤ q → ts_W 0 un ke fi si us le nx ro L L1 → mx_T ct L →
      (∀ e, e ∈ L ↔ e ∈ L0 ∨ ∃ e0 ∈ L0, e0.1 / 32 = m ∧ e0.1 < q ∧ e = (32 * to + e0.1 % 32, e0.2.1, e0.2.2)) →
      ((x3 = -1 ∧ ∀ e ∈ L, e.1 < q) ∨ ∃ cell a e b, x3 = nI cell ∧ ts_At 0 un ke fi si us le nx ro L L1 cell a e b ∧ q ≤ e.1 ∧ ∀ e' ∈ a, e'.1 < q) →
      ∀ f, d < f → wX_duplicate_10 post (nI m) (nI to) f x3 g md ll un dp da nw hd ct bf th lg ws il ke fi si us le nx ro pa sl := by
  intro d
  induction d with
  | zero =>
    intro q L ct un dp ke fi si us le nx ro pa sl x3 hdd hq hW hC hL hx f hf
    obtain ⟨f, rfl⟩ : ∃ m, f = m + 1 := ⟨f - 1, by omega⟩
    have fin : post (g, md, ll, un, dp, da, nw, hd, ct, bf, th, lg, ws, il, ke, fi, si, us, le, nx, ro, pa, sl) := by
      refine K _ _ _ _ _ _ _ _ _ _ _ _ _ hW hC (fun e => ?_)
      rw [hL]
      exact ⟨fun z => z.imp id (fun ⟨e0, y1, y2, y3, y4⟩ => ⟨e0, y1, y2, y4⟩), fun z => z.imp id (fun ⟨e0, y1, y2, y3⟩ => ⟨e0, y1, y2, by omega, y3⟩)⟩
    rcases hx with ⟨rfl, _⟩ | ⟨cell, a, e, b, rfl, hA, h1, h2⟩
    · exact br_t n_neg fin
    · have hc := ts_At_lt hA
      have ce := ts_At_ce hA
      refine br_f (nI_pos (by omega)) ⟨vp_in_nI hc (by omega), ?_⟩
      rw [n_cl (by omega : cell < 2 ^ 31), ce.1, n_shr5 (by have := ce.2.2.2.1; omega)]
      exact pk_eq (e.1 / 32) m (fun z => by omega) (fun _ => fin) rfl rfl (by have := ce.2.2.2.1; omega) (by omega)
  | succ d ih =>
    intro q L ct un dp ke fi si us le nx ro pa sl x3 hdd hq hW hC hL hx f hf
    obtain ⟨f, rfl⟩ : ∃ m, f = m + 1 := ⟨f - 1, by omega⟩
    have hs := ts_W_srt hW
    have hs1 := ts_W_srt (ts_swap (t := 0) (by omega) hW)
    have hl1 := fr_len hs1 hF
    have hk0 : ∀ e ∈ L, e.1 < 288 := by
      intro e he
      rcases (hL e).mp he with y | ⟨e0, y1, y2, y3, rfl⟩
      · exact (hE.1 e y).1
      · show 32 * to + e0.1 % 32 < 288; omega
    have inm : ∀ e ∈ L, e.1 / 32 = m → e ∈ L0 := by
      intro e he z
      rcases (hL e).mp he with y | ⟨e0, y1, y2, y3, rfl⟩
      · exact y
      · have z' : (32 * to + e0.1 % 32) / 32 = m := z
        omega
    have fin : (∀ e ∈ L, e.1 / 32 = m → e.1 < q) → post (g, md, ll, un, dp, da, nw, hd, ct, bf, th, lg, ws, il, ke, fi, si, us, le, nx, ro, pa, sl) := by
      intro hall
      refine K _ _ _ _ _ _ _ _ _ _ _ _ _ hW hC (fun e => ?_)
      rw [hL]
      exact ⟨fun z => z.imp id (fun ⟨e0, y1, y2, y3, y4⟩ => ⟨e0, y1, y2, y4⟩), fun z => z.imp id (fun ⟨e0, y1, y2, y3⟩ => ⟨e0, y1, y2, hall e0 ((hL e0).mpr (Or.inl y1)) y2, y3⟩)⟩
    rcases hx with ⟨rfl, hall⟩ | ⟨cell, a, e, b, rfl, hA, h1, h2⟩
    · exact br_t n_neg (fin (fun e he _ => hall e he))
    · have hc := ts_At_lt hA
      have ce := ts_At_ce hA
      have hLe := ts_At_L hA
      have hem : e ∈ L := by rw [hLe]; simp
      have ic : vp_in (nI cell) 1170 := vp_in_nI hc (by omega)
      have ek := hk0 e hem
      refine br_f (nI_pos (by omega)) ⟨ic, ?_⟩
      rw [n_cl (by omega : cell < 2 ^ 31), ce.1, ce.2.1, ce.2.2.1, n_shr5 (by omega)]
      refine pk_eq (e.1 / 32) m (fun z => ?_) (fun z => fin (fun e' he' z2 => ?_)) rfl rfl (by omega) (by omega)
      · have he0 := inm e hem z
        obtain ⟨a1, a2, a3, a4, a5, a6, a7⟩ := hE.1 e he0
        refine ⟨ic, nm_e ⟨ic, ic, ?_⟩⟩
        rw [n_and31 (by omega), nI_1]
        refine mx_add hW hk0 (by omega) h9 (b := e.1 % 32) (by omega) (by omega) (by omega) (fun e' he' z2 => ?_) hC ?_
        · rcases (hL e').mp he' with y | ⟨e0, y1, y2, y3, rfl⟩
          · exact hno e' y (by omega)
          · have z3 : 32 * to + e0.1 % 32 = 32 * to + e.1 % 32 := z2
            omega
        · intro L' ct un dp ke fi si us le nx ro pa sl hW' hm' hC'
          have hl0 : L'.length ≤ 400 := by
            have := cb_srt (m := 0) (N := 288) (ts_W_srt hW') (fun x hx => by
              obtain ⟨y, hy, rfl⟩ := List.mem_map.mp hx
              refine ⟨Nat.zero_le _, ?_⟩
              rcases (hm' y).mp hy with w | w
              · rw [w]; show 32 * to + e.1 % 32 < 288; omega
              · exact hk0 y w)
            rw [List.length_map] at this
            omega
          have hL' : ∀ x, x ∈ L' ↔ x ∈ L0 ∨ ∃ e0 ∈ L0, e0.1 / 32 = m ∧ e0.1 < e.1 + 1 ∧ x = (32 * to + e0.1 % 32, e0.2.1, e0.2.2) := by
            intro x
            rw [hm', hL]
            constructor
            · rintro (y | y | ⟨e0, y1, y2, y3, y4⟩)
              · exact Or.inr ⟨e, he0, z, by omega, y⟩
              · exact Or.inl y
              · exact Or.inr ⟨e0, y1, y2, by omega, y4⟩
            · rintro (y | ⟨e0, y1, y2, y3, y4⟩)
              · exact Or.inr (Or.inl y)
              · rcases Nat.lt_or_ge e0.1 q with w | w
                · exact Or.inr (Or.inr ⟨e0, y1, y2, w, y4⟩)
                · have := cb_cei hs hLe h2 ((hL e0).mpr (Or.inl y1)) w
                  have := cb_inj hs0 y1 he0 (by omega)
                  rw [this] at y4
                  exact Or.inl y4
          refine ty_ceiling (t := 0) (by omega) hW' hl0 (by omega) ?_ ?_
          · intro hall dp pa sl
            exact ih (e.1 + 1) L' ct un dp ke fi si us le nx ro pa sl (-1) (by omega) (by omega) hW' hC' hL' (Or.inl ⟨rfl, hall⟩) f (by omega)
          · intro cell' a' e' b' hA' k1 k2 dp pa sl
            exact ih (e.1 + 1) L' ct un dp ke fi si us le nx ro pa sl (nI cell') (by omega) (by omega) hW' hC' hL' (Or.inr ⟨cell', a', e', b', rfl, hA', k1, k2⟩) f (by omega)
      · rcases Nat.lt_or_ge e'.1 q with w | w
        · exact w
        · have := cb_cei hs hLe h2 he' w
          omega
theorem xs_dup {post : SX → Prop} (h : mx_M un ke fi si us le nx ro ct mp fr) (hm : m < 6) (h6 : 6 ≤ to) (h9 : to < 9) (hemp : ∀ b, b < 32 → mp (32 * to + b) = -1)
    (K : ∀ ct' un' dp' ke' fi' si' us' le' nx' ro' pa' sl', mx_M un' ke' fi' si' us' le' nx' ro' ct' (du_m mp m to) fr → post (g, md, ll, un', dp', da, nw, hd, ct', bf, th, lg, ws, il, ke', fi', si', us', le', nx', ro', pa', sl')) : wpX_duplicate post (g, md, ll, un, dp, da, nw, hd, ct, bf, th, lg, ws, il, ke, fi, si, us, le, nx, ro, pa, sl) (nI m) (nI to) := by
  obtain ⟨L0, L1, hW, hE, hF, hC⟩ := h
  have hs := ts_W_srt hW
  have hlen := ex_len hs hE
  have hno : ∀ e ∈ L0, e.1 / 32 ≠ to := by
    intro e he z
    obtain ⟨a1, a2, a3, a4, a5, a6, a7⟩ := hE.1 e he
    have v := ex_val hE he (k := e.1) (Nat.le_refl _) (by omega)
    have w := hemp (e.1 % 32) (by omega)
    rw [show 32 * to + e.1 % 32 = e.1 by omega, v] at w
    exact n_ne1 (by omega) w
  have hL : ∀ x, x ∈ L0 ↔ x ∈ L0 ∨ ∃ e0 ∈ L0, e0.1 / 32 = m ∧ e0.1 < 32 * m ∧ x = (32 * to + e0.1 % 32, e0.2.1, e0.2.2) :=
    fun x => ⟨fun y => Or.inl y, fun y => y.elim id (fun ⟨e0, y1, y2, y3, _⟩ => by omega)⟩
  have K' : ∀ L' ct' un' dp' ke' fi' si' us' le' nx' ro' pa' sl', ts_W 0 un' ke' fi' si' us' le' nx' ro' L' L1 → mx_T ct' L' → (∀ e, e ∈ L' ↔ e ∈ L0 ∨ ∃ e0 ∈ L0, e0.1 / 32 = m ∧ e = (32 * to + e0.1 % 32, e0.2.1, e0.2.2)) →
      post (g, md, ll, un', dp', da, nw, hd, ct', bf, th, lg, ws, il, ke', fi', si', us', le', nx', ro', pa', sl') := by
    intro L' ct' un' dp' ke' fi' si' us' le' nx' ro' pa' sl' hW' hC' hL'
    exact K _ _ _ _ _ _ _ _ _ _ _ _ ⟨L', L1, hW', ex_dup hE hm h6 h9 hemp hL', hF, hC'⟩
  unfold wpX_duplicate
  rw [n32]
  refine ty_ceiling (t := 0) (by omega) hW (by omega) (by omega) ?_ ?_
  · intro hall dp pa sl
    exact ⟨33, xs_dup_l hE hs hF hm h6 h9 hno K' 32 (32 * m) L0 ct un dp ke fi si us le nx ro pa sl (-1) (by omega) (by omega) hW hC hL (Or.inl ⟨rfl, hall⟩) 33 (by omega)⟩
  · intro cell a e b hA k1 k2 dp pa sl
    exact ⟨33, xs_dup_l hE hs hF hm h6 h9 hno K' 32 (32 * m) L0 ct un dp ke fi si us le nx ro pa sl (nI cell) (by omega) (by omega) hW hC hL (Or.inr ⟨cell, a, e, b, rfl, hA, k1, k2⟩) 33 (by omega)⟩
theorem xs_emp_l {post : SX → Prop} (hk00 : ∀ e ∈ L0, e.1 < 288) (hm : m < 9)
    (K : ∀ L' ct' un' dp' ke' fi' si' us' le' nx' ro' pa' sl', ts_W 0 un' ke' fi' si' us' le' nx' ro' L' L1 → mx_T ct' L' → (∀ e, e ∈ L' ↔ e ∈ L0 ∧ e.1 / 32 ≠ m) →
      post (g, md, ll, un', dp', da, nw, hd, ct', bf, th, lg, ws, il, ke', fi', si', us', le', nx', ro', pa', sl')) :
    ∀ d q L (ct : Nat → Int32) (un dp : Int32) (ke fi si us le nx ro pa sl : Nat → Int32) x3, 32 * m + 32 ≤ q + d → 32 * m ≤ q → ts_W 0 un ke fi si us le nx ro L L1 → mx_T ct L →
      (∀ e, e ∈ L ↔ e ∈ L0 ∧ ¬ (e.1 / 32 = m ∧ e.1 < q)) →
      ((x3 = -1 ∧ ∀ e ∈ L, e.1 < 32 * m) ∨ ∃ cell a e b, x3 = nI cell ∧ ts_At 0 un ke fi si us le nx ro L L1 cell a e b ∧ 32 * m ≤ e.1 ∧ ∀ e' ∈ a, e'.1 < 32 * m) →
      ∀ f, d < f → wX_empty_10 post (nI m) f x3 g md ll un dp da nw hd ct bf th lg ws il ke fi si us le nx ro pa sl := by
  intro d
  induction d with
  | zero =>
    intro q L ct un dp ke fi si us le nx ro pa sl x3 hdd hq hW hC hL hx f hf
    obtain ⟨f, rfl⟩ : ∃ m, f = m + 1 := ⟨f - 1, by omega⟩
    have fin : post (g, md, ll, un, dp, da, nw, hd, ct, bf, th, lg, ws, il, ke, fi, si, us, le, nx, ro, pa, sl) := by
      refine K _ _ _ _ _ _ _ _ _ _ _ _ _ hW hC (fun e => ?_)
      rw [hL]
      exact ⟨fun z => ⟨z.1, fun w => z.2 ⟨w, by omega⟩⟩, fun z => ⟨z.1, fun w => z.2 w.1⟩⟩
    rcases hx with ⟨rfl, _⟩ | ⟨cell, a, e, b, rfl, hA, h1, h2⟩
    · exact br_t n_neg fin
    · have hc := ts_At_lt hA
      have ce := ts_At_ce hA
      have hLe := ts_At_L hA
      have hem : e ∈ L := by rw [hLe]; simp
      refine br_f (nI_pos (by omega)) ⟨vp_in_nI hc (by omega), ?_⟩
      rw [n_cl (by omega : cell < 2 ^ 31), ce.1, n_shr5 (by have := ce.2.2.2.1; omega)]
      refine pk_eq (e.1 / 32) m (fun z => ?_) (fun _ => fin) rfl rfl (by have := ce.2.2.2.1; omega) (by omega)
      exact absurd ⟨z, by omega⟩ ((hL e).mp hem).2
  | succ d ih =>
    intro q L ct un dp ke fi si us le nx ro pa sl x3 hdd hq hW hC hL hx f hf
    obtain ⟨f, rfl⟩ : ∃ m, f = m + 1 := ⟨f - 1, by omega⟩
    have hs := ts_W_srt hW
    have hk0 : ∀ e ∈ L, e.1 < 288 := fun e he => hk00 e ((hL e).mp he).1
    have fin : (∀ e ∈ L, e.1 / 32 ≠ m) → post (g, md, ll, un, dp, da, nw, hd, ct, bf, th, lg, ws, il, ke, fi, si, us, le, nx, ro, pa, sl) := by
      intro hall
      refine K _ _ _ _ _ _ _ _ _ _ _ _ _ hW hC (fun e => ?_)
      constructor
      · intro z
        exact ⟨((hL e).mp z).1, hall e z⟩
      · intro z
        exact (hL e).mpr ⟨z.1, fun w => z.2 w.1⟩
    rcases hx with ⟨rfl, hall⟩ | ⟨cell, a, e, b, rfl, hA, h1, h2⟩
    · exact br_t n_neg (fin (fun e he z => by have := hall e he; omega))
    · have hc := ts_At_lt hA
      have ce := ts_At_ce hA
      have hLe := ts_At_L hA
      have hem : e ∈ L := by rw [hLe]; simp
      have ic : vp_in (nI cell) 1170 := vp_in_nI hc (by omega)
      have ek := hk0 e hem
      refine br_f (nI_pos (by omega)) ⟨ic, ?_⟩
      rw [n_cl (by omega : cell < 2 ^ 31), ce.1, n_shr5 (by omega)]
      refine pk_eq (e.1 / 32) m (fun z => ?_) (fun z => fin (fun e' he' z2 => ?_)) rfl rfl (by omega) (by omega)
      · refine ⟨ic, ?_⟩
        rw [n_and31 (by omega)]
        have eq' : e.1 = 32 * m + e.1 % 32 := by omega
        have hqe : q ≤ e.1 := by
          rcases Nat.lt_or_ge e.1 q with w | w
          · exact absurd ⟨z, w⟩ ((hL e).mp hem).2
          · exact w
        refine mx_cut hW hk0 hm (b := e.1 % 32) (by omega) ⟨e, hem, eq'⟩ hC ?_
        intro L' ct un dp ke fi si us le nx ro pa sl hW' hm' hC'
        have hl0 : L'.length ≤ 400 := by
          have := cb_srt (m := 0) (N := 288) (ts_W_srt hW') (fun x hx => by
            obtain ⟨y, hy, rfl⟩ := List.mem_map.mp hx
            exact ⟨Nat.zero_le _, hk0 y ((hm' y).mp hy).1⟩)
          rw [List.length_map] at this
          omega
        have hL' : ∀ x, x ∈ L' ↔ x ∈ L0 ∧ ¬ (x.1 / 32 = m ∧ x.1 < e.1 + 1) := by
          intro x
          rw [hm', ← eq']
          constructor
          · rintro ⟨y1, y2⟩
            refine ⟨((hL x).mp y1).1, fun w => ?_⟩
            have := cb_cei hs hLe h2 y1 (by omega)
            omega
          · rintro ⟨y1, y2⟩
            exact ⟨(hL x).mpr ⟨y1, fun w => y2 ⟨w.1, by omega⟩⟩, fun w => y2 ⟨by omega, by omega⟩⟩
        rw [n32]
        refine ty_ceiling (t := 0) (by omega) hW' hl0 (by omega) ?_ ?_
        · intro hall dp pa sl
          exact ih (e.1 + 1) L' ct un dp ke fi si us le nx ro pa sl (-1) (by omega) (by omega) hW' hC' hL' (Or.inl ⟨rfl, hall⟩) f (by omega)
        · intro cell' a' e' b' hA' k1 k2 dp pa sl
          exact ih (e.1 + 1) L' ct un dp ke fi si us le nx ro pa sl (nI cell') (by omega) (by omega) hW' hC' hL' (Or.inr ⟨cell', a', e', b', rfl, hA', k1, k2⟩) f (by omega)
      · have := cb_cei hs hLe h2 he' (by omega)
        omega
theorem xs_emp {post : SX → Prop} (h : mx_M un ke fi si us le nx ro ct mp fr) (hm : m < 9)
    (K : ∀ ct' un' dp' ke' fi' si' us' le' nx' ro' pa' sl', mx_M un' ke' fi' si' us' le' nx' ro' ct' (du_e mp m) fr → post (g, md, ll, un', dp', da, nw, hd, ct', bf, th, lg, ws, il, ke', fi', si', us', le', nx', ro', pa', sl')) : wpX_empty post (g, md, ll, un, dp, da, nw, hd, ct, bf, th, lg, ws, il, ke, fi, si, us, le, nx, ro, pa, sl) (nI m) := by
  obtain ⟨L0, L1, hW, hE, hF, hC⟩ := h
  have hs := ts_W_srt hW
  have hlen := ex_len hs hE
  have hk0 : ∀ e ∈ L0, e.1 < 288 := fun e he => (hE.1 e he).1
  have hL : ∀ x, x ∈ L0 ↔ x ∈ L0 ∧ ¬ (x.1 / 32 = m ∧ x.1 < 32 * m) := fun x => ⟨fun y => ⟨y, fun w => by omega⟩, fun y => y.1⟩
  have K' : ∀ L' ct' un' dp' ke' fi' si' us' le' nx' ro' pa' sl', ts_W 0 un' ke' fi' si' us' le' nx' ro' L' L1 → mx_T ct' L' → (∀ e, e ∈ L' ↔ e ∈ L0 ∧ e.1 / 32 ≠ m) →
      post (g, md, ll, un', dp', da, nw, hd, ct', bf, th, lg, ws, il, ke', fi', si', us', le', nx', ro', pa', sl') := by
    intro L' ct' un' dp' ke' fi' si' us' le' nx' ro' pa' sl' hW' hC' hL'
    exact K _ _ _ _ _ _ _ _ _ _ _ _ ⟨L', L1, hW', ex_emp hE hL', hF, hC'⟩
  unfold wpX_empty
  rw [n32]
  refine ty_ceiling (t := 0) (by omega) hW (by omega) (by omega) ?_ ?_
  · intro hall dp pa sl
    exact ⟨33, xs_emp_l hk0 hm K' 32 (32 * m) L0 ct un dp ke fi si us le nx ro pa sl (-1) (by omega) (by omega) hW hC hL (Or.inl ⟨rfl, hall⟩) 33 (by omega)⟩
  · intro cell a e b hA k1 k2 dp pa sl
    exact ⟨33, xs_emp_l hk0 hm K' 32 (32 * m) L0 ct un dp ke fi si us le nx ro pa sl (nI cell) (by omega) (by omega) hW hC hL (Or.inr ⟨cell, a, e, b, rfl, hA, k1, k2⟩) 33 (by omega)⟩
end
end
section
/-! referAll, snap, drop -/
theorem up_n_v {fy val : Nat → Int32} {base : Nat} : ∀ {n k : Nat}, up_n fy base val n k = if base ≤ k ∧ k < base + n then val (k - base) else fy k
  | 0, k => by
    rw [if_neg (by omega)]; rfl
  | n + 1, k => by
    show upd (up_n fy base val n) (base + n) (val n) k = _
    by_cases z : k = base + n
    · subst z
      rw [pk_us, if_pos (by omega), show base + n - base = n by omega]
    · rw [pk_un z, up_n_v]
      by_cases y : base ≤ k ∧ k < base + n
      · rw [if_pos y, if_pos (by omega)]
      · rw [if_neg y, if_neg (by omega)]
section
variable {g md ll un dp : Int32} {da nw hd ct bf th lg ws il ke fi si us le nx ro pa sl : Nat → Int32}
variable {gy cy : Int32} {fy py my bz dy ty : Nat → Int32}
variable {m s f k : Nat} {mp mpT mp0 cm : Nat → Int32} {fr : Nat → Prop}
theorem xi_N_cg {mp' : Nat → Int32} (h : xi_N nw mp) (hq : ∀ k, k < 288 → mp' k = mp k) : xi_N nw mp' := by
  intro p hp
  rw [h p hp]
  exact congrArg nI (cb_eq (fun k hk => by rw [hq k hk]))
theorem xs_ra1 {post : SX → Prop} (hm : m < 9) (hemp : ∀ b, b < 32 → mp0 (32 * m + b) = -1)
    (K : ∀ nw' un' dp' ke' fi' si' us' le' nx' ro' pa' sl', mx_M un' ke' fi' si' us' le' nx' ro' ct mpT (fre nw' hd) → xi_N nw' (up_n mp0 (32 * m) (fun b => mpT (32 * m + b)) 32) → post (g, md, ll, un', dp', da, nw', hd, ct, bf, th, lg, ws, il, ke', fi', si', us', le', nx', ro', pa', sl')) :
    ∀ j i (nw : Nat → Int32) (un dp : Int32) (ke fi si us le nx ro pa sl : Nat → Int32), i + j = 32 → mx_M un ke fi si us le nx ro ct mpT (fre nw hd) → xi_N nw (up_n mp0 (32 * m) (fun b => mpT (32 * m + b)) i) →
      ∀ t, j < t → wX_referAll_2 post (nI m) 1 t (nI i) g md ll un dp da nw hd ct bf th lg ws il ke fi si us le nx ro pa sl := by
  intro j
  induction j with
  | zero =>
    intro i nw un dp ke fi si us le nx ro pa sl hi hM hN t ht
    obtain ⟨t, rfl⟩ : ∃ m, t = m + 1 := ⟨t - 1, by omega⟩
    have : i = 32 := by omega
    subst this
    exact br_t (nI_le (a := 32) (b := 32) (by omega) (by omega)) (K _ _ _ _ _ _ _ _ _ _ _ _ hM hN)
  | succ j ih =>
    intro i nw un dp ke fi si us le nx ro pa sl hi hM hN t ht
    obtain ⟨t, rfl⟩ : ∃ m, t = m + 1 := ⟨t - 1, by omega⟩
    refine br_f (nI_ge (a := i) (b := 32) (by omega) (by omega)) ?_
    refine mx_mapped hM hm (by omega) ?_
    intro dp pa sl
    have h0 : up_n mp0 (32 * m) (fun b => mpT (32 * m + b)) i (32 * m + i) = -1 := by
      rw [up_n_v, if_neg (by omega)]
      exact hemp i (by omega)
    have es : up_n mp0 (32 * m) (fun b => mpT (32 * m + b)) (i + 1) = upd (up_n mp0 (32 * m) (fun b => mpT (32 * m + b)) i) (32 * m + i) (mpT (32 * m + i)) := rfl
    rcases mx_wf hM (k := 32 * m + i) (by omega) with q | ⟨p, hp, q⟩
    · rw [q]
      refine xr_refer_n ?_
      intro y ey
      rw [ey, nI_1]
      refine ih (i + 1) nw un dp ke fi si us le nx ro pa sl (by omega) hM ?_ t (by omega)
      rw [es, q, ← ar_upds _ _ h0]
      exact hN
    · rw [q]
      have hle := cb_leN (fun j => up_n mp0 (32 * m) (fun b => mpT (32 * m + b)) i j = nI p) 288
      refine mx_refer hM hp (c' := cb_n (fun j => up_n mp0 (32 * m) (fun b => mpT (32 * m + b)) i j = nI p) 288 + 1) (by rw [hN p hp, nI_1]) (by omega) ?_
      intro un dp ke fi si us le nx ro pa sl hM2
      intro y ey
      rw [ey, nI_1]
      refine ih (i + 1) _ un dp ke fi si us le nx ro pa sl (by omega) hM2 ?_ t (by omega)
      intro x hx
      rw [es, q]
      have ch := xi_ch (mp := up_n mp0 (32 * m) (fun b => mpT (32 * m + b)) i) (v := nI p) (k := 32 * m + i) (by omega) x
      rw [cb_f (show ¬ up_n mp0 (32 * m) (fun b => mpT (32 * m + b)) i (32 * m + i) = nI x by rw [h0]; exact (n_ne1 (by omega)).symm)] at ch
      by_cases zx : x = p
      · subst zx
        rw [pk_us]
        rw [cb_t rfl] at ch
        exact congrArg nI (by omega)
      · rw [pk_un zx, hN x hx]
        rw [cb_f (show ¬ nI p = nI x from fun w => zx (n_inj (by omega) (by omega) w).symm)] at ch
        exact congrArg nI (by omega)
theorem xs_ra0 {post : SX → Prop} (hm : m < 9)
    (K : ∀ nw' un' dp' ke' fi' si' us' le' nx' ro' pa' sl', mx_M un' ke' fi' si' us' le' nx' ro' ct mpT (fre nw' hd) → xi_N nw' (up_n mpT (32 * m) (fun _ => -1) 32) → post (g, md, ll, un', dp', da, nw', hd, ct, bf, th, lg, ws, il, ke', fi', si', us', le', nx', ro', pa', sl')) :
    ∀ j i (nw : Nat → Int32) (un dp : Int32) (ke fi si us le nx ro pa sl : Nat → Int32), i + j = 32 → mx_M un ke fi si us le nx ro ct mpT (fre nw hd) → xi_N nw (up_n mpT (32 * m) (fun _ => -1) i) →
      ∀ t, j < t → wX_referAll_2 post (nI m) (-1) t (nI i) g md ll un dp da nw hd ct bf th lg ws il ke fi si us le nx ro pa sl := by
  intro j
  induction j with
  | zero =>
    intro i nw un dp ke fi si us le nx ro pa sl hi hM hN t ht
    obtain ⟨t, rfl⟩ : ∃ m, t = m + 1 := ⟨t - 1, by omega⟩
    have : i = 32 := by omega
    subst this
    exact br_t (nI_le (a := 32) (b := 32) (by omega) (by omega)) (K _ _ _ _ _ _ _ _ _ _ _ _ hM hN)
  | succ j ih =>
    intro i nw un dp ke fi si us le nx ro pa sl hi hM hN t ht
    obtain ⟨t, rfl⟩ : ∃ m, t = m + 1 := ⟨t - 1, by omega⟩
    refine br_f (nI_ge (a := i) (b := 32) (by omega) (by omega)) ?_
    refine mx_mapped hM hm (by omega) ?_
    intro dp pa sl
    have h0 : up_n mpT (32 * m) (fun _ => -1) i (32 * m + i) = mpT (32 * m + i) := by
      rw [up_n_v, if_neg (by omega)]
    have es : up_n mpT (32 * m) (fun _ => -1) (i + 1) = upd (up_n mpT (32 * m) (fun _ => -1) i) (32 * m + i) (-1) := rfl
    rcases mx_wf hM (k := 32 * m + i) (by omega) with q | ⟨p, hp, q⟩
    · rw [q]
      refine xr_refer_n ?_
      intro y ey
      rw [ey, nI_1]
      refine ih (i + 1) nw un dp ke fi si us le nx ro pa sl (by omega) hM ?_ t (by omega)
      rw [q] at h0
      rw [es, ← ar_upds _ _ h0]
      exact hN
    · rw [q]
      rw [q] at h0
      have hle := cb_leN (fun j => up_n mpT (32 * m) (fun _ => -1) i j = nI p) 288
      have pos : 0 < cb_n (fun j => up_n mpT (32 * m) (fun _ => -1) i j = nI p) 288 := cb_pos (k := 32 * m + i) (by omega) h0
      refine mx_refer hM hp (c' := cb_n (fun j => up_n mpT (32 * m) (fun _ => -1) i j = nI p) 288 - 1) (by rw [hN p hp]; exact sb_m1 pos) (by omega) ?_
      intro un dp ke fi si us le nx ro pa sl hM2
      intro y ey
      rw [ey, nI_1]
      refine ih (i + 1) _ un dp ke fi si us le nx ro pa sl (by omega) hM2 ?_ t (by omega)
      intro x hx
      rw [es]
      have ch := xi_ch (mp := up_n mpT (32 * m) (fun _ => -1) i) (v := -1) (k := 32 * m + i) (by omega) x
      rw [h0, cb_f (show ¬ (-1 : Int32) = nI x from (n_ne1 (by omega)).symm)] at ch
      by_cases zx : x = p
      · subst zx
        rw [pk_us]
        rw [cb_t rfl] at ch
        exact congrArg nI (by omega)
      · rw [pk_un zx, hN x hx]
        rw [cb_f (show ¬ nI p = nI x from fun w => zx (n_inj (by omega) (by omega) w).symm)] at ch
        exact congrArg nI (by omega)
theorem ys_l {post : Int32 → SY → Prop} (hf : f < 6) (hs : s < 3) (K : post 1 (gy, cy, fy, up_n py (32 * s) (fun t => fy (32 * f + t)) 32, my, bz, dy, ty)) :
    ∀ j i, i + j = 32 → ∀ t, j < t → wY_snap_42 post (nI s) (nI f) gy cy t (nI i) fy (up_n py (32 * s) (fun t => fy (32 * f + t)) i) my bz dy ty := by
  intro j
  induction j with
  | zero =>
    intro i hi t ht
    obtain ⟨t, rfl⟩ : ∃ m, t = m + 1 := ⟨t - 1, by omega⟩
    have : i = 32 := by omega
    subst this
    exact br_t (nI_le (a := 32) (b := 32) (by omega) (by omega)) K
  | succ j ih =>
    intro i hi t ht
    obtain ⟨t, rfl⟩ : ∃ m, t = m + 1 := ⟨t - 1, by omega⟩
    refine br_f (nI_ge (a := i) (b := 32) (by omega) (by omega)) ?_
    rw [n32, n32, nI_add, nI_add, n_cl (by omega : 32 * f + i < 2 ^ 31), n_cl (by omega : 32 * s + i < 2 ^ 31), nI_1]
    exact ⟨vp_in_nI (by omega) (by omega), vp_in_nI (by omega) (by omega), nm_e (nm_e (ih (i + 1) (by omega) t (by omega)))⟩
theorem my_hole (hs : s < 3) (ht : ty s = 0) {b : Nat} (hb : b < 32) : my_mp fy py ty (32 * (6 + s) + b) = -1 := by
  unfold my_mp
  rw [if_neg (by omega), show (32 * (6 + s) + b - 192) / 32 = s by omega, if_pos ht]
theorem my_snap (hs : s < 3) (hf : f < 6) (ht : ty s = 0) : du_m (my_mp fy py ty) f (6 + s) = my_mp fy (up_n py (32 * s) (fun t => fy (32 * f + t)) 32) (upd ty s 1) := by
  funext k
  unfold du_m
  by_cases z : k / 32 = 6 + s
  · rw [if_pos z, my_mp_f (by omega)]
    unfold my_mp
    rw [if_neg (by omega), show (k - 192) / 32 = s by omega, pk_us, if_neg (by decide), up_n_v, if_pos (by omega)]
    exact congrArg fy (by omega)
  · rw [if_neg z]
    unfold my_mp
    by_cases y : k < 192
    · rw [if_pos y, if_pos y]
    · rw [if_neg y, if_neg y, pk_un (by omega), up_n_v]
      by_cases w : ty ((k - 192) / 32) = 0
      · rw [if_pos w, if_pos w]
      · rw [if_neg w, if_neg w, if_neg (by omega)]
theorem my_drop (hs : s < 3) : du_e (my_mp fy py ty) (6 + s) = my_mp fy py (upd ty s 0) := by
  funext k
  unfold du_e
  by_cases z : k / 32 = 6 + s
  · rw [if_pos z]
    unfold my_mp
    rw [if_neg (by omega), show (k - 192) / 32 = s by omega, pk_us, if_pos rfl]
  · rw [if_neg z]
    unfold my_mp
    by_cases y : k < 192
    · rw [if_pos y, if_pos y]
    · rw [if_neg y, if_neg y, pk_un (by omega)]
end
theorem n_lt2 {x : Int32} (h : x < 0 ∨ 3 ≤ x) : x < 0 ∨ 2 < x := by
  rcases h with h | h
  · exact Or.inl h
  · refine Or.inr ?_
    rw [Int32.le_iff_toInt_le] at h
    rw [Int32.lt_iff_toInt_lt]
    have e2 : (2 : Int32).toInt = 2 := by decide
    have e3 : (3 : Int32).toInt = 3 := by decide
    omega
theorem i_vc_snap {k : Nat} {u : SX} {v : SY} (I : i_Rel k u v) (hk : k + 6 ≤ 3073) (v1 : Int32) (v2 : Int32) : wpX_snap (fun r u' => wpY_snap (fun r' v' => r' = r ∧ i_Rel (k + 6) u' v') v v1 v2) u v1 v2 := by
  refine zz_el (P := fun u v => wpX_snap (fun r u' => wpY_snap (fun r' v' => r' = r ∧ i_Rel (k + 6) u' v') v v1 v2) u v1 v2) I ?_
  intro g md ll un dp da nw hd ct bf th lg ws il ke fi si us le nx ro pa sl fy py my bz h
  unfold wpX_snap
  rcases zz_3 v1 with h1 | ⟨s, hs, rfl⟩
  · have Y : wpY_snap (fun r' v' => r' = 0 ∧ i_Rel (k + 6) (g, md, ll, un, dp, da, nw, hd, ct, bf, th, lg, ws, il, ke, fi, si, us, le, nx, ro, pa, sl) v') (g, md, fy, py, my, bz, da, th) v1 v2 := by
      unfold wpY_snap
      rcases n_lt2 h1 with z | z
      · exact br_t z ⟨rfl, i_mk h⟩
      · exact br_c (fun _ => ⟨rfl, i_mk h⟩) (fun _ => br_t z ⟨rfl, i_mk h⟩)
    rcases n_lt2 h1 with z | z
    · exact br_t z Y
    · exact br_c (fun _ => Y) (fun _ => br_t z Y)
  · have is : vp_in (nI s) 3 := vp_in_nI hs (by omega)
    have es : (nI s).toNatClampNeg = s := n_cl (by omega)
    have p1 : ¬ nI s < 0 := nI_pos (by omega)
    have p2 : ¬ 2 < nI s := nI_nlt (b := s) (a := 2) (by omega) (by omega)
    refine br_f p1 (br_f p2 ⟨is, ?_⟩)
    rw [es]
    refine br_c (fun hth => ?_) (fun hth => ?_)
    · rcases zz_six v2 with h2 | ⟨f, hf, rfl⟩
      · refine xf_file0 h2 (br_t rfl ?_)
        unfold wpY_snap
        refine br_f p1 (br_f p2 ⟨is, ?_⟩)
        rw [es]
        exact br_t hth (yf_file0 h2 (br_t rfl ⟨rfl, i_mk h⟩))
      · refine xf_file1 hf (br_f n_one ?_)
        refine xx_commit h ?_
        intro hd il un dp ke fi si us le nx ro pa sl hall
        refine ⟨is, ?_⟩
        rw [n_11, show (6 : Int32) + nI s = nI (6 + s) from nI_add 6 s]
        refine nm_e ?_
        have hS := hall (my_mp fy py th) (fun _ _ => rfl)
        obtain ⟨hM, hN, hL⟩ := hS
        refine xs_dup hM hf (by omega) (by omega) (fun b hb => my_hole hs hth hb) ?_
        intro ct un dp ke fi si us le nx ro pa sl hM2
        show wpX_referAll _ _ _ _
        unfold wpX_referAll
        refine ⟨33, xs_ra1 (mp0 := my_mp fy py th) (m := 6 + s) (by omega) (fun b hb => my_hole hs hth hb) ?_ 32 0 nw un dp ke fi si us le nx ro pa sl (by omega) hM2 hN 33 (by omega)⟩
        intro nw un dp ke fi si us le nx ro pa sl hM3 hN3
        show wpY_snap (fun r' v' => r' = 1 ∧ i_Rel (k + 6) _ v') (g, md, fy, py, my, bz, da, th) (nI s) (nI f)
        unfold wpY_snap
        refine br_f p1 (br_f p2 ⟨is, ?_⟩)
        rw [es]
        refine br_t hth (yf_file1 hf (br_f n_one (yr_save ?_)))
        intro my' hm
        refine ⟨is, ?_⟩
        rw [n_11]
        refine nm_e ⟨33, ys_l hf hs ⟨rfl, i_mk ?_⟩ 32 0 (by omega) 33 (by omega)⟩
        rw [← my_snap hs hf hth]
        refine ⟨hM3, xi_N_cg hN3 (fun j hj => ?_), ?_⟩
        · rw [up_n_v]
          by_cases z : 32 * (6 + s) ≤ j ∧ j < 32 * (6 + s) + 32
          · rw [if_pos z]
            exact congrArg _ (by omega)
          · rw [if_neg z]
            exact if_neg (by omega)
        · have hL2 := (hall my' (fun j hj => (hm j hj).trans (my_mp_f hj).symm)).2.2
          exact xi_L_mp hL2 (fun j hj _ => if_neg (by omega))
    · show wpY_snap (fun r' v' => r' = 0 ∧ i_Rel (k + 6) _ v') (g, md, fy, py, my, bz, da, th) (nI s) v2
      unfold wpY_snap
      refine br_f p1 (br_f p2 ⟨is, ?_⟩)
      rw [es]
      exact br_f hth ⟨rfl, i_mk h⟩
theorem i_vc_drop {k : Nat} {u : SX} {v : SY} (I : i_Rel k u v) (hk : k + 6 ≤ 3073) (v1 : Int32) : wpX_drop (fun r u' => wpY_drop (fun r' v' => r' = r ∧ i_Rel (k + 6) u' v') v v1) u v1 := by
  refine zz_el (P := fun u v => wpX_drop (fun r u' => wpY_drop (fun r' v' => r' = r ∧ i_Rel (k + 6) u' v') v v1) u v1) I ?_
  intro g md ll un dp da nw hd ct bf th lg ws il ke fi si us le nx ro pa sl fy py my bz h
  unfold wpX_drop
  rcases zz_3 v1 with h1 | ⟨s, hs, rfl⟩
  · exact xf_there0 h1 (br_t rfl (by unfold wpY_drop; exact yf_shot0 h1 (br_t rfl ⟨rfl, i_mk h⟩)))
  · refine xf_there1 hs (fun z => br_t rfl (by unfold wpY_drop; exact yf_shot1 hs (fun _ => br_t rfl ⟨rfl, i_mk h⟩) (fun w => absurd z w))) (fun hth => br_f n_one ?_)
    have is : vp_in (nI s) 3 := vp_in_nI hs (by omega)
    have es : (nI s).toNatClampNeg = s := n_cl (by omega)
    refine xx_commit h ?_
    intro hd il un dp ke fi si us le nx ro pa sl hall
    refine ⟨is, ?_⟩
    rw [es, n_10, show (6 : Int32) + nI s = nI (6 + s) from nI_add 6 s]
    refine nm_e ?_
    have hS := hall (my_mp fy py th) (fun _ _ => rfl)
    obtain ⟨hM, hN, hL⟩ := hS
    show wpX_referAll _ _ _ _
    unfold wpX_referAll
    refine ⟨33, xs_ra0 (m := 6 + s) (by omega) ?_ 32 0 nw un dp ke fi si us le nx ro pa sl (by omega) hM hN 33 (by omega)⟩
    intro nw un dp ke fi si us le nx ro pa sl hM2 hN2
    refine xs_emp (m := 6 + s) hM2 (by omega) ?_
    intro ct un dp ke fi si us le nx ro pa sl hM3
    show wpY_drop (fun r' v' => r' = 1 ∧ i_Rel (k + 6) _ v') (g, md, fy, py, my, bz, da, th) (nI s)
    unfold wpY_drop
    refine yf_shot1 hs (fun w => absurd w hth) (fun _ => br_f n_one (yr_save ?_))
    intro my' hm
    refine ⟨is, ?_⟩
    rw [es, n_10]
    refine nm_e ⟨rfl, i_mk ?_⟩
    rw [← my_drop hs]
    refine ⟨hM3, xi_N_cg hN2 (fun j hj => ?_), ?_⟩
    · rw [up_n_v]
      unfold du_e
      by_cases z : j / 32 = 6 + s
      · rw [if_pos z, if_pos (by omega)]
      · rw [if_neg z, if_neg (by omega)]
    · have hL2 := (hall my' (fun j hj => (hm j hj).trans (my_mp_f hj).symm)).2.2
      exact xi_L_mp hL2 (fun j hj _ => if_neg (by omega))
end
section
/-! extents counted -/
def ru_s (fy : Nat → Int32) (f b : Nat) : Prop := ¬ fy (32 * f + b) < 0 ∧ (b = 0 ∨ fy (32 * f + b - 1) < 0 ∨ ¬ fy (32 * f + b - 1) = fy (32 * f + b) - 1)
theorem mx_c_cb {f : Nat} : ∀ {L : List tr_C}, (L.map Prod.fst).Pairwise (· < ·) → mx_c L f = cb_n (fun b => ∃ e ∈ L, e.1 = 32 * f + b) 32
  | [], _ => by
    have : cb_n (fun b => ∃ e ∈ ([] : List tr_C), e.1 = 32 * f + b) 32 = 0 := cb_0.mpr (fun b _ h => by obtain ⟨e, he, _⟩ := h; exact absurd he List.not_mem_nil)
    rw [this]; rfl
  | e :: L, h => by
    rw [List.map_cons, List.pairwise_cons] at h
    have ih := mx_c_cb (f := f) h.2
    have ca := mx_c_add (a := []) (b := L) (v := e) (m := f)
    rw [List.nil_append, List.nil_append] at ca
    rw [ca, ih]
    by_cases z : e.1 / 32 = f
    · rw [if_pos z]
      have ch := cb_ch (P := fun b => ∃ x ∈ e :: L, x.1 = 32 * f + b) (Q := fun b => ∃ x ∈ L, x.1 = 32 * f + b) (a := e.1 % 32) (N := 32) (by omega) (fun b _ hb => by
        constructor
        · rintro ⟨x, hx, q⟩
          rcases List.mem_cons.mp hx with w | w
          · rw [w] at q; omega
          · exact ⟨x, w, q⟩
        · rintro ⟨x, hx, q⟩
          exact ⟨x, List.mem_cons_of_mem _ hx, q⟩)
      rw [cb_t (show ∃ x ∈ e :: L, x.1 = 32 * f + e.1 % 32 from ⟨e, List.mem_cons_self, by omega⟩), cb_f (show ¬ ∃ x ∈ L, x.1 = 32 * f + e.1 % 32 by
        rintro ⟨x, hx, q⟩
        have := h.1 _ (List.mem_map_of_mem (f := Prod.fst) hx)
        omega)] at ch
      omega
    · rw [if_neg z]
      exact cb_eq (fun b hb => by
        constructor
        · rintro ⟨x, hx, q⟩
          exact ⟨x, List.mem_cons_of_mem _ hx, q⟩
        · rintro ⟨x, hx, q⟩
          rcases List.mem_cons.mp hx with w | w
          · rw [w] at q; omega
          · exact ⟨x, w, q⟩)
theorem n_sub1 {x p : Nat} (hx : x < 2 ^ 31) (hp : p < 2 ^ 31) : nI x = nI p - 1 ↔ p = x + 1 := by
  constructor
  · intro h
    rcases Nat.eq_zero_or_pos p with z | z
    · rw [z] at h
      have e : nI 0 - 1 = -1 := by decide
      rw [e] at h
      exact absurd h (n_ne1 hx)
    · rw [n_m1 z] at h
      have := n_inj hx (by omega) h
      omega
  · rintro rfl
    exact (nI_pred x).symm
section
variable {g md ll un dp : Int32} {da nw hd ct bf th lg ws il ke fi si us le nx ro pa sl : Nat → Int32}
variable {gy cy : Int32} {fy py my bz dy ty : Nat → Int32}
variable {f b k : Nat} {mp : Nat → Int32} {fr : Nat → Prop} {L : List tr_C}
theorem ru_ex (hs : (L.map Prod.fst).Pairwise (· < ·)) (hE : ex_E L mp) (hmp : ∀ k, k < 192 → mp k = fy k) (hf : f < 6) (hb : b < 32) : ru_s fy f b ↔ ∃ e ∈ L, e.1 = 32 * f + b := by
  have hk : 32 * f + b < 192 := by omega
  unfold ru_s
  rw [← hmp _ hk, ← hmp _ (by omega : 32 * f + b - 1 < 192)]
  constructor
  · rintro ⟨h1, h2⟩
    rcases hE.2 (32 * f + b) (by omega) with q | ⟨e, he, q1, q2⟩
    · rw [q] at h1; exact absurd n_neg h1
    · refine ⟨e, he, ?_⟩
      rcases Nat.lt_or_ge e.1 (32 * f + b) with z | z
      · exfalso
        have fe := hE.1 e he
        have f3 := fe.2.2.1
        have f4 := fe.2.2.2.1
        have v1 := ex_val hE he q1 q2
        have v2 := ex_val hE he (k := 32 * f + b - 1) (by omega) (by omega)
        rcases h2 with w | w | w
        · omega
        · rw [v2] at w; exact nI_pos (by omega) w
        · refine w ?_
          rw [v1, v2, n_sub1 (by omega) (by omega)]
          omega
      · omega
  · rintro ⟨e, he, q⟩
    obtain ⟨a1, a2, a3, a4, a5, a6, a7⟩ := hE.1 e he
    have v1 := ex_val hE he (k := 32 * f + b) (by omega) (by omega)
    rw [v1]
    refine ⟨nI_pos (by omega), ?_⟩
    rcases Nat.eq_zero_or_pos b with z | z
    · exact Or.inl z
    · refine Or.inr ?_
      rcases ex_wf hE (k := 32 * f + b - 1) (by omega) with w | ⟨x, hx, w⟩
      · rw [w]; exact Or.inl n_neg
      · refine Or.inr ?_
        rw [w, n_sub1 (by omega) (by omega)]
        intro y
        refine a7 (by omega) (by omega) ?_
        rw [q, w]
        exact congrArg nI (by omega)
theorem mx_cnt (h : mx_M un ke fi si us le nx ro ct (my_mp fy py ty) fr) (hf : f < 6) : ct f = nI (cb_n (ru_s fy f) 32) := by
  obtain ⟨L0, L1, hW, hE, hF, hC⟩ := h
  have hs := ts_W_srt hW
  rw [hC f (by omega), mx_c_cb hs]
  exact congrArg nI (cb_eq (fun b hb => (ru_ex hs hE (fun k hk => my_mp_f hk) hf hb).symm))
theorem yu_l {post : Int32 → Prop} (hf : f < 6) (K : post (nI (cb_n (ru_s fy f) 32))) :
    ∀ j i, i + j = 32 → ∀ t, j < t → wY_runs_4 post (nI f) gy cy fy py my bz dy ty t (nI (cb_n (ru_s fy f) i)) (nI i) := by
  intro j
  induction j with
  | zero =>
    intro i hi t ht
    obtain ⟨t, rfl⟩ : ∃ m, t = m + 1 := ⟨t - 1, by omega⟩
    have : i = 32 := by omega
    subst this
    exact br_t (nI_le (a := 32) (b := 32) (by omega) (by omega)) K
  | succ j ih =>
    intro i hi t ht
    obtain ⟨t, rfl⟩ : ∃ m, t = m + 1 := ⟨t - 1, by omega⟩
    have nx := ih (i + 1) (by omega) t (by omega)
    rw [cb_s] at nx
    have yes : ru_s fy f i → ∀ y, y = nI (cb_n (ru_s fy f) i) + 1 → ∀ w, w = nI i + 1 → wY_runs_4 post (nI f) gy cy fy py my bz dy ty t y w := by
      intro z y ey w ew
      rw [ey, ew, nI_1, nI_1]
      rw [cb_t z] at nx
      exact nx
    have no : ¬ ru_s fy f i → ∀ w, w = nI i + 1 → wY_runs_4 post (nI f) gy cy fy py my bz dy ty t (nI (cb_n (ru_s fy f) i)) w := by
      intro z w ew
      rw [ew, nI_1]
      rw [cb_f z] at nx
      exact nx
    refine br_f (nI_ge (a := i) (b := 32) (by omega) (by omega)) ?_
    rw [n32, nI_add, n_cl (by omega : 32 * f + i < 2 ^ 31)]
    refine ⟨vp_in_nI (by omega) (by omega), nm_e (br_c (fun z => no (fun w => w.1 z)) (fun z => ?_))⟩
    refine pk_eq i 0 (fun z0 => yes ⟨z, Or.inl z0⟩) (fun z0 => ?_) rfl rfl (by omega) (by omega)
    rw [n_m1 (by omega), n_cl (by omega : 32 * f + i - 1 < 2 ^ 31)]
    refine ⟨vp_in_nI (by omega) (by omega), br_c (fun z1 => yes ⟨z, Or.inr (Or.inl z1)⟩) (fun z1 => ⟨vp_in_nI (by omega) (by omega), br_c (fun z2 => no ?_) (fun z2 => yes ⟨z, Or.inr (Or.inr z2)⟩)⟩)⟩
    rintro ⟨_, w | w | w⟩
    · exact z0 w
    · exact z1 w
    · exact w z2
theorem yu_runs {post : Int32 → Prop} (hf : f < 6) (K : post (nI (cb_n (ru_s fy f) 32))) : wpY_runs post (gy, cy, fy, py, my, bz, dy, ty) (nI f) := by
  unfold wpY_runs
  exact ⟨33, yu_l hf K 32 0 (by omega) 33 (by omega)⟩
end
theorem i_vc_extents {k : Nat} {u : SX} {v : SY} (I : i_Rel k u v) (hk : k + 6 ≤ 3073) (v1 : Int32) : wpX_extents (fun r => wpY_extents (fun r' => r' = r ∧ i_Rel (k + 6) u v) v v1) u v1 := by
  refine zz_el (P := fun u v => wpX_extents (fun r => wpY_extents (fun r' => r' = r ∧ i_Rel (k + 6) u v) v v1) u v1) I ?_
  intro g md ll un dp da nw hd ct bf th lg ws il ke fi si us le nx ro pa sl fy py my bz h
  unfold wpX_extents
  rcases zz_six v1 with h1 | ⟨f, hf, rfl⟩
  · exact xf_file0 h1 (br_t rfl (by unfold wpY_extents; exact yf_file0 h1 (br_t rfl ⟨rfl, i_mk h⟩)))
  · refine xf_file1 hf (br_f n_one ⟨vp_in_nI (by omega) (by omega), ?_⟩)
    rw [n_cl (by omega : f < 2 ^ 31), mx_cnt h.1 hf]
    unfold wpY_extents
    exact yf_file1 hf (br_f n_one (yu_runs hf ⟨rfl, i_mk h⟩))
end
section
/-! free -/
def fo_s : List tr_C → Nat → Nat → Nat → Nat × Nat × Nat
  | [], A, G, R => (A, G, R)
  | e :: b, A, G, R => fo_s b (A + e.2.2) (if e.2.2 ≤ G then G else e.2.2) (R + 1)
section
variable {g md ll un dp : Int32} {da nw hd ct bf th lg ws il ke fi si us le nx ro pa sl : Nat → Int32}
variable {gy cy : Int32} {fy py my bz dy ty : Nat → Int32}
variable {p q k A G R r s n : Nat} {fr : Nat → Prop} {L L0 L1 : List tr_C} {x1 : Int32}
theorem xq_l {post : Int32 → SX → Prop} : ∀ (rest a : List tr_C) (x5 : Int32) (A G R : Nat), G < 128 → ((x5 = -1 ∧ rest = []) ∨ ∃ cell e b, x5 = nI cell ∧ rest = e :: b ∧ ts_At 1 un ke fi si us le nx ro L1 L0 cell a e b) →
    ((x1 = 0 → post (nI (fo_s rest A G R).1) (g, md, ll, un, dp, da, nw, hd, ct, bf, th, lg, ws, il, ke, fi, si, us, le, nx, ro, pa, sl)) ∧ (¬ x1 = 0 → ((x1 = 1 → post (nI (fo_s rest A G R).2.1) (g, md, ll, un, dp, da, nw, hd, ct, bf, th, lg, ws, il, ke, fi, si, us, le, nx, ro, pa, sl)) ∧ (¬ x1 = 1 → post (nI (fo_s rest A G R).2.2) (g, md, ll, un, dp, da, nw, hd, ct, bf, th, lg, ws, il, ke, fi, si, us, le, nx, ro, pa, sl))))) →
    ∀ f, rest.length < f → wX_free_26 post x1 g md ll un dp da nw hd ct bf th lg ws il ke fi si us le nx ro pa sl f (nI A) (nI G) (nI R) x5 := by
  intro rest
  induction rest with
  | nil =>
    intro a x5 A G R hG hx K f hf
    obtain ⟨f, rfl⟩ : ∃ m, f = m + 1 := ⟨f - 1, by omega⟩
    rcases hx with ⟨rfl, _⟩ | ⟨cell, e, b, _, h, _⟩
    · exact br_t n_neg K
    · exact absurd h (by simp)
  | cons e0 rest ih =>
    intro a x5 A G R hG hx K f hf
    obtain ⟨f, rfl⟩ : ∃ m, f = m + 1 := ⟨f - 1, by omega⟩
    rcases hx with ⟨_, h⟩ | ⟨cell, e, b, rfl, h, hA⟩
    · exact absurd h (by simp)
    · obtain ⟨rfl, rfl⟩ := List.cons.inj h
      have hc := ts_At_lt hA
      have ce := ts_At_ce hA
      have ic : vp_in (nI cell) 1170 := vp_in_nI hc (by omega)
      have s128 := ce.2.2.2.2.2
      have hlen : rest.length < f := by rw [List.length_cons] at hf; omega
      have go : ∀ G', G' = (if e0.2.2 ≤ G then G else e0.2.2) → wX_free_60 post (wX_free_26 post x1 g md ll un dp da nw hd ct bf th lg ws il ke fi si us le nx ro pa sl f) x1 (nI (A + e0.2.2)) (nI G') (nI R) (nI cell) g md ll un dp da nw hd ct bf th lg ws il ke fi si us le nx ro pa sl := by
        intro G' hG'
        have hG2 : G' < 128 := by rw [hG']; split <;> omega
        have K' : (x1 = 0 → post (nI (fo_s rest (A + e0.2.2) G' (R + 1)).1) (g, md, ll, un, dp, da, nw, hd, ct, bf, th, lg, ws, il, ke, fi, si, us, le, nx, ro, pa, sl)) ∧ (¬ x1 = 0 → ((x1 = 1 → post (nI (fo_s rest (A + e0.2.2) G' (R + 1)).2.1) (g, md, ll, un, dp, da, nw, hd, ct, bf, th, lg, ws, il, ke, fi, si, us, le, nx, ro, pa, sl)) ∧ (¬ x1 = 1 → post (nI (fo_s rest (A + e0.2.2) G' (R + 1)).2.2) (g, md, ll, un, dp, da, nw, hd, ct, bf, th, lg, ws, il, ke, fi, si, us, le, nx, ro, pa, sl)))) := by
          rw [hG']; exact K
        unfold wX_free_60
        rw [nI_1]
        refine nm_e (ty_after hA ?_ ?_)
        · intro hb
          exact ih (a ++ [e0]) (-1) _ _ _ hG2 (Or.inl ⟨rfl, hb⟩) K' f hlen
        · intro e' b' cell' hb hA'
          exact ih (a ++ [e0]) (nI cell') _ _ _ hG2 (Or.inr ⟨cell', e', b', rfl, hb, hA'⟩) K' f hlen
      refine br_f (nI_pos (by omega)) ⟨ic, ?_⟩
      rw [n_cl (by omega : cell < 2 ^ 31), ce.2.2.1, nI_add]
      refine nm_e ⟨ic, pk_le e0.2.2 G (fun z => go G (by rw [if_pos z])) (fun z => ⟨ic, ?_⟩) rfl rfl (by omega) (by omega)⟩
      exact nm_e (go e0.2.2 (by rw [if_neg (by omega)]))
theorem yq_0 {post : Int32 → Prop} {f : Nat} (hp : p < 96) (hn : ¬ my_fr fy py my ty p) (hG : G < 2 ^ 31) (K : wY_free_13 post x1 gy cy fy py my bz dy ty f (nI A) (nI G) (nI R) (nI 0) (nI (p + 1))) : wY_free_13 post x1 gy cy fy py my bz dy ty (f + 1) (nI A) (nI G) (nI R) (nI r) (nI p) := by
  refine br_f (nI_ge (a := p) (b := 96) (by omega) (by omega)) (yr_isFree hp (fun w => absurd w hn) (fun _ => br_t rfl ?_))
  unfold wY_free_37
  refine br_t (nI_le (a := 0) (b := 0) (by omega) (by omega)) ?_
  unfold wY_free_47
  refine br_f (by decide) ?_
  unfold wY_free_56
  refine br_t (nI_le (a := 0) (b := G) (by omega) hG) ?_
  rw [nI_1]
  exact nm_e K
theorem yq_1 {post : Int32 → Prop} {f : Nat} (hp : p < 96) (hn : my_fr fy py my ty p) (hG : G < 2 ^ 31) (hr : r < 2 ^ 30) (K : wY_free_13 post x1 gy cy fy py my bz dy ty f (nI (A + 1)) (nI (if r + 1 ≤ G then G else r + 1)) (nI (if r = 0 then R + 1 else R)) (nI (r + 1)) (nI (p + 1))) : wY_free_13 post x1 gy cy fy py my bz dy ty (f + 1) (nI A) (nI G) (nI R) (nI r) (nI p) := by
  refine br_f (nI_ge (a := p) (b := 96) (by omega) (by omega)) (yr_isFree hp (fun _ => br_f n_one ?_) (fun w => absurd hn w))
  unfold wY_free_37
  rw [nI_1, nI_1]
  refine br_f (nI_nle (by omega) (by omega)) (nm_e ?_)
  unfold wY_free_47
  have last : ∀ R', R' = (if r = 0 then R + 1 else R) → wY_free_56 post (wY_free_13 post x1 gy cy fy py my bz dy ty f) x1 (nI (A + 1)) (nI G) (nI R') (nI (r + 1)) (nI p) gy cy fy py my bz dy ty := by
    intro R' hR'
    rw [← hR'] at K
    unfold wY_free_56
    rw [nI_1]
    refine pk_le (r + 1) G (fun z => ?_) (fun z => ?_) rfl rfl (by omega) hG
    · rw [if_pos z] at K; exact nm_e K
    · rw [if_neg (by omega)] at K; exact nm_e K
  refine pk_eq (r + 1) 1 (fun z => ?_) (fun z => ?_) rfl rfl (by omega) (by omega)
  · rw [nI_1]
    exact nm_e (last (R + 1) (by rw [if_pos (by omega)]))
  · exact last R (by rw [if_neg (by omega)])
theorem yq_gap {post : Int32 → Prop} (hq : q ≤ 96) (hG : G < 2 ^ 31) : ∀ j p r f, p + j = q → 96 - p < f → (∀ t, p ≤ t → t < q → ¬ my_fr fy py my ty t) → (∀ f' r', 96 - q < f' → (p = q → r' = r) → (p < q → r' = 0) → wY_free_13 post x1 gy cy fy py my bz dy ty f' (nI A) (nI G) (nI R) (nI r') (nI q)) → wY_free_13 post x1 gy cy fy py my bz dy ty f (nI A) (nI G) (nI R) (nI r) (nI p) := by
  intro j
  induction j with
  | zero =>
    intro p r f hj hf hn K
    have : p = q := by omega
    subst this
    exact K f r hf (fun _ => rfl) (fun z => by omega)
  | succ j ih =>
    intro p r f hj hf hn K
    obtain ⟨f, rfl⟩ : ∃ m, f = m + 1 := ⟨f - 1, by omega⟩
    refine yq_0 (by omega) (hn p (Nat.le_refl _) (by omega)) hG ?_
    refine ih (p + 1) 0 f (by omega) (by omega) (fun t h1 h2 => hn t (by omega) h2) (fun f' r' h1 h2 h3 => K f' r' h1 (fun z => by omega) (fun _ => ?_))
    rcases Nat.lt_or_ge (p + 1) q with z | z
    · exact h3 z
    · exact h2 (by omega)
theorem yq_row {post : Int32 → Prop} (hs : s + n ≤ 96) (hG : G < 2 ^ 30) (hfr : ∀ t, s ≤ t → t < s + n → my_fr fy py my ty t) (K : ∀ f, 96 - (s + n) < f → wY_free_13 post x1 gy cy fy py my bz dy ty f (nI (A + n)) (nI (if n ≤ G then G else n)) (nI (R + 1)) (nI n) (nI (s + n))) :
    ∀ j i f, i + j = n → 1 ≤ i → 96 - (s + i) < f → wY_free_13 post x1 gy cy fy py my bz dy ty f (nI (A + i)) (nI (if i ≤ G then G else i)) (nI (R + 1)) (nI i) (nI (s + i)) := by
  intro j
  induction j with
  | zero =>
    intro i f hi h1 hf
    have : i = n := by omega
    subst this
    exact K f hf
  | succ j ih =>
    intro i f hi h1 hf
    obtain ⟨f, rfl⟩ : ∃ m, f = m + 1 := ⟨f - 1, by omega⟩
    have hm : (if i ≤ G then G else i) < 2 ^ 31 := by split <;> omega
    refine yq_1 (by omega) (hfr _ (by omega) (by omega)) hm (by omega) ?_
    have e1 : (if i + 1 ≤ (if i ≤ G then G else i) then (if i ≤ G then G else i) else i + 1) = (if i + 1 ≤ G then G else i + 1) := by
      by_cases z : i ≤ G
      · rw [if_pos z]
      · rw [if_neg z, if_neg (by omega), if_neg (by omega)]
    rw [e1, if_neg (by omega : ¬ i = 0)]
    exact ih (i + 1) f (by omega) (by omega) (by omega)
theorem yq_list {post : Int32 → Prop} : ∀ (rest : List tr_C) (p r A G R : Nat), p ≤ 96 → G < 2 ^ 30 → r < 2 ^ 30 → (∀ e ∈ rest, fr_e (my_fr fy py my ty) e ∧ p ≤ e.1) → (rest.map Prod.fst).Pairwise (· < ·) → (∀ t, p ≤ t → t < 96 → my_fr fy py my ty t → ∃ e ∈ rest, e.1 ≤ t ∧ t < e.1 + e.2.2) → (r = 0 ∨ p = 96 ∨ ¬ my_fr fy py my ty p) →
    ((x1 = 0 → post (nI (fo_s rest A G R).1)) ∧ (¬ x1 = 0 → ((x1 = 1 → post (nI (fo_s rest A G R).2.1)) ∧ (¬ x1 = 1 → ((x1 = 2 → post (nI (fo_s rest A G R).2.2)) ∧ (¬ x1 = 2 → post (-1))))))) →
    ∀ f, 96 - p < f → wY_free_13 post x1 gy cy fy py my bz dy ty f (nI A) (nI G) (nI R) (nI r) (nI p) := by
  intro rest
  induction rest with
  | nil =>
    intro p r A G R hp hG hr hE hs hcov hr0 K f hf
    refine yq_gap (q := 96) (Nat.le_refl _) (by omega) (96 - p) p r f (by omega) hf (fun t h1 h2 h3 => ?_) (fun f' r' h1 _ _ => ?_)
    · obtain ⟨e, he, _⟩ := hcov t h1 h2 h3
      exact absurd he List.not_mem_nil
    · obtain ⟨f', rfl⟩ : ∃ m, f' = m + 1 := ⟨f' - 1, by omega⟩
      exact br_t (nI_le (a := 96) (b := 96) (by omega) (by omega)) K
  | cons e rest ih =>
    intro p r A G R hp hG hr hE hs hcov hr0 K f hf
    obtain ⟨⟨g1, g2, g3, g4, g5, g6⟩, hpe⟩ := hE e List.mem_cons_self
    rw [List.map_cons, List.pairwise_cons] at hs
    have beh : ∀ x ∈ rest, e.1 + e.2.2 ≤ x.1 := by
      intro x hx
      have h1 := hs.1 _ (List.mem_map_of_mem (f := Prod.fst) hx)
      have fx := (hE x (List.mem_cons_of_mem _ hx)).1
      rcases Nat.lt_or_ge x.1 (e.1 + e.2.2) with z | z
      · exact absurd (g4 (x.1 - 1) (by omega) (by omega)) (fx.2.2.2.2.2 (by omega))
      · exact z
    have gap : ∀ t, p ≤ t → t < e.1 → ¬ my_fr fy py my ty t := by
      intro t h1 h2 h3
      obtain ⟨x, hx, h4, h5⟩ := hcov t h1 (by omega) h3
      rcases List.mem_cons.mp hx with w | w
      · rw [w] at h4; omega
      · have := beh x w; omega
    refine yq_gap (q := e.1) (by omega) (by omega) (e.1 - p) p r f (by omega) hf gap (fun f' r' h1 h2 h3 => ?_)
    have hr' : r' = 0 := by
      rcases Nat.lt_or_ge p e.1 with z | z
      · exact h3 z
      · have : p = e.1 := by omega
        rw [h2 this]
        rcases hr0 with w | w | w
        · exact w
        · omega
        · rw [this] at w
          exact absurd (g4 e.1 (Nat.le_refl _) (by omega)) w
    subst hr'
    obtain ⟨f', rfl⟩ : ∃ m, f' = m + 1 := ⟨f' - 1, by omega⟩
    refine yq_1 (by omega) (g4 e.1 (Nat.le_refl _) (by omega)) (by omega) (by omega) ?_
    refine yq_row (s := e.1) (n := e.2.2) g3 hG g4 ?_ (e.2.2 - 1) 1 f' (by omega) (by omega) (by omega)
    intro f2 hf2
    refine ih (e.1 + e.2.2) e.2.2 _ _ _ g3 (by split <;> omega) (by omega) (fun x hx => ⟨(hE x (List.mem_cons_of_mem _ hx)).1, beh x hx⟩) hs.2 ?_ ?_ K f2 hf2
    · intro t h1 h2 h3
      obtain ⟨x, hx, h4, h5⟩ := hcov t (by omega) h2 h3
      rcases List.mem_cons.mp hx with w | w
      · rw [w] at h5; omega
      · exact ⟨x, w, h4, h5⟩
    · refine Or.inr ?_
      rcases Nat.lt_or_ge (e.1 + e.2.2) 96 with z | z
      · exact Or.inr (g5 z)
      · exact Or.inl (by omega)
end
theorem i_vc_free {k : Nat} {u : SX} {v : SY} (I : i_Rel k u v) (hk : k + 6 ≤ 3073) (v1 : Int32) : wpX_free (fun r u' => wpY_free (fun r' => r' = r ∧ i_Rel (k + 6) u' v) v v1) u v1 := by
  refine zz_el (P := fun u v => wpX_free (fun r u' => wpY_free (fun r' => r' = r ∧ i_Rel (k + 6) u' v) v v1) u v1) I ?_
  intro g md ll un dp da nw hd ct bf th lg ws il ke fi si us le nx ro pa sl fy py my bz h
  obtain ⟨L0, L1, hW0, hE, hF0, hC⟩ := h.1
  have hW := ts_swap (t := 0) (by omega) hW0
  have hs := ts_W_srt hW
  have hF : fr_F L1 (my_fr fy py my th) := fr_cg hF0 (fun q hq => (zz_fre h hq).symm)
  have hlen := fr_len hs hF
  have hL1 : L1.length ≤ 400 := by omega
  -- the reference's scan
  have Y : ∀ r u', i_Rel (k + 6) u' (g, md, fy, py, my, bz, da, th) → ((v1 = 0 → nI (fo_s L1 0 0 0).1 = r) ∧ (¬ v1 = 0 → ((v1 = 1 → nI (fo_s L1 0 0 0).2.1 = r) ∧ (¬ v1 = 1 → ((v1 = 2 → nI (fo_s L1 0 0 0).2.2 = r) ∧ (¬ v1 = 2 → (-1 : Int32) = r)))))) → wpY_free (fun r' => r' = r ∧ i_Rel (k + 6) u' (g, md, fy, py, my, bz, da, th)) (g, md, fy, py, my, bz, da, th) v1 := by
    intro r u' hI hr
    unfold wpY_free
    refine ⟨97, yq_list L1 0 0 0 0 0 (by omega) (by omega) (by omega) (fun e he => ⟨hF.1 e he, Nat.zero_le _⟩) hs (fun t _ h2 h3 => hF.2 t h2 h3) (Or.inl rfl) ?_ 97 (by omega)⟩
    exact ⟨fun z => ⟨hr.1 z, hI⟩, fun z => ⟨fun z2 => ⟨(hr.2 z).1 z2, hI⟩, fun z2 => ⟨fun z3 => ⟨((hr.2 z).2 z2).1 z3, hI⟩, fun z3 => ⟨((hr.2 z).2 z2).2 z3, hI⟩⟩⟩⟩
  unfold wpX_free
  rcases zz_3 v1 with h1 | ⟨s, hs3, rfl⟩
  · have n0 : ¬ v1 = 0 := by rintro rfl; exact absurd h1 (by decide)
    have n1 : ¬ v1 = 1 := by rintro rfl; exact absurd h1 (by decide)
    have n2 : ¬ v1 = 2 := by rintro rfl; exact absurd h1 (by decide)
    have Y0 := Y (-1) (g, md, ll, un, dp, da, nw, hd, ct, bf, th, lg, ws, il, ke, fi, si, us, le, nx, ro, pa, sl) (i_mk h) ⟨fun z => absurd z n0, fun _ => ⟨fun z => absurd z n1, fun _ => ⟨fun z => absurd z n2, fun _ => rfl⟩⟩⟩
    refine br_c (fun _ => Y0) (fun z => br_f ?_ Y0)
    rcases h1 with w | w
    · exact absurd w z
    · intro y
      rw [Int32.le_iff_toInt_le] at w y
      have e2 : (2 : Int32).toInt = 2 := by decide
      have e3 : (3 : Int32).toInt = 3 := by decide
      omega
  · refine br_f (nI_pos (by omega)) (br_t (nI_le (b := 2) (by omega) (by omega)) ?_)
    have fin : ∀ dp' pa' sl', (nI s = 0 → wpY_free (fun r' => r' = nI (fo_s L1 0 0 0).1 ∧ i_Rel (k + 6) (g, md, ll, un, dp', da, nw, hd, ct, bf, th, lg, ws, il, ke, fi, si, us, le, nx, ro, pa', sl') (g, md, fy, py, my, bz, da, th)) (g, md, fy, py, my, bz, da, th) (nI s)) ∧ (¬ nI s = 0 → ((nI s = 1 → wpY_free (fun r' => r' = nI (fo_s L1 0 0 0).2.1 ∧ i_Rel (k + 6) (g, md, ll, un, dp', da, nw, hd, ct, bf, th, lg, ws, il, ke, fi, si, us, le, nx, ro, pa', sl') (g, md, fy, py, my, bz, da, th)) (g, md, fy, py, my, bz, da, th) (nI s)) ∧ (¬ nI s = 1 → wpY_free (fun r' => r' = nI (fo_s L1 0 0 0).2.2 ∧ i_Rel (k + 6) (g, md, ll, un, dp', da, nw, hd, ct, bf, th, lg, ws, il, ke, fi, si, us, le, nx, ro, pa', sl') (g, md, fy, py, my, bz, da, th)) (g, md, fy, py, my, bz, da, th) (nI s)))) := by
      intro dp' pa' sl'
      refine br_c (fun z => Y _ _ (i_mk h) ⟨fun _ => rfl, fun w => absurd z w⟩) (fun z => br_c (fun z1 => Y _ _ (i_mk h) ⟨fun w => absurd w z, fun _ => ⟨fun _ => rfl, fun w => absurd z1 w⟩⟩) (fun z1 => Y _ _ (i_mk h) ⟨fun w => absurd w z, fun _ => ⟨fun w => absurd w z1, fun _ => ⟨fun _ => rfl, fun w => ?_⟩⟩⟩))
      exfalso
      have hs' : s = 0 ∨ s = 1 ∨ s = 2 := by omega
      rcases hs' with rfl | rfl | rfl
      · exact z rfl
      · exact z1 rfl
      · exact w rfl
    refine ty_ceiling (t := 1) (k := 0) (by omega) hW hL1 (by omega) ?_ ?_
    · intro hall dp pa sl
      refine ⟨1, xq_l (L1 := L1) (L0 := L0) [] [] (-1) 0 0 0 (by omega) (Or.inl ⟨rfl, rfl⟩) ?_ 1 (by decide)⟩
      have : L1 = [] := by
        cases hL : L1 with
        | nil => rfl
        | cons e b => have := hall e (by rw [hL]; simp); omega
      have f2 := fin dp pa sl
      rw [this] at f2
      exact f2
    · intro cell a e b hA h1 h2 dp pa sl
      have hL := ts_At_L hA
      have ha : a = [] := by
        cases a with
        | nil => rfl
        | cons x y => have := h2 x (by simp); omega
      subst ha
      have hL' : L1 = e :: b := hL
      refine ⟨L1.length + 1, xq_l (L1 := L1) (L0 := L0) L1 [] (nI cell) 0 0 0 (by omega) (Or.inr ⟨cell, e, b, rfl, hL', hA⟩) (fin dp pa sl) _ (by omega)⟩
end
section
/-! gather -/
def ro_w (fr : Nat → Prop) (n p : Nat) : Prop := p + n ≤ 96 ∧ ∀ j, p ≤ j → j < p + n → fr j
def ro_R (fr : Nat → Prop) (n : Nat) (r : Int32) : Prop := (r = -1 ∧ ∀ p, ¬ ro_w fr n p) ∨ ∃ p, r = nI p ∧ ro_w fr n p ∧ ∀ p', p' < p → ¬ ro_w fr n p'
theorem ro_cg {fr fr' : Nat → Prop} {n : Nat} {r : Int32} (h : ro_R fr n r) (hq : ∀ q, q < 96 → (fr q ↔ fr' q)) : ro_R fr' n r := by
  have w : ∀ p, ro_w fr n p ↔ ro_w fr' n p := fun p => ⟨fun z => ⟨z.1, fun j h1 h2 => (hq j (by have := z.1; omega)).mp (z.2 j h1 h2)⟩, fun z => ⟨z.1, fun j h1 h2 => (hq j (by have := z.1; omega)).mpr (z.2 j h1 h2)⟩⟩
  rcases h with ⟨h1, h2⟩ | ⟨p, h1, h2, h3⟩
  · exact Or.inl ⟨h1, fun p z => h2 p ((w p).mpr z)⟩
  · exact Or.inr ⟨p, h1, (w p).mp h2, fun p' hp z => h3 p' hp ((w p').mpr z)⟩
theorem cb_up {P : Nat → Prop} {i : Nat} : ∀ {j : Nat}, i ≤ j → cb_n P i ≤ cb_n P j
  | 0, h => by have : i = 0 := by omega
               subst this; exact Nat.le_refl _
  | j + 1, h => by
    rcases Nat.lt_or_ge j i with z | z
    · have : i = j + 1 := by omega
      subst this; exact Nat.le_refl _
    · have := cb_up (P := P) (i := i) (j := j) z
      rw [cb_s]; omega
/-- a window lies in one row -/
theorem ro_in {L : List tr_C} {fr : Nat → Prop} {n p : Nat} (hF : fr_F L fr) (hn : 1 ≤ n) (hw : ro_w fr n p) : ∃ e ∈ L, e.1 ≤ p ∧ p + n ≤ e.1 + e.2.2 := by
  have hw1 := hw.1
  obtain ⟨e, he, h1, h2⟩ := hF.2 p (by omega) (hw.2 p (Nat.le_refl _) (by omega))
  refine ⟨e, he, h1, ?_⟩
  have fe := hF.1 e he
  rcases Nat.lt_or_ge (e.1 + e.2.2) (p + n) with z | z
  · exact absurd (hw.2 _ (by omega) z) (fe.2.2.2.2.1 (by omega))
  · exact z
def ga_c (fy : Nat → Int32) (f b : Nat) : Prop := ¬ fy (32 * f + b) < 0
noncomputable def ga_p (fy : Nat → Int32) (f p0 i : Nat) : Nat := p0 + cb_n (ga_c fy f) i
noncomputable def ga_F (fy : Nat → Int32) (f p0 : Nat) : Nat → Nat → Int32
  | 0 => fy
  | i + 1 => if fy (32 * f + i) < 0 then ga_F fy f p0 i else upd (ga_F fy f p0 i) (32 * f + i) (nI (ga_p fy f p0 i))
noncomputable def ga_D (fy da : Nat → Int32) (f p0 : Nat) : Nat → Nat → Int32
  | 0 => da
  | i + 1 => if fy (32 * f + i) < 0 then ga_D fy da f p0 i else upd (ga_D fy da f p0 i) (ga_p fy f p0 i) (ga_D fy da f p0 i (fy (32 * f + i)).toNatClampNeg)
theorem ga_hi {fy : Nat → Int32} {f p0 : Nat} : ∀ {i k : Nat}, 32 * f + i ≤ k → ga_F fy f p0 i k = fy k
  | 0, k, _ => rfl
  | i + 1, k, h => by
    show (if fy (32 * f + i) < 0 then ga_F fy f p0 i else upd (ga_F fy f p0 i) (32 * f + i) (nI (ga_p fy f p0 i))) k = _
    split
    · exact ga_hi (by omega)
    · rw [pk_un (by omega)]; exact ga_hi (by omega)
section
variable {g md ll un dp : Int32} {da nw hd ct bf th lg ws il ke fi si us le nx ro pa sl : Nat → Int32}
variable {gy cy : Int32} {fy py my bz dy ty : Nat → Int32}
variable {p k f n p0 : Nat} {fr : Nat → Prop} {L L0 L1 : List tr_C} {r : Int32}
theorem xg_row_l {post : Int32 → SX → Prop} (hn : n < 128) (K1 : ∀ a e b, L1 = a ++ e :: b → n ≤ e.2.2 → (∀ x ∈ a, x.2.2 < n) → e.1 < 32768 → post (nI e.1) (g, md, ll, un, dp, da, nw, hd, ct, bf, th, lg, ws, il, ke, fi, si, us, le, nx, ro, pa, sl)) (K0 : (∀ x ∈ L1, x.2.2 < n) → post (-1) (g, md, ll, un, dp, da, nw, hd, ct, bf, th, lg, ws, il, ke, fi, si, us, le, nx, ro, pa, sl)) :
    ∀ (rest a : List tr_C) (x2 : Int32), L1 = a ++ rest → (∀ x ∈ a, x.2.2 < n) → ((x2 = -1 ∧ rest = []) ∨ ∃ cell e b, x2 = nI cell ∧ rest = e :: b ∧ ts_At 1 un ke fi si us le nx ro L1 L0 cell a e b) → ∀ t, rest.length < t → wX_rowOf_7 post (nI n) g md ll un dp da nw hd ct bf th lg ws il ke fi si us le nx ro pa sl t x2 := by
  intro rest
  induction rest with
  | nil =>
    intro a x2 hL ha hx t ht
    obtain ⟨t, rfl⟩ : ∃ m, t = m + 1 := ⟨t - 1, by omega⟩
    rcases hx with ⟨rfl, _⟩ | ⟨cell, e, b, _, h, _⟩
    · refine br_t n_neg ?_
      unfold wX_rowOf_30
      refine br_f n_nle (K0 (fun x hx => ha x ?_))
      rw [hL, List.append_nil] at hx
      exact hx
    · exact absurd h (by simp)
  | cons e0 rest ih =>
    intro a x2 hL ha hx t ht
    obtain ⟨t, rfl⟩ : ∃ m, t = m + 1 := ⟨t - 1, by omega⟩
    rcases hx with ⟨_, h⟩ | ⟨cell, e, b, rfl, h, hA⟩
    · exact absurd h (by simp)
    · obtain ⟨rfl, rfl⟩ := List.cons.inj h
      have hc := ts_At_lt hA
      have ce := ts_At_ce hA
      have ic : vp_in (nI cell) 1170 := vp_in_nI hc (by omega)
      have s128 := ce.2.2.2.2.2
      have hlen : rest.length < t := by rw [List.length_cons] at ht; omega
      refine br_f (nI_pos (by omega)) ⟨ic, ?_⟩
      rw [n_cl (by omega : cell < 2 ^ 31), ce.2.2.1]
      refine pk_le n e0.2.2 (fun z => ?_) (fun z => ?_) rfl rfl (by omega) (by omega)
      · unfold wX_rowOf_30
        rw [n_cl (by omega : cell < 2 ^ 31), ce.1]
        exact br_t (nI_pos' (by omega)) ⟨ic, K1 a e0 rest hL z ha ce.2.2.2.1⟩
      · have ha' : ∀ x ∈ a ++ [e0], x.2.2 < n := by
          intro x hx
          rcases List.mem_append.mp hx with w | w
          · exact ha x w
          · rw [List.mem_singleton.mp w]; exact z
        refine ty_after hA ?_ ?_
        · intro hb
          exact ih (a ++ [e0]) (-1) (by rw [hL]; simp) ha' (Or.inl ⟨rfl, hb⟩) t hlen
        · intro e' b' cell' hb hA'
          exact ih (a ++ [e0]) (nI cell') (by rw [hL]; simp) ha' (Or.inr ⟨cell', e', b', rfl, hb, hA'⟩) t hlen
theorem xg_row {post : Int32 → SX → Prop} (h : fx_R un ke fi si us le nx ro L0 fr) (hn1 : 1 ≤ n) (hn : n < 128) (K : ∀ r, ro_R fr n r → ∀ dp' pa' sl', post r (g, md, ll, un, dp', da, nw, hd, ct, bf, th, lg, ws, il, ke, fi, si, us, le, nx, ro, pa', sl')) : wpX_rowOf post (g, md, ll, un, dp, da, nw, hd, ct, bf, th, lg, ws, il, ke, fi, si, us, le, nx, ro, pa, sl) (nI n) := by
  obtain ⟨L1, hW, hF⟩ := h
  have hs := ts_W_srt hW
  have hlen := fr_len hs hF
  have k1 : ∀ dp pa sl, ∀ a e b, L1 = a ++ e :: b → n ≤ e.2.2 → (∀ x ∈ a, x.2.2 < n) → e.1 < 32768 → post (nI e.1) (g, md, ll, un, dp, da, nw, hd, ct, bf, th, lg, ws, il, ke, fi, si, us, le, nx, ro, pa, sl) := by
    intro dp pa sl a e b hL h1 h2 _
    have hem : e ∈ L1 := by rw [hL]; simp
    have fe := hF.1 e hem
    refine K _ (Or.inr ⟨e.1, rfl, ⟨by have := fe.2.2.1; omega, fun j q1 q2 => fe.2.2.2.1 j q1 (by omega)⟩, fun p' hp hw => ?_⟩) _ _ _
    obtain ⟨e', he', q1, q2⟩ := ro_in hF hn1 hw
    rw [hL] at he'
    rcases List.mem_append.mp he' with w | w
    · have := h2 e' w; omega
    · rcases List.mem_cons.mp w with w | w
      · rw [w] at q1; omega
      · rw [hL, List.map_append, List.pairwise_append, List.map_cons, List.pairwise_cons] at hs
        have := hs.2.1.1 _ (List.mem_map_of_mem (f := Prod.fst) w)
        omega
  have k0 : ∀ dp pa sl, (∀ x ∈ L1, x.2.2 < n) → post (-1) (g, md, ll, un, dp, da, nw, hd, ct, bf, th, lg, ws, il, ke, fi, si, us, le, nx, ro, pa, sl) := by
    intro dp pa sl hall
    refine K _ (Or.inl ⟨rfl, fun p hw => ?_⟩) _ _ _
    obtain ⟨e', he', q1, q2⟩ := ro_in hF hn1 hw
    have := hall e' he'
    omega
  unfold wpX_rowOf
  refine ty_ceiling (t := 1) (k := 0) (by omega) hW (by omega) (by omega) ?_ ?_
  · intro hall dp pa sl
    have : L1 = [] := by
      cases hL : L1 with
      | nil => rfl
      | cons e b => have := hall e (by rw [hL]; simp); omega
    exact ⟨1, xg_row_l (L1 := L1) (L0 := L0) hn (k1 dp pa sl) (k0 dp pa sl) [] [] (-1) (by rw [this]; rfl) (fun x hx => absurd hx List.not_mem_nil) (Or.inl ⟨rfl, rfl⟩) 1 (by decide)⟩
  · intro cell a e b hA h1 h2 dp pa sl
    have hL := ts_At_L hA
    have ha : a = [] := by
      cases a with
      | nil => rfl
      | cons x y => have := h2 x (by simp); omega
    subst ha
    exact ⟨L1.length + 1, xg_row_l (L1 := L1) (L0 := L0) hn (k1 dp pa sl) (k0 dp pa sl) L1 [] (nI cell) rfl (fun x hx => absurd hx List.not_mem_nil) (Or.inr ⟨cell, e, b, rfl, hL, hA⟩) _ (by omega)⟩
theorem xg_23 {post : Int32 → SX → Prop} (h : mx_M un ke fi si us le nx ro ct (my_mp fy py th) fr) (hf : f < 6)
    (K : ∀ dp' pa' sl', wpX_rowOf (fun r u => match u with | (g, md, ll, un, dp, da, nw, hd, ct, bf, th, lg, ws, il, ke, fi, si, us, le, nx, ro, pa, sl) => ((0 ≤ r → (∃ n62 : Nat, wX_gather_62 post (nI f) n62 r 0 g md ll un dp da nw hd ct bf th lg ws il ke fi si us le nx ro pa sl)) ∧ (¬ 0 ≤ r → (post 0 (g, md, ll, un, dp, da, nw, hd, ct, bf, th, lg, ws, il, ke, fi, si, us, le, nx, ro, pa, sl))))) (g, md, ll, un, dp', da, nw, hd, ct, bf, th, lg, ws, il, ke, fi, si, us, le, nx, ro, pa', sl') (nI (cb_n (ga_c fy f) 32))) :
    ∀ j i (dp : Int32) (pa sl : Nat → Int32), i + j = 32 → ∀ t, j < t → wX_gather_23 post (nI f) t (nI (cb_n (ga_c fy f) i)) (nI i) g md ll un dp da nw hd ct bf th lg ws il ke fi si us le nx ro pa sl := by
  intro j
  induction j with
  | zero =>
    intro i dp pa sl hi t ht
    obtain ⟨t, rfl⟩ : ∃ m, t = m + 1 := ⟨t - 1, by omega⟩
    have : i = 32 := by omega
    subst this
    exact br_t (nI_le (a := 32) (b := 32) (by omega) (by omega)) (K _ _ _)
  | succ j ih =>
    intro i dp pa sl hi t ht
    obtain ⟨t, rfl⟩ : ∃ m, t = m + 1 := ⟨t - 1, by omega⟩
    refine br_f (nI_ge (a := i) (b := 32) (by omega) (by omega)) ?_
    refine mx_mapped h (by omega) (by omega) ?_
    intro dp pa sl
    rw [my_mp_f (by omega)]
    have nx := ih (i + 1) dp pa sl (by omega) t (by omega)
    rw [cb_s] at nx
    refine br_c (fun z => ?_) (fun z => ?_)
    · intro y ey
      rw [ey, nI_1]
      rw [cb_f (P := ga_c fy f i) (fun w => w z)] at nx
      exact nx
    · intro y ey w ew
      rw [ey, ew, nI_1, nI_1]
      rw [cb_t (P := ga_c fy f i) z] at nx
      exact nx
theorem xg_62 {post : Int32 → SX → Prop} (hf : f < 6) (hp0 : p0 + cb_n (ga_c fy f) 32 ≤ 96)
    (K : ∀ ll' un' dp' nw' hd' ct' lg' ws' il' ke' fi' si' us' le' nx' ro' pa' sl', xi_S ll' un' nw' hd' ct' lg' ws' il' ke' fi' si' us' le' nx' ro' (my_mp (ga_F fy f p0 32) py th) my → wpX_changed (fun u => match u with | (g, md, ll, un, dp, da, nw, hd, ct, bf, th, lg, ws, il, ke, fi, si, us, le, nx, ro, pa, sl) => post 1 (g, md, ll, un, dp, da, nw, hd, ct, bf, th, lg, ws, il, ke, fi, si, us, le, nx, ro, pa, sl)) (g, md, ll', un', dp', ga_D fy da f p0 32, nw', hd', ct', bf, th, lg', ws', il', ke', fi', si', us', le', nx', ro', pa', sl')) :
    ∀ j i ll un dp nw hd ct lg ws il ke fi si us le nx ro pa sl, i + j = 32 → xi_S ll un nw hd ct lg ws il ke fi si us le nx ro (my_mp (ga_F fy f p0 i) py th) my → ∀ t, j < t → wX_gather_62 post (nI f) t (nI (ga_p fy f p0 i)) (nI i) g md ll un dp (ga_D fy da f p0 i) nw hd ct bf th lg ws il ke fi si us le nx ro pa sl := by
  intro j
  induction j with
  | zero =>
    intro i ll un dp nw hd ct lg ws il ke fi si us le nx ro pa sl hi h t ht
    obtain ⟨t, rfl⟩ : ∃ m, t = m + 1 := ⟨t - 1, by omega⟩
    have : i = 32 := by omega
    subst this
    exact br_t (nI_le (a := 32) (b := 32) (by omega) (by omega)) (K _ _ _ _ _ _ _ _ _ _ _ _ _ _ _ _ _ _ h)
  | succ j ih =>
    intro i ll un dp nw hd ct lg ws il ke fi si us le nx ro pa sl hi h t ht
    obtain ⟨t, rfl⟩ : ∃ m, t = m + 1 := ⟨t - 1, by omega⟩
    refine br_f (nI_ge (a := i) (b := 32) (by omega) (by omega)) ?_
    refine mx_mapped h.1 (by omega) (by omega) ?_
    intro dp pa sl
    have wf := mx_wf h.1 (k := 32 * f + i) (by omega)
    rw [my_mp_f (by omega), ga_hi (Nat.le_refl _)] at wf ⊢
    have eF : ga_F fy f p0 (i + 1) = if fy (32 * f + i) < 0 then ga_F fy f p0 i else upd (ga_F fy f p0 i) (32 * f + i) (nI (ga_p fy f p0 i)) := rfl
    have eD : ga_D fy da f p0 (i + 1) = if fy (32 * f + i) < 0 then ga_D fy da f p0 i else upd (ga_D fy da f p0 i) (ga_p fy f p0 i) (ga_D fy da f p0 i (fy (32 * f + i)).toNatClampNeg) := rfl
    have ep : ga_p fy f p0 (i + 1) = p0 + (cb_n (ga_c fy f) i + cb_b (ga_c fy f i)) := rfl
    rcases wf with q | ⟨o, ho, q⟩
    · refine br_f (by rw [q]; exact n_nle) ?_
      intro y ey
      rw [ey, nI_1]
      have hz : fy (32 * f + i) < 0 := by rw [q]; exact n_neg
      have nx := ih (i + 1) ll un dp nw hd ct lg ws il ke fi si us le nx ro pa sl (by omega) (by rw [eF, if_pos hz]; exact h) t (by omega)
      rw [eD, if_pos hz, ep, cb_f (P := ga_c fy f i) (fun w => w hz), Nat.add_zero (cb_n (ga_c fy f) i)] at nx
      exact nx
    · have hz : ¬ fy (32 * f + i) < 0 := by rw [q]; exact nI_pos (by omega)
      have up := cb_up (P := ga_c fy f) (i := i + 1) (j := 32) (by omega)
      rw [cb_s, cb_t (P := ga_c fy f i) hz] at up
      have hp : ga_p fy f p0 i < 96 := by unfold ga_p; omega
      have hv : vp_in (fy (32 * f + i)) 96 := by rw [q]; exact vp_in_nI ho (by omega)
      refine br_t (by rw [q]; exact nI_pos' (by omega)) ⟨hv, vp_in_nI hp (by omega), ?_⟩
      rw [n_cl (by omega : ga_p fy f p0 i < 2 ^ 31), nI_1 (ga_p fy f p0 i)]
      refine nm_e (nm_e ?_)
      refine xx_change h hf (by omega) (Or.inr ⟨_, hp, rfl⟩) ?_
      intro ll un dp nw hd ct lg ws il ke fi si us le nx ro pa sl h2 _
      rw [my_mp_u (by omega)] at h2
      intro y ey
      rw [ey, nI_1]
      have nx := ih (i + 1) ll un dp nw hd ct lg ws il ke fi si us le nx ro pa sl (by omega) (by rw [eF, if_neg hz]; exact h2) t (by omega)
      rw [eD, if_neg hz, ep, cb_t (P := ga_c fy f i) hz] at nx
      exact nx
theorem yg_117 {post : Int32 → SY → Prop} (hf : f < 6) (hwf : ∀ k, k < 192 → fy k = -1 ∨ ∃ p, p < 96 ∧ fy k = nI p) (hp0 : p0 + cb_n (ga_c fy f) 32 ≤ 96)
    (K : wpY_changed (fun u => match u with | (gy, cy, fy, py, my, bz, dy, ty) => post 1 (gy, cy, fy, py, my, bz, dy, ty)) (gy, cy, ga_F fy f p0 32, py, my, bz, ga_D fy dy f p0 32, ty)) :
    ∀ j i, i + j = 32 → ∀ t, j < t → wY_gather_117 post (nI f) gy cy t (nI (ga_p fy f p0 i)) (nI i) (ga_F fy f p0 i) py my bz (ga_D fy dy f p0 i) ty := by
  intro j
  induction j with
  | zero =>
    intro i hi t ht
    obtain ⟨t, rfl⟩ : ∃ m, t = m + 1 := ⟨t - 1, by omega⟩
    have : i = 32 := by omega
    subst this
    exact br_t (nI_le (a := 32) (b := 32) (by omega) (by omega)) K
  | succ j ih =>
    intro i hi t ht
    obtain ⟨t, rfl⟩ : ∃ m, t = m + 1 := ⟨t - 1, by omega⟩
    have iv : vp_in (nI (32 * f + i)) 192 := vp_in_nI (by omega) (by omega)
    refine br_f (nI_ge (a := i) (b := 32) (by omega) (by omega)) ?_
    rw [n32, nI_add, n_cl (by omega : 32 * f + i < 2 ^ 31), ga_hi (Nat.le_refl _)]
    have eF : ga_F fy f p0 (i + 1) = if fy (32 * f + i) < 0 then ga_F fy f p0 i else upd (ga_F fy f p0 i) (32 * f + i) (nI (ga_p fy f p0 i)) := rfl
    have eD : ga_D fy dy f p0 (i + 1) = if fy (32 * f + i) < 0 then ga_D fy dy f p0 i else upd (ga_D fy dy f p0 i) (ga_p fy f p0 i) (ga_D fy dy f p0 i (fy (32 * f + i)).toNatClampNeg) := rfl
    have ep : ga_p fy f p0 (i + 1) = p0 + (cb_n (ga_c fy f) i + cb_b (ga_c fy f i)) := rfl
    have nx := ih (i + 1) (by omega) t (by omega)
    rw [eF, eD, ep] at nx
    refine ⟨iv, nm_e ?_⟩
    rcases hwf (32 * f + i) (by omega) with q | ⟨o, ho, q⟩
    · have hz : fy (32 * f + i) < 0 := by rw [q]; exact n_neg
      refine br_t hz ?_
      intro y ey
      rw [ey, nI_1]
      rw [if_pos hz, if_pos hz, cb_f (P := ga_c fy f i) (fun w => w hz), Nat.add_zero (cb_n (ga_c fy f) i)] at nx
      exact nx
    · have hz : ¬ fy (32 * f + i) < 0 := by rw [q]; exact nI_pos (by omega)
      have up := cb_up (P := ga_c fy f) (i := i + 1) (j := 32) (by omega)
      rw [cb_s, cb_t (P := ga_c fy f i) hz] at up
      have hp : ga_p fy f p0 i < 96 := by unfold ga_p; omega
      have hv : vp_in (fy (32 * f + i)) 96 := by rw [q]; exact vp_in_nI ho (by omega)
      rw [if_neg hz, if_neg hz, cb_t (P := ga_c fy f i) hz] at nx
      refine br_f hz ⟨hv, vp_in_nI hp (by omega), ?_⟩
      rw [n_cl (by omega : ga_p fy f p0 i < 2 ^ 31), nI_1, nI_1]
      exact nm_e ⟨iv, nm_e (nm_e (nm_e nx))⟩
theorem yg_66 {post : Int32 → SY → Prop} (hn1 : 1 ≤ n) (hn : n < 128) (hr : ro_R (my_fr fy py my ty) n r)
    (K0 : r = -1 → post 0 (gy, cy, fy, py, my, bz, dy, ty)) (K1 : ∀ p, r = nI p → p + n ≤ 96 → ∃ n117, wY_gather_117 post (nI f) gy cy n117 (nI p) 0 fy py my bz dy ty) :
    ∀ j to run, to + j = 96 → run < n → run ≤ to → (∀ t, to - run ≤ t → t < to → my_fr fy py my ty t) → (run < to → ¬ my_fr fy py my ty (to - run - 1)) → (∀ p', p' + n ≤ to → ¬ ro_w (my_fr fy py my ty) n p') →
      ∀ t, j < t → wY_gather_66 post (nI f) (nI n) gy cy fy py my bz dy ty t (nI to) (nI run) := by
  intro j
  induction j with
  | zero =>
    intro to run hj h1 h2 h3 h4 h5 t ht
    obtain ⟨t, rfl⟩ : ∃ m, t = m + 1 := ⟨t - 1, by omega⟩
    have : to = 96 := by omega
    subst this
    refine br_t (nI_le (a := 96) (b := 96) (by omega) (by omega)) ?_
    unfold wY_gather_102
    refine br_f (nI_ge h1 (by omega)) (K0 ?_)
    rcases hr with ⟨w, _⟩ | ⟨p, w, w2, _⟩
    · exact w
    · exact absurd w2 (h5 p w2.1)
  | succ j ih =>
    intro to run hj h1 h2 h3 h4 h5 t ht
    obtain ⟨t, rfl⟩ : ∃ m, t = m + 1 := ⟨t - 1, by omega⟩
    refine br_f (nI_ge (a := to) (b := 96) (by omega) (by omega)) (br_f (nI_ge h1 (by omega)) ?_)
    refine yr_isFree (by omega) (fun w => br_f n_one ?_) (fun w => br_t rfl ?_)
    · intro y ey z ez
      rw [ey, ez, nI_1, nI_1]
      have f3 : ∀ t, to + 1 - (run + 1) ≤ t → t < to + 1 → my_fr fy py my ty t := by
        intro t q1 q2
        rcases Nat.lt_or_ge t to with v | v
        · exact h3 t (by omega) v
        · have : t = to := by omega
          rw [this]; exact w
      rcases Nat.lt_or_ge (run + 1) n with v | v
      · refine ih (to + 1) (run + 1) (by omega) v (by omega) f3 (fun q => ?_) (fun p' hp hw => ?_) t (by omega)
        · rw [show to + 1 - (run + 1) - 1 = to - run - 1 by omega]
          exact h4 (by omega)
        · rcases Nat.lt_or_ge to (p' + n) with x | x
          · have hw1 := hw.1
            exact h4 (by omega) (hw.2 _ (by omega) (by omega))
          · exact h5 p' x hw
      · have hrn : run + 1 = n := by omega
        have win : ro_w (my_fr fy py my ty) n (to + 1 - n) := ⟨by omega, fun t q1 q2 => f3 t (by omega) (by omega)⟩
        have rp : r = nI (to + 1 - n) := by
          rcases hr with ⟨_, x⟩ | ⟨p, x, x2, x3⟩
          · exact absurd win (x _)
          · have x21 := x2.1
            rcases Nat.lt_trichotomy p (to + 1 - n) with y2 | y2 | y2
            · exact absurd x2 (h5 p (by omega))
            · rw [x, y2]
            · exact absurd win (x3 _ y2)
        obtain ⟨m117, k117⟩ := K1 (to + 1 - n) rp (by omega)
        have fin : wY_gather_102 post (nI f) (nI n) (nI (to + 1)) (nI (run + 1)) gy cy fy py my bz dy ty := by
          unfold wY_gather_102
          refine br_t (nI_le v (by omega)) ?_
          rw [pk_sub (by omega)]
          exact nm_e ⟨m117, k117⟩
        obtain ⟨t, rfl⟩ : ∃ m, t = m + 1 := ⟨t - 1, by omega⟩
        refine pk_le 96 (to + 1) (fun _ => fin) (fun _ => ?_) rfl rfl (by omega) (by omega)
        exact br_t (nI_le v (by omega)) fin
    · intro y ey
      rw [ey, nI_1]
      refine ih (to + 1) 0 (by omega) (by omega) (by omega) (fun t q1 q2 => by omega) (fun _ => ?_) (fun p' hp hw => ?_) t (by omega)
      · rw [show to + 1 - 0 - 1 = to by omega]; exact w
      · rcases Nat.lt_or_ge to (p' + n) with x | x
        · exact w (hw.2 to (by omega) (by omega))
        · exact h5 p' x hw
theorem yg_17 {post : Int32 → SY → Prop} (hf : f < 6)
    (K : ((nI (cb_n (ga_c fy f) 32) = 0 → (post 0 (gy, cy, fy, py, my, bz, dy, ty))) ∧ (¬ nI (cb_n (ga_c fy f) 32) = 0 → (wpY_runs (fun r_13 => (((r_13 = 1 → (post 0 (gy, cy, fy, py, my, bz, dy, ty))) ∧ (¬ r_13 = 1 → (∃ n66 : Nat, wY_gather_66 post (nI f) (nI (cb_n (ga_c fy f) 32)) gy cy fy py my bz dy ty n66 0 0))))) (gy, cy, fy, py, my, bz, dy, ty) (nI f))))) :
    ∀ j i, i + j = 32 → ∀ t, j < t → wY_gather_17 post (nI f) 0 gy cy fy py my bz dy ty t (nI (cb_n (ga_c fy f) i)) (nI i) := by
  intro j
  induction j with
  | zero =>
    intro i hi t ht
    obtain ⟨t, rfl⟩ : ∃ m, t = m + 1 := ⟨t - 1, by omega⟩
    have : i = 32 := by omega
    subst this
    exact br_t (nI_le (a := 32) (b := 32) (by omega) (by omega)) K
  | succ j ih =>
    intro i hi t ht
    obtain ⟨t, rfl⟩ : ∃ m, t = m + 1 := ⟨t - 1, by omega⟩
    have nx := ih (i + 1) (by omega) t (by omega)
    rw [cb_s] at nx
    refine br_f (nI_ge (a := i) (b := 32) (by omega) (by omega)) ?_
    rw [n32, nI_add, n_cl (by omega : 32 * f + i < 2 ^ 31)]
    refine ⟨vp_in_nI (by omega) (by omega), br_c (fun z => ?_) (fun z => ?_)⟩
    · intro y ey
      rw [ey, nI_1]
      rw [cb_f (P := ga_c fy f i) (fun w => w z)] at nx
      exact nx
    · intro y ey w ew
      rw [ey, ew, nI_1, nI_1]
      rw [cb_t (P := ga_c fy f i) z] at nx
      exact nx
/-- a file with a block has a run -/
theorem ru_pos (hwf : ∀ b, b < 32 → fy (32 * f + b) = -1 ∨ ∃ p, p < 96 ∧ fy (32 * f + b) = nI p) (h : cb_n (ru_s fy f) 32 = 0) : cb_n (ga_c fy f) 32 = 0 := by
  have hno := cb_0.mp h
  refine cb_0.mpr ?_
  intro b
  induction b with
  | zero => intro hb z; exact hno 0 hb ⟨z, Or.inl rfl⟩
  | succ b ih =>
    intro hb z
    have i1 := ih (by omega)
    refine hno (b + 1) hb ⟨z, Or.inr (Or.inl ?_)⟩
    rw [show 32 * f + (b + 1) - 1 = 32 * f + b by omega]
    rcases hwf b (by omega) with q | ⟨p, hp, q⟩
    · rw [q]; exact n_neg
    · exact absurd (show ga_c fy f b by unfold ga_c; rw [q]; exact nI_pos (by omega)) i1
theorem ru_le : cb_n (ru_s fy f) 32 ≤ cb_n (ga_c fy f) 32 := cb_mono (fun b _ h => h.1)
end
theorem i_vc_gather {k : Nat} {u : SX} {v : SY} (I : i_Rel k u v) (hk : k + 6 ≤ 3073) (v1 : Int32) : wpX_gather (fun r u' => wpY_gather (fun r' v' => r' = r ∧ i_Rel (k + 6) u' v') v v1) u v1 := by
  refine zz_el (P := fun u v => wpX_gather (fun r u' => wpY_gather (fun r' v' => r' = r ∧ i_Rel (k + 6) u' v') v v1) u v1) I ?_
  intro g md ll un dp da nw hd ct bf th lg ws il ke fi si us le nx ro pa sl fy py my bz h
  unfold wpX_gather
  rcases zz_six v1 with h1 | ⟨f, hf, rfl⟩
  · exact xf_file0 h1 (br_t rfl (by unfold wpY_gather; exact yf_file0 h1 (br_t rfl ⟨rfl, i_mk h⟩)))
  · have hwf : ∀ k, k < 192 → fy k = -1 ∨ ∃ p, p < 96 ∧ fy k = nI p := fun k hk => by
      have := mx_wf h.1 (k := k) (by omega)
      rw [my_mp_f hk] at this
      exact this
    have hle1 := cb_leN (ru_s fy f) 32
    have hle2 := cb_leN (ga_c fy f) 32
    have hle3 := ru_le (fy := fy) (f := f)
    refine xf_file1 hf (br_f n_one ⟨vp_in_nI (by omega) (by omega), ?_⟩)
    rw [n_cl (by omega : f < 2 ^ 31), mx_cnt h.1 hf]
    refine pk_le 2 (cb_n (ru_s fy f) 32) (fun z => ⟨33, ?_⟩) (fun z => ?_) rfl rfl (by omega) (by omega)
    · -- the reference's way up to the search
      have Y : ∀ r0 u' r, ro_R (my_fr fy py my th) (cb_n (ga_c fy f) 32) r → (r = -1 → (0 = r0 ∧ i_Rel (k + 6) u' (g, md, fy, py, my, bz, da, th))) →
          (∀ p, r = nI p → p + cb_n (ga_c fy f) 32 ≤ 96 → ∃ n117, wY_gather_117 (fun r' v' => r' = r0 ∧ i_Rel (k + 6) u' v') (nI f) g md n117 (nI p) 0 fy py my bz da th) →
          wpY_gather (fun r' v' => r' = r0 ∧ i_Rel (k + 6) u' v') (g, md, fy, py, my, bz, da, th) (nI f) := by
        intro r0 u' r hr k0 k1
        unfold wpY_gather
        refine yf_file1 hf (br_f n_one ⟨33, ?_⟩)
        refine yg_17 hf ?_ 32 0 (by omega) 33 (by omega)
        refine br_f (nI_ne0 (by omega) (by omega)) (yu_runs hf ?_)
        refine pk_eq (cb_n (ru_s fy f) 32) 1 (fun w => by omega) (fun _ => ⟨97, ?_⟩) rfl rfl (by omega) (by omega)
        exact yg_66 (by omega) (by omega) hr k0 k1 96 0 0 (by omega) (by omega) (by omega) (fun t q1 q2 => by omega) (fun q => by omega) (fun p' hp => by omega) 97 (by omega)
      refine xg_23 h.1 hf ?_ 32 0 dp pa sl (by omega) 33 (by omega)
      intro dp pa sl
      obtain ⟨L0, hR, _, _, _⟩ := mx_fx (ct' := ct) h.1
      refine xg_row hR (by omega) (by omega) ?_
      intro r hr dp pa sl
      have hr2 := ro_cg hr (fun q hq => zz_fre h hq)
      rcases hr with ⟨rfl, _⟩ | ⟨p0, rfl, hw, _⟩
      · exact br_f n_nle (Y 0 _ _ hr2 (fun _ => ⟨rfl, i_mk h⟩) (fun p hp hpn => absurd hp.symm (n_ne1 (by omega))))
      · have hw1 := hw.1
        refine br_t (nI_pos' (by omega)) ⟨33, ?_⟩
        refine xg_62 (fy := fy) (py := py) (my := my) (da := da) (p0 := p0) hf hw1 ?_ 32 0 ll un dp nw hd ct lg ws il ke fi si us le nx ro pa sl (by omega) h 33 (by omega)
        intro ll un dp nw hd ct lg ws il ke fi si us le nx ro pa sl h2
        refine zz_chX (k := k + 6) h2 (fun u' c1 c2 => ?_)
        refine Y 1 u' _ hr2 (fun w => absurd w (n_ne1 (by omega))) (fun p hp hpn => ?_)
        have : p0 = p := n_inj (by omega) (by omega) hp
        subst this
        exact ⟨33, yg_117 hf hwf hw1 (yr_changed (fun z my' hm => ⟨rfl, c1 z my' hm _⟩) (fun z => ⟨rfl, c2 z _⟩)) 32 0 (by omega) 33 (by omega)⟩
    · show wpY_gather (fun r' v' => r' = 0 ∧ i_Rel (k + 6) _ v') (g, md, fy, py, my, bz, da, th) (nI f)
      unfold wpY_gather
      refine yf_file1 hf (br_f n_one ⟨33, ?_⟩)
      refine yg_17 hf ?_ 32 0 (by omega) 33 (by omega)
      refine pk_eq (cb_n (ga_c fy f) 32) 0 (fun _ => ⟨rfl, i_mk h⟩) (fun w => ?_) rfl rfl (by omega) (by omega)
      refine yu_runs hf ?_
      refine pk_eq (cb_n (ru_s fy f) 32) 1 (fun _ => ⟨rfl, i_mk h⟩) (fun w2 => ?_) rfl rfl (by omega) (by omega)
      exact absurd (ru_pos (fun b hb => hwf _ (by omega)) (by omega)) w
end
section
/-! the constructors -/
theorem in_fl {nx : Nat → Int32} : ∀ {m s : Nat}, (∀ k, s ≤ k → k < s + m → nx k = nI (k + 1)) → tr_fl nx (nI s) (List.range' s m)
  | 0, _, _ => trivial
  | m + 1, s, h => by
    rw [List.range'_succ]
    refine ⟨rfl, ?_⟩
    rw [h s (Nat.le_refl _) (by omega)]
    exact in_fl (m := m) (s := s + 1) (fun k h1 h2 => h k (by omega) (by omega))
theorem in_z {n : Nat} : vp_nar .short (0 : Int32) = 0 := ar_s16 (n := 0) (by omega)
theorem in_zb {n : Nat} : vp_nar .byte (0 : Int32) = 0 := ar_s8 (n := 0) (by omega)
section
variable {nx : Nat → Int32}
theorem in_W (hn : ∀ k, k < 130 → nx k = nI (k + 1)) (hS : ar_SH nx) :
    ts_W 1 (nI 2) (fun _ => 0) (fun _ => 0) (fun _ => 0) (upd (upd (fun _ => 0) 0 0) 1 0) (upd (upd (fun _ => 0) 0 1) 1 1) (upd (upd nx 0 (-1)) 1 (-1)) (upd (upd (fun _ => 0) 0 (nI 0)) 1 (nI 1)) [] [] := by
  have l0 : upd (upd (fun _ => (0 : Int32)) 0 1) 1 1 0 = 1 := by rw [pk_un (by decide), pk_us]
  have l1 : upd (upd (fun _ => (0 : Int32)) 0 1) 1 1 1 = 1 := pk_us
  have x0 : upd (upd nx 0 (-1)) 1 (-1) 0 = -1 := by rw [pk_un (by decide), pk_us]
  have x1 : upd (upd nx 0 (-1)) 1 (-1) 1 = -1 := pk_us
  have T : ∀ r, upd (upd (fun _ => (0 : Int32)) 0 1) 1 1 r = 1 → upd (upd nx 0 (-1)) 1 (-1) r = -1 → tr_T (fun _ => []) (upd (upd (fun _ => 0) 0 1) 1 1) (upd (upd nx 0 (-1)) 1 (-1)) r 0 [] (tr_ok 0) := by
    intro r hl hx
    refine ⟨fun d hd y hy => ?_, ?_, ?_, hx, trivial⟩
    · have : d = 0 := by omega
      subst this
      have hy' : y = (0, r) := by simpa [tr_lv] using hy
      subst hy'
      exact ⟨fun z => by omega, fun _ => hl, by show 0 ≤ 8; omega, fun _ z => by omega, fun z => by omega⟩
    · show [] = tr_is _ _ [(0, r)]
      rw [tr_is_cons, tr_is_nil, tr_it_lf hl]
      rfl
    · show (tr_mk _ [(0, r)]).Pairwise (· < ·)
      rw [tr_mk_cons, tr_mk_nil]
      simp
  refine ⟨fun _ => [], 1, 0, 0, 0, List.range' 2 128, ⟨⟨?_, ?_, ?_, ?_⟩, T 1 l1 x1, ?_, ?_, ?_, ar_s16 (by omega)⟩, T 0 l0 x0, pk_us, ?_⟩
  · intro i; exact in_z (n := 0)
  · intro i; exact in_z (n := 0)
  · intro i; exact in_zb (n := 0)
  · intro n _
    refine ⟨?_, by show 0 ≤ 9; omega, fun c e h => by simp at h⟩
    unfold upd
    split
    · rfl
    · split <;> rfl
  · intro n
    show [1].count n + (List.range' 2 128).count n + [0].count n = _
    rw [List.count_range_1', List.count_cons, List.count_cons, List.count_nil]
    simp only [beq_iff_eq]
    by_cases z0 : 0 = n
    · subst z0; simp
    · by_cases z1 : 1 = n
      · subst z1; simp
      · rw [if_neg z0, if_neg z1]
        by_cases z : n < 130
        · rw [if_pos (by omega), if_pos z]
        · rw [if_neg (by omega), if_neg z]
  · refine in_fl (fun k h1 h2 => ?_)
    rw [pk_un (by omega), pk_un (by omega)]
    exact hn k (by omega)
  · exact ar_SH_u (ar_SH_u hS ar_m16) ar_m16
  · show upd (upd (fun _ => (0 : Int32)) 0 (nI 0)) 1 (nI 1) 0 = nI 0
    rw [pk_un (by decide), pk_us]
end
def in_ok (un : Int32) (ke fi si us le nx ro : Nat → Int32) : Prop := ts_W 1 un ke fi si us le nx ro [(0, 0, 96)] []
section
variable {g : Int32}
theorem in_l {post : SX → Prop} (K : ∀ un' dp' ke' fi' si' us' le' nx' ro' pa' sl', in_ok un' ke' fi' si' us' le' nx' ro' → post (g, 0, 0, un', dp', (fun _ => 0), (fun _ => 0), (fun _ => 0), (fun _ => 0), (fun _ => 0), (fun _ => 0), (fun _ => 0), (fun _ => 0), (fun _ => 0), ke', fi', si', us', le', nx', ro', pa', sl')) :
    ∀ j i (nx : Nat → Int32), i + j = 130 → (∀ k, k < i → nx k = nI (k + 1)) → ar_SH nx → ∀ t, j < t →
      wX_init_182 post g 0 0 0 0 t (nI i) (fun _ => 0) (fun _ => 0) (fun _ => 0) (fun _ => 0) (fun _ => 0) (fun _ => 0) (fun _ => 0) (fun _ => 0) (fun _ => 0) (fun _ => 0) (fun _ => 0) (fun _ => 0) (fun _ => 0) (fun _ => 0) nx (fun _ => 0) (fun _ => 0) (fun _ => 0) := by
  intro j
  induction j with
  | zero =>
    intro i nx hi hn hS t ht
    obtain ⟨t, rfl⟩ : ∃ m, t = m + 1 := ⟨t - 1, by omega⟩
    have : i = 130 := by omega
    subst this
    refine br_t (nI_le (a := 130) (b := 130) (by omega) (by omega)) ?_
    refine xa_newNode (n := 0) (by omega) (Or.inr rfl) ?_
    rw [hn 0 (by omega)]
    have c0 : vp_nar .short ((nI 0).toInt16.toInt32) = nI 0 := by rw [ar_c16 (by omega), ar_s16 (by omega)]
    have c1 : vp_nar .short ((nI 1).toInt16.toInt32) = nI 1 := by rw [ar_c16 (by omega), ar_s16 (by omega)]
    rw [c0]
    refine nm_e ?_
    refine xa_newNode (n := 1) (by omega) (Or.inr rfl) ?_
    have h1 : upd nx 0 (-1) 1 = nI 2 := by rw [pk_un (by decide)]; exact hn 1 (by omega)
    rw [h1, c1]
    refine nm_e ?_
    have W := in_W hn hS
    refine ty_insert (t := 1) (k := 0) (p := 0) (s := 96) (by omega) W (by simp) (by omega) (by omega) (by omega) (fun e he => absurd he List.not_mem_nil) ?_
    intro a b hab _ _ un' dp' ke' fi' si' us' le' nx' ro' pa' sl' hW
    obtain ⟨rfl, rfl⟩ := List.append_eq_nil_iff.mp hab.symm
    exact K _ _ _ _ _ _ _ _ _ _ _ hW
  | succ j ih =>
    intro i nx hi hn hS t ht
    obtain ⟨t, rfl⟩ : ∃ m, t = m + 1 := ⟨t - 1, by omega⟩
    refine br_f (nI_ge (a := i) (b := 130) (by omega) (by omega)) ⟨vp_in_nI (by omega) (by omega), ?_⟩
    rw [n_cl (by omega : i < 2 ^ 31), nI_1, ar_c16 (by omega), ar_s16 (by omega)]
    refine nm_e (nm_e (ih (i + 1) _ (by omega) (fun k hk => ?_) (ar_SH_u hS (ar_s16 (by omega))) t (by omega)))
    by_cases z : k = i
    · subst z; exact pk_us
    · rw [pk_un z]; exact hn k (by omega)
theorem in_y {post : SY → Prop} (K : ∀ fy' my', (∀ k, k < 192 → fy' k = -1) → (∀ k, k < 192 → my' k = -1) → post (g, 0, fy', (fun _ => 0), my', (fun _ => 0), (fun _ => 0), (fun _ => 0))) :
    ∀ j i (fy my : Nat → Int32), i + j = 192 → (∀ k, k < i → fy k = -1) → (∀ k, k < i → my k = -1) → ∀ t, j < t → wY_init_80 post g 0 t (nI i) fy (fun _ => 0) my (fun _ => 0) (fun _ => 0) (fun _ => 0) := by
  intro j
  induction j with
  | zero =>
    intro i fy my hi h1 h2 t ht
    obtain ⟨t, rfl⟩ : ∃ m, t = m + 1 := ⟨t - 1, by omega⟩
    have : i = 192 := by omega
    subst this
    exact br_t (nI_le (a := 192) (b := 192) (by omega) (by omega)) (K _ _ h1 h2)
  | succ j ih =>
    intro i fy my hi h1 h2 t ht
    obtain ⟨t, rfl⟩ : ∃ m, t = m + 1 := ⟨t - 1, by omega⟩
    have iv : vp_in (nI i) 192 := vp_in_nI (by omega) (by omega)
    refine br_f (nI_ge (a := i) (b := 192) (by omega) (by omega)) ⟨iv, ?_⟩
    rw [n_cl (by omega : i < 2 ^ 31), nI_1]
    refine nm_e ⟨iv, nm_e (nm_e (ih (i + 1) _ _ (by omega) (fun k hk => ?_) (fun k hk => ?_) t (by omega)))⟩
    · by_cases z : k = i
      · subst z; exact pk_us
      · rw [pk_un z]; exact h1 k (by omega)
    · by_cases z : k = i
      · subst z; exact pk_us
      · rw [pk_un z]; exact h2 k (by omega)
theorem in_rel {un dp : Int32} {ke fi si us le nx ro pa sl fy my : Nat → Int32} (hW : in_ok un ke fi si us le nx ro) (h1 : ∀ k, k < 192 → fy k = -1) (h2 : ∀ k, k < 192 → my k = -1) :
    i_Rel 1 (g, 0, 0, un, dp, (fun _ => 0), (fun _ => 0), (fun _ => 0), (fun _ => 0), (fun _ => 0), (fun _ => 0), (fun _ => 0), (fun _ => 0), (fun _ => 0), ke, fi, si, us, le, nx, ro, pa, sl) (g, 0, fy, (fun _ => 0), my, (fun _ => 0), (fun _ => 0), (fun _ => 0)) := by
  have mp : ∀ k, my_mp fy (fun _ => 0) (fun _ => 0) k = -1 ∨ ¬ k < 288 := by
    intro k
    by_cases z : k < 192
    · exact Or.inl ((my_mp_f z).trans (h1 k z))
    · refine Or.inl ?_
      unfold my_mp
      rw [if_neg z, if_pos rfl]
  have mp' : ∀ k, k < 288 → my_mp fy (fun _ => 0) (fun _ => 0) k = -1 := fun k hk => (mp k).elim id (fun z => absurd hk z)
  refine i_mk ⟨⟨[], [(0, 0, 96)], ts_swap (t := 1) (by omega) hW, ⟨fun e he => absurd he List.not_mem_nil, fun k hk => Or.inl (mp' k hk)⟩, ⟨fun e he => ?_, fun p hp _ => ?_⟩, fun m hm => rfl⟩, fun p hp => ?_, 0, fun _ => 0, rfl, fun i hi => by omega, fun i j hi => by omega, fun k hk => Or.inl ⟨rfl, ?_⟩, fun p hp => rfl, fun k hk => Or.inl (h2 k hk)⟩
  · rw [List.mem_singleton.mp he]
    exact ⟨rfl, by show 1 ≤ 96; omega, by show 0 + 96 ≤ 96; omega, fun p _ _ => ⟨rfl, rfl⟩, fun z => absurd z (by show ¬ 0 + 96 < 96; omega), fun z => absurd z (by show ¬ 0 < 0; omega)⟩
  · exact ⟨(0, 0, 96), List.mem_singleton.mpr rfl, Nat.zero_le _, by show p < 0 + 96; omega⟩
  · have : cb_n (fun k => my_mp fy (fun _ => 0) (fun _ => 0) k = nI p) 288 = 0 := cb_0.mpr (fun k hk w => by
      rw [mp' k hk] at w
      exact n_ne1 (by omega) w.symm)
    rw [this]
    rfl
  · rw [mp' k (by omega), h2 k hk]
end
theorem i_vc0 (k0 : Int32) : wpX_init (fun u => wpY_init (fun v => i_Rel 1 u v) k0) k0 := by
  have X : ∀ (g : Int32) (P : SX → Prop), (∀ un' dp' ke' fi' si' us' le' nx' ro' pa' sl', in_ok un' ke' fi' si' us' le' nx' ro' → P (g, 0, 0, un', dp', (fun _ => 0), (fun _ => 0), (fun _ => 0), (fun _ => 0), (fun _ => 0), (fun _ => 0), (fun _ => 0), (fun _ => 0), (fun _ => 0), ke', fi', si', us', le', nx', ro', pa', sl')) →
      ∃ n182 : Nat, wX_init_182 P g 0 0 0 0 n182 0 (fun _ => 0) (fun _ => 0) (fun _ => 0) (fun _ => 0) (fun _ => 0) (fun _ => 0) (fun _ => 0) (fun _ => 0) (fun _ => 0) (fun _ => 0) (fun _ => 0) (fun _ => 0) (fun _ => 0) (fun _ => 0) (fun _ => 0) (fun _ => 0) (fun _ => 0) (fun _ => 0) := by
    intro g P K
    exact ⟨131, in_l K 130 0 (fun _ => 0) (by omega) (fun k hk => by omega) (fun i => in_z (n := 0)) 131 (by omega)⟩
  have Y : ∀ (g : Int32) (P : SY → Prop), (∀ fy' my', (∀ k, k < 192 → fy' k = -1) → (∀ k, k < 192 → my' k = -1) → P (g, 0, fy', (fun _ => 0), my', (fun _ => 0), (fun _ => 0), (fun _ => 0))) →
      ∃ n80 : Nat, wY_init_80 P g 0 n80 0 (fun _ => 0) (fun _ => 0) (fun _ => 0) (fun _ => 0) (fun _ => 0) (fun _ => 0) := by
    intro g P K
    exact ⟨193, in_y K 192 0 (fun _ => 0) (fun _ => 0) (by omega) (fun k hk => by omega) (fun k hk => by omega) 193 (by omega)⟩
  unfold wpX_init
  refine br_c (fun z1 => br_c (fun z2 => ?_) (fun z2 => ?_)) (fun z1 => ?_)
  · refine X _ _ ?_
    intro un' dp' ke' fi' si' us' le' nx' ro' pa' sl' hW
    exact br_t z1 (br_t z2 (Y _ _ (fun fy' my' h1 h2 => in_rel hW h1 h2)))
  · refine X _ _ ?_
    intro un' dp' ke' fi' si' us' le' nx' ro' pa' sl' hW
    exact br_t z1 (br_f z2 (Y _ _ (fun fy' my' h1 h2 => in_rel hW h1 h2)))
  · refine X _ _ ?_
    intro un' dp' ke' fi' si' us' le' nx' ro' pa' sl' hW
    exact br_f z1 (Y _ _ (fun fy' my' h1 h2 => in_rel hW h1 h2))
end
