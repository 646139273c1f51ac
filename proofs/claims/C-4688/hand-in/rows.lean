section
/-! part 01: rows of the kit that are pasted (pk_*, a starting text), then numbers and lists -/
theorem pk_us {f : Nat → Int32} {k : Nat} {x : Int32} : upd f k x k = x := if_pos rfl
theorem pk_un {f : Nat → Int32} {k j : Nat} {x : Int32} (h : j ≠ k) : upd f k x j = f j := if_neg h
theorem pk_sub {a b : Nat} (h : b ≤ a) : nI a - nI b = nI (a - b) := by
  obtain ⟨c, rfl⟩ : ∃ c, a = c + b := ⟨a - b, by omega⟩
  rw [← nI_add, Int32.add_sub_cancel, Nat.add_sub_cancel]
theorem pk_m1 (n : Nat) : nI (n + 1) + (-1) = nI n := by
  rw [← nI_1, Int32.add_assoc, show (1 : Int32) + (-1) = 0 from rfl, Int32.add_zero]
theorem pk_ix (x : Int32) {n : Nat} (hn : n < 2 ^ 31) : x < 0 ∨ nI n ≤ x ∨ ∃ j : Nat, j < n ∧ x = nI j := by
  by_cases h : x < 0
  · exact Or.inl h
  · obtain ⟨j, hj, rfl⟩ := nI_of h
    by_cases h2 : j < n
    · exact Or.inr (Or.inr ⟨j, h2, rfl⟩)
    · exact Or.inr (Or.inl (nI_le (by omega) hj))
theorem pk_le {x y : Int32} {A B : Prop} (a b : Nat) (f : a ≤ b → A) (g : b < a → B) (hx : x = nI a := by rfl) (hy : y = nI b := by rfl) (ha : a < 2 ^ 31 := by omega) (hb : b < 2 ^ 31 := by omega) : (x ≤ y → A) ∧ (¬ x ≤ y → B) := by
  subst hx hy
  rw [nI_leI ha hb]
  exact ⟨f, fun z => g (by omega)⟩
theorem pk_lt {x y : Int32} {A B : Prop} (a b : Nat) (f : a < b → A) (g : b ≤ a → B) (hx : x = nI a := by rfl) (hy : y = nI b := by rfl) (ha : a < 2 ^ 31 := by omega) (hb : b < 2 ^ 31 := by omega) : (x < y → A) ∧ (¬ x < y → B) := by
  subst hx hy
  rw [nI_ltI ha hb]
  exact ⟨f, fun z => g (by omega)⟩
theorem pk_eq {x y : Int32} {A B : Prop} (a b : Nat) (f : a = b → A) (g : a ≠ b → B) (hx : x = nI a := by rfl) (hy : y = nI b := by rfl) (ha : a < 2 ^ 31 := by omega) (hb : b < 2 ^ 31 := by omega) : (x = y → A) ∧ (¬ x = y → B) := by
  subst hx hy
  rw [nI_eq ha hb]
  exact ⟨f, g⟩
theorem pk_in {x : Int32} (n N : Nat) (h : n < N) (hx : x = nI n := by rfl) (hN : N < 2 ^ 31 := by omega) : vp_in x N := by
  subst hx
  exact vp_in_nI h hN
theorem pk_cl {x : Int32} (n : Nat) (hx : x = nI n := by rfl) (h : n < 2 ^ 31 := by omega) : x.toNatClampNeg = n := by
  subst hx
  exact nI_clamp h
/-! numbers -/
theorem rr_b (n : Nat) (h : n ≤ 100) : vp_nar .byte (nI n) = nI n := by
  rw [vp_nar_byte]
  have e := nI_toInt (n := n) (by omega)
  exact lg_i2b_small (by rw [e]; omega) (by rw [e]; omega)
theorem rr_b8 (n : Nat) (h : n ≤ 100) : (nI n).toInt8.toInt32 = nI n := by
  have e := nI_toInt (n := n) (by omega)
  exact lg_i2b_small (by rw [e]; omega) (by rw [e]; omega)
theorem rr_bb (n : Nat) (h : n ≤ 100) : vp_nar .byte (nI n).toInt8.toInt32 = nI n := by
  rw [rr_b8 n h, rr_b n h]
theorem rr_n0 : vp_nar .boolean 0 = 0 := rfl
theorem rr_n1 : vp_nar .boolean 1 = 1 := rfl
theorem rr_addI {x a : Int32} (h1 : -1000000 ≤ x.toInt) (h2 : x.toInt ≤ 1000000) (h3 : -1000000 ≤ (x + a).toInt) (h4 : (x + a).toInt ≤ 1000000) : (x + a).toInt = x.toInt + a.toInt := by
  have b1 := a.le_toInt
  have b2 := a.toInt_lt
  have e := Int32.toInt_add x a
  rw [Int.bmod_def] at e
  split at e <;> omega
theorem rr_addR {x a : Int32} (h1 : -1000000 ≤ x.toInt) (h2 : x.toInt ≤ 1000000) (h3 : -1000000 ≤ x.toInt + a.toInt) (h4 : x.toInt + a.toInt ≤ 1000000) : (x + a).toInt = x.toInt + a.toInt :=
  Jvm.Kit.i32_add (by omega) (by omega)
theorem rr_long (x a : Int32) : (x.toInt64 + a.toInt64).toInt = x.toInt + a.toInt := by
  have b1 := a.le_toInt
  have b2 := a.toInt_lt
  have c1 := x.le_toInt
  have c2 := x.toInt_lt
  rw [Int64.toInt_add, Int32.toInt_toInt64, Int32.toInt_toInt64]
  exact Int.bmod_eq_of_le (by omega) (by omega)
theorem rr_subm (x : Int32) : x + (-1) = x - 1 := by
  rw [Int32.sub_eq_add_neg]
/-! lists of (node, int) -/
abbrev rr_LX : Type := List (Nat × Int32)
abbrev rr_nd (xs : rr_LX) : List Nat := xs.map Prod.fst
def rr_mp (a : Int32) (xs : rr_LX) : rr_LX := xs.map (fun p => (p.1, p.2 + a))
def rr_rv (t : Int32) (xs : rr_LX) : rr_LX := if t = 0 then xs else xs.reverse
def rr_ef (t a : Int32) (xs : rr_LX) : rr_LX := rr_mp a (rr_rv t xs)
theorem rr_mp_nil (a : Int32) : rr_mp a [] = [] := rfl
theorem rr_mp_0 (xs : rr_LX) : rr_mp 0 xs = xs := by
  induction xs with
  | nil => rfl
  | cons p xs ih =>
    show (p.1, p.2 + 0) :: rr_mp 0 xs = p :: xs
    rw [ih, Int32.add_zero]
theorem rr_mp_mp (a b : Int32) (xs : rr_LX) : rr_mp a (rr_mp b xs) = rr_mp (b + a) xs := by
  induction xs with
  | nil => rfl
  | cons p xs ih =>
    show (p.1, p.2 + b + a) :: rr_mp a (rr_mp b xs) = (p.1, p.2 + (b + a)) :: rr_mp (b + a) xs
    rw [ih, Int32.add_assoc]
theorem rr_mp_app (a : Int32) (xs ys : rr_LX) : rr_mp a (xs ++ ys) = rr_mp a xs ++ rr_mp a ys := List.map_append
theorem rr_mp_cons (a : Int32) (p : Nat × Int32) (xs : rr_LX) : rr_mp a (p :: xs) = (p.1, p.2 + a) :: rr_mp a xs := rfl
theorem rr_mp_rev (a : Int32) (xs : rr_LX) : (rr_mp a xs).reverse = rr_mp a xs.reverse := List.map_reverse.symm
theorem rr_nd_mp (a : Int32) (xs : rr_LX) : rr_nd (rr_mp a xs) = rr_nd xs := by
  induction xs with
  | nil => rfl
  | cons p xs ih =>
    show p.1 :: rr_nd (rr_mp a xs) = p.1 :: rr_nd xs
    rw [ih]
theorem rr_len_mp (a : Int32) (xs : rr_LX) : (rr_mp a xs).length = xs.length := List.length_map _
theorem rr_nd_rev (xs : rr_LX) : rr_nd xs.reverse = (rr_nd xs).reverse := List.map_reverse
theorem rr_rv_rev (t : Int32) (xs : rr_LX) : (rr_rv t xs).reverse = rr_rv t xs.reverse := by
  unfold rr_rv; split <;> rfl
theorem rr_ef_rev (t a : Int32) (xs : rr_LX) : (rr_ef t a xs).reverse = rr_ef t a xs.reverse := by
  unfold rr_ef; rw [rr_mp_rev, rr_rv_rev]
theorem rr_ef_flip {t z : Int32} (h : z = 0 ↔ ¬ t = 0) (a : Int32) (xs : rr_LX) : rr_ef z a xs = (rr_ef t a xs).reverse := by
  rw [rr_ef_rev]; unfold rr_ef rr_rv
  by_cases c : t = 0
  · rw [if_pos c, if_neg (fun e => h.mp e c)]
  · rw [if_neg c, if_pos (h.mpr c), List.reverse_reverse]
theorem rr_ef_0 (a : Int32) (xs : rr_LX) : rr_ef 0 a xs = rr_mp a xs := rfl
theorem rr_ef_00 (xs : rr_LX) : rr_ef 0 0 xs = xs := rr_mp_0 xs
theorem rr_ef_nz {t : Int32} (h : ¬ t = 0) (a : Int32) (xs : rr_LX) : rr_ef t a xs = rr_mp a xs.reverse := by
  unfold rr_ef rr_rv; rw [if_neg h]
theorem rr_ef_nil (t a : Int32) : rr_ef t a [] = [] := by
  unfold rr_ef rr_rv; split <;> rfl
theorem rr_mp_ef (t a b : Int32) (xs : rr_LX) : rr_mp b (rr_ef t a xs) = rr_ef t (a + b) xs := rr_mp_mp b a _
theorem rr_len_ef (t a : Int32) (xs : rr_LX) : (rr_ef t a xs).length = xs.length := by
  unfold rr_ef; rw [rr_len_mp]; unfold rr_rv; split
  · rfl
  · exact List.length_reverse
theorem rr_nd_ef (t a : Int32) (xs : rr_LX) : rr_nd (rr_ef t a xs) = if t = 0 then rr_nd xs else (rr_nd xs).reverse := by
  unfold rr_ef; rw [rr_nd_mp]; unfold rr_rv; split
  · rfl
  · exact rr_nd_rev xs
theorem rr_ct_ef (t a : Int32) (xs : rr_LX) (k : Nat) : (rr_nd (rr_ef t a xs)).count k = (rr_nd xs).count k := by
  rw [rr_nd_ef]; split
  · rfl
  · exact List.count_reverse
theorem rr_mem_ef (t a : Int32) (xs : rr_LX) (k : Nat) : k ∈ rr_nd (rr_ef t a xs) ↔ k ∈ rr_nd xs := by
  rw [rr_nd_ef]; split
  · exact Iff.rfl
  · exact List.mem_reverse
/-! sums, least, greatest, range -/
def rr_sm : rr_LX → Int32
  | [] => 0
  | p :: xs => p.2 + rr_sm xs
theorem rr_sm_app (xs ys : rr_LX) : rr_sm (xs ++ ys) = rr_sm xs + rr_sm ys := by
  induction xs with
  | nil => show rr_sm ys = 0 + rr_sm ys; rw [Int32.zero_add]
  | cons p xs ih =>
    show p.2 + rr_sm (xs ++ ys) = p.2 + rr_sm xs + rr_sm ys
    rw [ih, Int32.add_assoc]
theorem rr_sm_1 (p : Nat × Int32) : rr_sm [p] = p.2 := Int32.add_zero _
theorem rr_sm_rev (xs : rr_LX) : rr_sm xs.reverse = rr_sm xs := by
  induction xs with
  | nil => rfl
  | cons p xs ih =>
    rw [List.reverse_cons, rr_sm_app, ih, rr_sm_1]
    exact Int32.add_comm _ _
theorem rr_sm_mp (a : Int32) (xs : rr_LX) : rr_sm (rr_mp a xs) = rr_sm xs + a * nI xs.length := by
  induction xs with
  | nil => show (0 : Int32) = 0 + a * nI 0; rw [nI_0, Int32.mul_zero, Int32.zero_add]
  | cons p xs ih =>
    show p.2 + a + rr_sm (rr_mp a xs) = p.2 + rr_sm xs + a * nI (xs.length + 1)
    rw [ih, nI_succ]
    grind
def rr_mn (m : Int32) (xs : rr_LX) : Prop := (∃ p, p ∈ xs ∧ p.2 = m) ∧ ∀ p, p ∈ xs → m.toInt ≤ p.2.toInt
def rr_mx (m : Int32) (xs : rr_LX) : Prop := (∃ p, p ∈ xs ∧ p.2 = m) ∧ ∀ p, p ∈ xs → p.2.toInt ≤ m.toInt
def rr_rg (xs : rr_LX) : Prop := ∀ p, p ∈ xs → -1000000 ≤ p.2.toInt ∧ p.2.toInt ≤ 1000000
theorem rr_rg_nil : rr_rg [] := fun _ h => absurd h List.not_mem_nil
theorem rr_rg_app {xs ys : rr_LX} : rr_rg (xs ++ ys) ↔ rr_rg xs ∧ rr_rg ys :=
  ⟨fun h => ⟨fun p hp => h p (List.mem_append.mpr (Or.inl hp)), fun p hp => h p (List.mem_append.mpr (Or.inr hp))⟩,
   fun h p hp => (List.mem_append.mp hp).elim (h.1 p) (h.2 p)⟩
theorem rr_rg_cons {p : Nat × Int32} {xs : rr_LX} : rr_rg (p :: xs) ↔ (-1000000 ≤ p.2.toInt ∧ p.2.toInt ≤ 1000000) ∧ rr_rg xs :=
  ⟨fun h => ⟨h p List.mem_cons_self, fun q hq => h q (List.mem_cons_of_mem _ hq)⟩,
   fun h q hq => (List.mem_cons.mp hq).elim (fun e => e ▸ h.1) (h.2 q)⟩
theorem rr_rg_rev {xs : rr_LX} : rr_rg xs.reverse ↔ rr_rg xs :=
  ⟨fun h p hp => h p (List.mem_reverse.mpr hp), fun h p hp => h p (List.mem_reverse.mp hp)⟩
theorem rr_rg_take {xs : rr_LX} (h : rr_rg xs) (k : Nat) : rr_rg (xs.take k) := fun p hp => h p (List.mem_of_mem_take hp)
theorem rr_rg_drop {xs : rr_LX} (h : rr_rg xs) (k : Nat) : rr_rg (xs.drop k) := fun p hp => h p (List.mem_of_mem_drop hp)
theorem rr_mn_rev {m : Int32} {xs : rr_LX} (h : rr_mn m xs) : rr_mn m xs.reverse :=
  ⟨h.1.elim fun p hp => ⟨p, List.mem_reverse.mpr hp.1, hp.2⟩, fun p hp => h.2 p (List.mem_reverse.mp hp)⟩
theorem rr_mx_rev {m : Int32} {xs : rr_LX} (h : rr_mx m xs) : rr_mx m xs.reverse :=
  ⟨h.1.elim fun p hp => ⟨p, List.mem_reverse.mpr hp.1, hp.2⟩, fun p hp => h.2 p (List.mem_reverse.mp hp)⟩
theorem rr_mem_mp {a : Int32} {xs : rr_LX} {q : Nat × Int32} : q ∈ rr_mp a xs ↔ ∃ p, p ∈ xs ∧ (p.1, p.2 + a) = q := List.mem_map
theorem rr_mn_mp {m a : Int32} {xs : rr_LX} (hr : rr_rg xs) (hs : rr_rg (rr_mp a xs)) (h : rr_mn m xs) : rr_mn (m + a) (rr_mp a xs) := by
  have A : ∀ p, p ∈ xs → (p.2 + a).toInt = p.2.toInt + a.toInt := fun p hp =>
    have i := hr p hp
    have j := hs (p.1, p.2 + a) (rr_mem_mp.mpr ⟨p, hp, rfl⟩)
    rr_addI i.1 i.2 j.1 j.2
  obtain ⟨⟨p, hp, rfl⟩, hm⟩ := h
  refine ⟨⟨(p.1, p.2 + a), rr_mem_mp.mpr ⟨p, hp, rfl⟩, rfl⟩, fun q hq => ?_⟩
  obtain ⟨s, hs', rfl⟩ := rr_mem_mp.mp hq
  have e1 := A p hp
  have e2 := A s hs'
  have e3 := hm s hs'
  show (p.2 + a).toInt ≤ (s.2 + a).toInt
  omega
theorem rr_mx_mp {m a : Int32} {xs : rr_LX} (hr : rr_rg xs) (hs : rr_rg (rr_mp a xs)) (h : rr_mx m xs) : rr_mx (m + a) (rr_mp a xs) := by
  have A : ∀ p, p ∈ xs → (p.2 + a).toInt = p.2.toInt + a.toInt := fun p hp =>
    have i := hr p hp
    have j := hs (p.1, p.2 + a) (rr_mem_mp.mpr ⟨p, hp, rfl⟩)
    rr_addI i.1 i.2 j.1 j.2
  obtain ⟨⟨p, hp, rfl⟩, hm⟩ := h
  refine ⟨⟨(p.1, p.2 + a), rr_mem_mp.mpr ⟨p, hp, rfl⟩, rfl⟩, fun q hq => ?_⟩
  obtain ⟨s, hs', rfl⟩ := rr_mem_mp.mp hq
  have e1 := A p hp
  have e2 := A s hs'
  have e3 := hm s hs'
  show (s.2 + a).toInt ≤ (p.2 + a).toInt
  omega
theorem rr_mn_1 (p : Nat × Int32) : rr_mn p.2 [p] := ⟨⟨p, List.mem_singleton.mpr rfl, rfl⟩, fun q hq => by rw [List.mem_singleton.mp hq]; exact Int.le_refl _⟩
theorem rr_mx_1 (p : Nat × Int32) : rr_mx p.2 [p] := ⟨⟨p, List.mem_singleton.mpr rfl, rfl⟩, fun q hq => by rw [List.mem_singleton.mp hq]; exact Int.le_refl _⟩
theorem rr_mn_l {x y : Int32} {xs ys : rr_LX} (hx : rr_mn x xs) (hy : rr_mn y ys) (h : x.toInt ≤ y.toInt) : rr_mn x (xs ++ ys) :=
  ⟨hx.1.elim fun p hp => ⟨p, List.mem_append.mpr (Or.inl hp.1), hp.2⟩, fun p hp => (List.mem_append.mp hp).elim (hx.2 p) (fun q => Int.le_trans h (hy.2 p q))⟩
theorem rr_mn_r {x y : Int32} {xs ys : rr_LX} (hx : rr_mn x xs) (hy : rr_mn y ys) (h : y.toInt ≤ x.toInt) : rr_mn y (xs ++ ys) :=
  ⟨hy.1.elim fun p hp => ⟨p, List.mem_append.mpr (Or.inr hp.1), hp.2⟩, fun p hp => (List.mem_append.mp hp).elim (fun q => Int.le_trans h (hx.2 p q)) (hy.2 p)⟩
theorem rr_mx_l {x y : Int32} {xs ys : rr_LX} (hx : rr_mx x xs) (hy : rr_mx y ys) (h : y.toInt ≤ x.toInt) : rr_mx x (xs ++ ys) :=
  ⟨hx.1.elim fun p hp => ⟨p, List.mem_append.mpr (Or.inl hp.1), hp.2⟩, fun p hp => (List.mem_append.mp hp).elim (hx.2 p) (fun q => Int.le_trans (hy.2 p q) h)⟩
theorem rr_mx_r {x y : Int32} {xs ys : rr_LX} (hx : rr_mx x xs) (hy : rr_mx y ys) (h : x.toInt ≤ y.toInt) : rr_mx y (xs ++ ys) :=
  ⟨hy.1.elim fun p hp => ⟨p, List.mem_append.mpr (Or.inr hp.1), hp.2⟩, fun p hp => (List.mem_append.mp hp).elim (fun q => Int.le_trans (hx.2 p q) h) (hy.2 p)⟩
end
section
/-! part 02: a node's row, heaps as functions, trees over a heap -/
/-- left, right, value, count, total, least, most, turned, added -/
abbrev rr_HX : Type := Int32 × Int32 × Int32 × Int32 × Int32 × Int32 × Int32 × Int32 × Int32
def rr_l (r : rr_HX) : Int32 := r.1
def rr_r (r : rr_HX) : Int32 := r.2.1
def rr_v (r : rr_HX) : Int32 := r.2.2.1
def rr_n (r : rr_HX) : Int32 := r.2.2.2.1
def rr_t (r : rr_HX) : Int32 := r.2.2.2.2.1
def rr_i (r : rr_HX) : Int32 := r.2.2.2.2.2.1
def rr_m (r : rr_HX) : Int32 := r.2.2.2.2.2.2.1
def rr_u (r : rr_HX) : Int32 := r.2.2.2.2.2.2.2.1
def rr_a (r : rr_HX) : Int32 := r.2.2.2.2.2.2.2.2
def rr_ok (r : rr_HX) (xs : rr_LX) : Prop := rr_n r = nI xs.length ∧ rr_t r = rr_sm xs ∧ rr_mn (rr_i r) xs ∧ rr_mx (rr_m r) xs ∧ rr_rg xs
def rr_tT (h : Nat → rr_HX) : Nat → Nat → rr_LX → Prop
  | 0 => fun n xs => n = 0 ∧ xs = [] ∧ rr_n (h 0) = 0
  | d + 1 => fun n xs => (n = 0 ∧ xs = [] ∧ rr_n (h 0) = 0) ∨ (0 < n ∧ n ≤ 40 ∧ rr_ok (h n) xs ∧ ∃ (l r : Nat) (xl xr : rr_LX), rr_l (h n) = nI l ∧ rr_r (h n) = nI r ∧ rr_tT h d l xl ∧ rr_tT h d r xr ∧ xs = rr_ef (rr_u (h n)) (rr_a (h n)) xl ++ (n, rr_v (h n)) :: rr_ef (rr_u (h n)) (rr_a (h n)) xr)
def rr_TT (h : Nat → rr_HX) (n : Nat) (xs : rr_LX) : Prop := ∃ d, rr_tT h d n xs
/-- a node with its two children -/
def rr_NV (h : Nat → rr_HX) (n : Nat) (xs : rr_LX) (l r : Nat) (xl xr : rr_LX) : Prop :=
  0 < n ∧ n ≤ 40 ∧ rr_ok (h n) xs ∧ rr_l (h n) = nI l ∧ rr_r (h n) = nI r ∧ rr_TT h l xl ∧ rr_TT h r xr ∧ xs = rr_ef (rr_u (h n)) (rr_a (h n)) xl ++ (n, rr_v (h n)) :: rr_ef (rr_u (h n)) (rr_a (h n)) xr
theorem rr_tT_up {h : Nat → rr_HX} : ∀ (d n : Nat) (xs : rr_LX), rr_tT h d n xs → rr_tT h (d + 1) n xs := by
  intro d
  induction d with
  | zero => intro n xs H; exact Or.inl H
  | succ d ih =>
    intro n xs H
    rcases H with H | ⟨h1, h2, h3, l, r, xl, xr, e1, e2, tl, tr, e3⟩
    · exact Or.inl H
    · exact Or.inr ⟨h1, h2, h3, l, r, xl, xr, e1, e2, ih _ _ tl, ih _ _ tr, e3⟩
theorem rr_tT_add {h : Nat → rr_HX} (c : Nat) : ∀ (d n : Nat) (xs : rr_LX), rr_tT h d n xs → rr_tT h (d + c) n xs := by
  induction c with
  | zero => intro d n xs H; exact H
  | succ c ih => intro d n xs H; exact rr_tT_up _ _ _ (ih d n xs H)
theorem rr_TT_nil {h : Nat → rr_HX} (h0 : rr_n (h 0) = 0) : rr_TT h 0 [] := ⟨0, rfl, rfl, h0⟩
theorem rr_TT_mk {h : Nat → rr_HX} {n : Nat} {xs : rr_LX} {l r : Nat} {xl xr : rr_LX} (H : rr_NV h n xs l r xl xr) : rr_TT h n xs := by
  obtain ⟨h1, h2, h3, e1, e2, ⟨dl, tl⟩, ⟨dr, tr⟩, e3⟩ := H
  refine ⟨(dl + dr) + 1, Or.inr ⟨h1, h2, h3, l, r, xl, xr, e1, e2, rr_tT_add dr _ _ _ tl, ?_, e3⟩⟩
  rw [Nat.add_comm dl dr]
  exact rr_tT_add dl _ _ _ tr
theorem rr_TT_inv {h : Nat → rr_HX} {n : Nat} {xs : rr_LX} (H : rr_TT h n xs) (hn : 0 < n) : ∃ (l r : Nat) (xl xr : rr_LX), rr_NV h n xs l r xl xr := by
  obtain ⟨d, H⟩ := H
  cases d with
  | zero => exact absurd H.1 (by omega)
  | succ d =>
    rcases H with H | ⟨h1, h2, h3, l, r, xl, xr, e1, e2, tl, tr, e3⟩
    · exact absurd H.1 (by omega)
    · exact ⟨l, r, xl, xr, h1, h2, h3, e1, e2, ⟨d, tl⟩, ⟨d, tr⟩, e3⟩
theorem rr_TT_z {h : Nat → rr_HX} {xs : rr_LX} (H : rr_TT h 0 xs) : xs = [] := by
  obtain ⟨d, H⟩ := H
  cases d with
  | zero => exact H.2.1
  | succ d =>
    rcases H with H | H
    · exact H.2.1
    · exact absurd H.1 (by omega)
theorem rr_TT_0 {h : Nat → rr_HX} : ∀ (d n : Nat) (xs : rr_LX), rr_tT h d n xs → rr_n (h 0) = 0 := by
  intro d
  induction d with
  | zero => intro n xs H; exact H.2.2
  | succ d ih =>
    intro n xs H
    rcases H with H | ⟨h1, h2, h3, l, r, xl, xr, e1, e2, tl, tr, e3⟩
    · exact H.2.2
    · exact ih _ _ tl
theorem rr_TT_h0 {h : Nat → rr_HX} {n : Nat} {xs : rr_LX} (H : rr_TT h n xs) : rr_n (h 0) = 0 := H.elim fun d t => rr_TT_0 d n xs t
theorem rr_TT_le {h : Nat → rr_HX} {n : Nat} {xs : rr_LX} (H : rr_TT h n xs) : n ≤ 40 := by
  by_cases z : n = 0
  · omega
  · obtain ⟨l, r, xl, xr, H⟩ := rr_TT_inv H (by omega)
    exact H.2.1
theorem rr_TT_cnt {h : Nat → rr_HX} {n : Nat} {xs : rr_LX} (H : rr_TT h n xs) : rr_n (h n) = nI xs.length := by
  by_cases z : n = 0
  · subst z
    rw [rr_TT_z H]
    exact rr_TT_h0 H
  · obtain ⟨l, r, xl, xr, H⟩ := rr_TT_inv H (by omega)
    exact H.2.2.1.1
theorem rr_TT_ok {h : Nat → rr_HX} {n : Nat} {xs : rr_LX} (H : rr_TT h n xs) (hn : 0 < n) : rr_ok (h n) xs := by
  obtain ⟨l, r, xl, xr, H⟩ := rr_TT_inv H hn
  exact H.2.2.1
theorem rr_TT_rg {h : Nat → rr_HX} {n : Nat} {xs : rr_LX} (H : rr_TT h n xs) : rr_rg xs := by
  by_cases z : n = 0
  · subst z
    rw [rr_TT_z H]
    exact rr_rg_nil
  · exact (rr_TT_ok H (by omega)).2.2.2.2
theorem rr_TT_self {h : Nat → rr_HX} {n : Nat} {xs : rr_LX} (H : rr_TT h n xs) (hn : 0 < n) : n ∈ rr_nd xs := by
  obtain ⟨l, r, xl, xr, H⟩ := rr_TT_inv H hn
  rw [H.2.2.2.2.2.2.2]
  simp
theorem rr_TT_ne {h : Nat → rr_HX} {n : Nat} {xs : rr_LX} (H : rr_TT h n xs) (hn : 0 < n) : xs ≠ [] := by
  intro e
  have s := rr_TT_self H hn
  rw [e] at s
  exact absurd s List.not_mem_nil
theorem rr_TT_zero {h : Nat → rr_HX} {n : Nat} {xs : rr_LX} (H : rr_TT h n xs) (e : xs = []) : n = 0 := by
  by_cases z : n = 0
  · exact z
  · exact absurd e (rr_TT_ne H (by omega))
theorem rr_tT_nd {h : Nat → rr_HX} : ∀ (d n : Nat) (xs : rr_LX), rr_tT h d n xs → ∀ k, k ∈ rr_nd xs → 0 < k ∧ k ≤ 40 := by
  intro d
  induction d with
  | zero => intro n xs H k hk; rw [H.2.1] at hk; exact absurd hk List.not_mem_nil
  | succ d ih =>
    intro n xs H k hk
    rcases H with H | ⟨h1, h2, h3, l, r, xl, xr, e1, e2, tl, tr, e3⟩
    · rw [H.2.1] at hk; exact absurd hk List.not_mem_nil
    · rw [e3, rr_nd, List.map_append, List.map_cons, List.mem_append, List.mem_cons] at hk
      rcases hk with hk | hk | hk
      · exact ih _ _ tl k ((rr_mem_ef _ _ _ _).mp hk)
      · rw [hk]; exact ⟨h1, h2⟩
      · exact ih _ _ tr k ((rr_mem_ef _ _ _ _).mp hk)
theorem rr_TT_nd {h : Nat → rr_HX} {n : Nat} {xs : rr_LX} (H : rr_TT h n xs) : ∀ k, k ∈ rr_nd xs → 0 < k ∧ k ≤ 40 := H.elim fun d t => rr_tT_nd d n xs t
theorem rr_TT_n0 {h : Nat → rr_HX} {n : Nat} {xs : rr_LX} (H : rr_TT h n xs) : 0 ∉ rr_nd xs := fun z => absurd (rr_TT_nd H 0 z).1 (by omega)
theorem rr_tT_fr {h h' : Nat → rr_HX} : ∀ (d n : Nat) (xs : rr_LX), (∀ k, k = 0 ∨ k ∈ rr_nd xs → h' k = h k) → rr_tT h d n xs → rr_tT h' d n xs := by
  intro d
  induction d with
  | zero => intro n xs E H; exact ⟨H.1, H.2.1, by rw [E 0 (Or.inl rfl)]; exact H.2.2⟩
  | succ d ih =>
    intro n xs E H
    rcases H with H | ⟨h1, h2, h3, l, r, xl, xr, e1, e2, tl, tr, e3⟩
    · exact Or.inl ⟨H.1, H.2.1, by rw [E 0 (Or.inl rfl)]; exact H.2.2⟩
    · have M : ∀ k, k ∈ rr_nd xs ↔ k ∈ rr_nd xl ∨ k = n ∨ k ∈ rr_nd xr := by
        intro k
        rw [e3, rr_nd, List.map_append, List.map_cons, List.mem_append, List.mem_cons]
        exact or_congr (rr_mem_ef _ _ _ _) (or_congr Iff.rfl (rr_mem_ef _ _ _ _))
      have en := E n (Or.inr ((M n).mpr (Or.inr (Or.inl rfl))))
      refine Or.inr ⟨h1, h2, by rw [en]; exact h3, l, r, xl, xr, by rw [en]; exact e1, by rw [en]; exact e2, ih l xl ?_ tl, ih r xr ?_ tr, by rw [en]; exact e3⟩
      · exact fun k hk => E k (hk.imp id fun q => (M k).mpr (Or.inl q))
      · exact fun k hk => E k (hk.imp id fun q => (M k).mpr (Or.inr (Or.inr q)))
theorem rr_TT_fr {h h' : Nat → rr_HX} {n : Nat} {xs : rr_LX} (H : rr_TT h n xs) (E : ∀ k, k = 0 ∨ k ∈ rr_nd xs → h' k = h k) : rr_TT h' n xs := H.elim fun d t => ⟨d, rr_tT_fr d n xs E t⟩
/-- what a node's list without repeated nodes gives -/
theorem rr_NV_mem {h : Nat → rr_HX} {n : Nat} {xs : rr_LX} {l r : Nat} {xl xr : rr_LX} (H : rr_NV h n xs l r xl xr) (k : Nat) : k ∈ rr_nd xs ↔ k ∈ rr_nd xl ∨ k = n ∨ k ∈ rr_nd xr := by
  rw [H.2.2.2.2.2.2.2, rr_nd, List.map_append, List.map_cons, List.mem_append, List.mem_cons]
  exact or_congr (rr_mem_ef _ _ _ _) (or_congr Iff.rfl (rr_mem_ef _ _ _ _))
theorem rr_NV_len {h : Nat → rr_HX} {n : Nat} {xs : rr_LX} {l r : Nat} {xl xr : rr_LX} (H : rr_NV h n xs l r xl xr) : xs.length = xl.length + xr.length + 1 := by
  rw [H.2.2.2.2.2.2.2, List.length_append, List.length_cons, rr_len_ef, rr_len_ef]
  omega
theorem rr_NV_ct {h : Nat → rr_HX} {n : Nat} {xs : rr_LX} {l r : Nat} {xl xr : rr_LX} (H : rr_NV h n xs l r xl xr) (k : Nat) : (rr_nd xs).count k = (rr_nd xl).count k + (rr_nd xr).count k + (if n = k then 1 else 0) := by
  rw [H.2.2.2.2.2.2.2, rr_nd, List.map_append, List.map_cons, List.count_append, List.count_cons]
  have a := rr_ct_ef (rr_u (h n)) (rr_a (h n)) xl k
  have b := rr_ct_ef (rr_u (h n)) (rr_a (h n)) xr k
  unfold rr_nd at a b ⊢
  rw [a, b]
  simp only [beq_iff_eq]
  omega
def rr_dj (xs ys : rr_LX) : Prop := ∀ k, k ∈ rr_nd xs → k ∉ rr_nd ys
theorem rr_nodup_app {xs ys : rr_LX} : (rr_nd (xs ++ ys)).Nodup ↔ (rr_nd xs).Nodup ∧ (rr_nd ys).Nodup ∧ rr_dj xs ys := by
  rw [rr_nd, List.map_append, List.nodup_append]
  exact and_congr Iff.rfl (and_congr Iff.rfl ⟨fun h k a b => h k a k b rfl, fun h a ha b hb e => h a ha (e ▸ hb)⟩)
theorem rr_NV_nodup {h : Nat → rr_HX} {n : Nat} {xs : rr_LX} {l r : Nat} {xl xr : rr_LX} (H : rr_NV h n xs l r xl xr) (N : (rr_nd xs).Nodup) : (rr_nd xl).Nodup ∧ (rr_nd xr).Nodup ∧ rr_dj xl xr ∧ n ∉ rr_nd xl ∧ n ∉ rr_nd xr := by
  have C := fun k => rr_NV_ct H k
  have D := List.nodup_iff_count.mp N
  have P : ∀ (ys : rr_LX) (k : Nat), k ∈ rr_nd ys → 0 < (rr_nd ys).count k := fun ys k hk => List.count_pos_iff.mpr hk
  refine ⟨List.nodup_iff_count.mpr fun k => ?_, List.nodup_iff_count.mpr fun k => ?_, fun k a b => ?_, fun a => ?_, fun a => ?_⟩
  · have := C k; have := D k; omega
  · have := C k; have := D k; omega
  · have := C k; have := D k; have := P xl k a; have := P xr k b; omega
  · have c := C n; have := D n; have := P xl n a; rw [if_pos rfl] at c; omega
  · have c := C n; have := D n; have := P xr n a; rw [if_pos rfl] at c; omega
/-- turning a tree round -/
theorem rr_turnT {h h' : Nat → rr_HX} {n : Nat} {xs : rr_LX} {z : Int32} (H : rr_TT h n xs) (hn : 0 < n) (N : (rr_nd xs).Nodup)
    (hz : z = 0 ↔ ¬ rr_u (h n) = 0)
    (e : h' n = (rr_r (h n), rr_l (h n), rr_v (h n), rr_n (h n), rr_t (h n), rr_i (h n), rr_m (h n), z, rr_a (h n)))
    (f : ∀ k, k ≠ n → h' k = h k) : rr_TT h' n xs.reverse := by
  obtain ⟨l, r, xl, xr, V⟩ := rr_TT_inv H hn
  obtain ⟨_, _, _, n1, n2⟩ := rr_NV_nodup V N
  obtain ⟨_, h2, ⟨k1, k2, k3, k4, k5⟩, e1, e2, tl, tr, e3⟩ := V
  have fl : rr_TT h' l xl := rr_TT_fr tl fun k hk => f k (by rintro rfl; rcases hk with hk | hk; omega; exact n1 hk)
  have fr : rr_TT h' r xr := rr_TT_fr tr fun k hk => f k (by rintro rfl; rcases hk with hk | hk; omega; exact n2 hk)
  refine rr_TT_mk (l := r) (r := l) (xl := xr) (xr := xl) ⟨hn, h2, ?_, ?_, ?_, fr, fl, ?_⟩
  · rw [e]
    refine ⟨?_, ?_, rr_mn_rev k3, rr_mx_rev k4, rr_rg_rev.mpr k5⟩
    · rw [List.length_reverse]; exact k1
    · rw [rr_sm_rev]; exact k2
  · rw [e]; exact e2
  · rw [e]; exact e1
  · rw [e]
    show xs.reverse = rr_ef z (rr_a (h n)) xr ++ (n, rr_v (h n)) :: rr_ef z (rr_a (h n)) xl
    rw [rr_ef_flip hz, rr_ef_flip hz]
    conv => lhs; rw [e3]
    rw [List.reverse_append, List.reverse_cons, List.append_assoc]
    rfl
/-- adding to a tree -/
theorem rr_addT {h h' : Nat → rr_HX} {n : Nat} {xs : rr_LX} {a : Int32} (H : rr_TT h n xs) (hn : 0 < n) (N : (rr_nd xs).Nodup) (R : rr_rg (rr_mp a xs))
    (e : h' n = (rr_l (h n), rr_r (h n), rr_v (h n) + a, rr_n (h n), rr_t (h n) + a * rr_n (h n), rr_i (h n) + a, rr_m (h n) + a, rr_u (h n), rr_a (h n) + a))
    (f : ∀ k, k ≠ n → h' k = h k) : rr_TT h' n (rr_mp a xs) := by
  obtain ⟨l, r, xl, xr, V⟩ := rr_TT_inv H hn
  obtain ⟨_, _, _, n1, n2⟩ := rr_NV_nodup V N
  obtain ⟨_, h2, ⟨k1, k2, k3, k4, k5⟩, e1, e2, tl, tr, e3⟩ := V
  have fl : rr_TT h' l xl := rr_TT_fr tl fun k hk => f k (by rintro rfl; rcases hk with hk | hk; omega; exact n1 hk)
  have fr : rr_TT h' r xr := rr_TT_fr tr fun k hk => f k (by rintro rfl; rcases hk with hk | hk; omega; exact n2 hk)
  refine rr_TT_mk (l := l) (r := r) (xl := xl) (xr := xr) ⟨hn, h2, ?_, ?_, ?_, fl, fr, ?_⟩
  · rw [e]
    refine ⟨?_, ?_, rr_mn_mp k5 R k3, rr_mx_mp k5 R k4, R⟩
    · rw [rr_len_mp]; exact k1
    · rw [rr_sm_mp]
      show rr_t (h n) + a * rr_n (h n) = _
      rw [k1, k2]
  · rw [e]; exact e1
  · rw [e]; exact e2
  · rw [e]
    show rr_mp a xs = rr_ef (rr_u (h n)) (rr_a (h n) + a) xl ++ (n, rr_v (h n) + a) :: rr_ef (rr_u (h n)) (rr_a (h n) + a) xr
    conv => lhs; rw [e3]
    rw [rr_mp_app, rr_mp_cons, rr_mp_ef, rr_mp_ef]
/-- a node mended over two trees -/
theorem rr_updT {h h' : Nat → rr_HX} {n l r : Nat} {xl xr : rr_LX} {cn tt lo hi : Int32} (hn : 0 < n) (h40 : n ≤ 40) (tl : rr_TT h l xl) (tr : rr_TT h r xr) (n1 : n ∉ rr_nd xl) (n2 : n ∉ rr_nd xr)
    (el : rr_l (h n) = nI l) (er : rr_r (h n) = nI r) (eu : rr_u (h n) = 0) (ea : rr_a (h n) = 0)
    (vr : -1000000 ≤ (rr_v (h n)).toInt ∧ (rr_v (h n)).toInt ≤ 1000000)
    (hc : cn = nI (xl.length + xr.length + 1)) (ht : tt = rr_v (h n) + rr_sm xl + rr_sm xr)
    (hlo : rr_mn lo (xl ++ (n, rr_v (h n)) :: xr)) (hhi : rr_mx hi (xl ++ (n, rr_v (h n)) :: xr))
    (e : h' n = (rr_l (h n), rr_r (h n), rr_v (h n), cn, tt, lo, hi, rr_u (h n), rr_a (h n)))
    (f : ∀ k, k ≠ n → h' k = h k) : rr_TT h' n (xl ++ (n, rr_v (h n)) :: xr) := by
  have fl : rr_TT h' l xl := rr_TT_fr tl fun k hk => f k (by rintro rfl; rcases hk with hk | hk; omega; exact n1 hk)
  have fr : rr_TT h' r xr := rr_TT_fr tr fun k hk => f k (by rintro rfl; rcases hk with hk | hk; omega; exact n2 hk)
  refine rr_TT_mk (l := l) (r := r) (xl := xl) (xr := xr) ⟨hn, h40, ?_, ?_, ?_, fl, fr, ?_⟩
  · rw [e]
    refine ⟨?_, ?_, hlo, hhi, ?_⟩
    · show cn = _
      rw [hc, List.length_append, List.length_cons, Nat.add_assoc]
    · show tt = _
      rw [ht, rr_sm_app]
      show _ = rr_sm xl + (rr_v (h n) + rr_sm xr)
      rw [Int32.add_comm (rr_v (h n)) (rr_sm xl), Int32.add_assoc]
    · exact rr_rg_app.mpr ⟨rr_TT_rg tl, rr_rg_cons.mpr ⟨vr, rr_TT_rg tr⟩⟩
  · rw [e]; exact el
  · rw [e]; exact er
  · rw [e]
    show _ = rr_ef (rr_u (h n)) (rr_a (h n)) xl ++ (n, rr_v (h n)) :: rr_ef (rr_u (h n)) (rr_a (h n)) xr
    rw [eu, ea, rr_ef_00, rr_ef_00]
end
section
/-! part 03: the walks of noteTurn, noteAdd, passNotes, hang, update over a heap -/
def rr_pL (h : Nat → rr_HX) : Nat → Int32 := fun k => rr_l (h k)
def rr_pR (h : Nat → rr_HX) : Nat → Int32 := fun k => rr_r (h k)
def rr_pV (h : Nat → rr_HX) : Nat → Int32 := fun k => rr_v (h k)
def rr_pN (h : Nat → rr_HX) : Nat → Int32 := fun k => rr_n (h k)
def rr_pT (h : Nat → rr_HX) : Nat → Int32 := fun k => rr_t (h k)
def rr_pI (h : Nat → rr_HX) : Nat → Int32 := fun k => rr_i (h k)
def rr_pM (h : Nat → rr_HX) : Nat → Int32 := fun k => rr_m (h k)
def rr_pU (h : Nat → rr_HX) : Nat → Int32 := fun k => rr_u (h k)
def rr_pA (h : Nat → rr_HX) : Nat → Int32 := fun k => rr_a (h k)
def rr_mk (aL aR aV aN aT aI aM aU aA : Nat → Int32) : Nat → rr_HX := fun k => (aL k, aR k, aV k, aN k, aT k, aI k, aM k, aU k, aA k)
abbrev rr_ST (ro fc sd fp sp pc : Int32) (h : Nat → rr_HX) (aC aF aP : Nat → Int32) : SX :=
  (ro, fc, sd, fp, sp, pc, rr_pL h, rr_pR h, aC, rr_pV h, rr_pN h, rr_pT h, rr_pI h, rr_pM h, rr_pU h, rr_pA h, aF, aP)
theorem rr_cl {n : Nat} (h : n ≤ 40) : (nI n).toNatClampNeg = n := nI_clamp (by omega)
theorem rr_in {n : Nat} (h : n ≤ 40) : vp_in (nI n) 41 := vp_in_nI (by omega) (by omega)
section
variable {ro fc sd fp sp pc : Int32} {h : Nat → rr_HX} {aC aF aP : Nat → Int32}
theorem rr_noteTurn {post : SX → Prop} {n : Nat} {xs : rr_LX} (H : rr_TT h n xs) (N : (rr_nd xs).Nodup)
    (K : ∀ h', rr_TT h' n xs.reverse → (∀ k, k ∉ rr_nd xs → h' k = h k) → post (rr_ST ro fc sd fp sp pc h' aC aF aP)) :
    wpX_noteTurn post (rr_ST ro fc sd fp sp pc h aC aF aP) (nI n) := by
  by_cases z : n = 0
  · subst z
    unfold wpX_noteTurn
    dsimp only
    refine br_t (rfl : nI 0 = 0) (K h ?_ (fun _ _ => rfl))
    have ez := rr_TT_z H
    subst ez
    exact H
  · have hn : 0 < n := by omega
    have h40 := rr_TT_le H
    have hc := rr_cl h40
    have hv := rr_in h40
    obtain ⟨l, r, xl, xr, V⟩ := rr_TT_inv H hn
    have b1 : vp_nar .byte (rr_pL h n) = rr_l (h n) := by
      show vp_nar .byte (rr_l (h n)) = rr_l (h n)
      rw [V.2.2.2.1]; exact rr_b l (by have := rr_TT_le V.2.2.2.2.2.1; omega)
    have b2 : vp_nar .byte (rr_pR h n) = rr_r (h n) := by
      show vp_nar .byte (rr_r (h n)) = rr_r (h n)
      rw [V.2.2.2.2.1]; exact rr_b r (by have := rr_TT_le V.2.2.2.2.2.2.1; omega)
    unfold wpX_noteTurn
    dsimp only
    rw [hc]
    refine br_f (nI_ne0 hn (by omega)) ⟨hv, ?_⟩
    by_cases t : rr_u (h n) = 0
    · refine br_t t ?_
      unfold wX_noteTurn_24
      rw [hc]
      refine ⟨hv, nm_e ⟨hv, nm_e ⟨hv, hv, nm_e ⟨hv, nm_e ?_⟩⟩⟩⟩
      have F : ∀ k, k ≠ n → rr_mk (upd (rr_pL h) n (vp_nar .byte (rr_pR h n))) (upd (rr_pR h) n (vp_nar .byte (rr_pL h n))) (rr_pV h) (rr_pN h) (rr_pT h) (rr_pI h) (rr_pM h) (upd (rr_pU h) n (vp_nar .boolean 1)) (rr_pA h) k = h k := by
        intro k hk
        unfold rr_mk
        simp only [pk_un hk]
        rfl
      refine K (rr_mk (upd (rr_pL h) n (vp_nar .byte (rr_pR h n))) (upd (rr_pR h) n (vp_nar .byte (rr_pL h n))) (rr_pV h) (rr_pN h) (rr_pT h) (rr_pI h) (rr_pM h) (upd (rr_pU h) n (vp_nar .boolean 1)) (rr_pA h)) (rr_turnT (z := 1) H hn N ?_ ?_ F) (fun k hk => F k (by rintro rfl; exact hk (rr_TT_self H hn)))
      · exact ⟨fun e => absurd e (by decide), fun e => absurd t e⟩
      · unfold rr_mk
        simp only [pk_us, b1, b2, rr_n1]
        rfl
    · refine br_f t ?_
      unfold wX_noteTurn_24
      rw [hc]
      refine ⟨hv, nm_e ⟨hv, nm_e ⟨hv, hv, nm_e ⟨hv, nm_e ?_⟩⟩⟩⟩
      have F : ∀ k, k ≠ n → rr_mk (upd (rr_pL h) n (vp_nar .byte (rr_pR h n))) (upd (rr_pR h) n (vp_nar .byte (rr_pL h n))) (rr_pV h) (rr_pN h) (rr_pT h) (rr_pI h) (rr_pM h) (upd (rr_pU h) n (vp_nar .boolean 0)) (rr_pA h) k = h k := by
        intro k hk
        unfold rr_mk
        simp only [pk_un hk]
        rfl
      refine K (rr_mk (upd (rr_pL h) n (vp_nar .byte (rr_pR h n))) (upd (rr_pR h) n (vp_nar .byte (rr_pL h n))) (rr_pV h) (rr_pN h) (rr_pT h) (rr_pI h) (rr_pM h) (upd (rr_pU h) n (vp_nar .boolean 0)) (rr_pA h)) (rr_turnT (z := 0) H hn N ?_ ?_ F) (fun k hk => F k (by rintro rfl; exact hk (rr_TT_self H hn)))
      · exact ⟨fun _ => t, fun _ => rfl⟩
      · unfold rr_mk
        simp only [pk_us, b1, b2, rr_n0]
        rfl
theorem rr_noteAdd {post : SX → Prop} {n : Nat} {xs : rr_LX} {a : Int32} (H : rr_TT h n xs) (N : (rr_nd xs).Nodup) (R : rr_rg (rr_mp a xs))
    (K : ∀ h', rr_TT h' n (rr_mp a xs) → (∀ k, k ∉ rr_nd xs → h' k = h k) → post (rr_ST ro fc sd fp sp pc h' aC aF aP)) :
    wpX_noteAdd post (rr_ST ro fc sd fp sp pc h aC aF aP) (nI n) a := by
  by_cases z : n = 0
  · subst z
    unfold wpX_noteAdd
    dsimp only
    refine br_t (rfl : nI 0 = 0) (K h ?_ (fun _ _ => rfl))
    have ez := rr_TT_z H
    subst ez
    exact H
  · have hn : 0 < n := by omega
    have h40 := rr_TT_le H
    have hc := rr_cl h40
    have hv := rr_in h40
    unfold wpX_noteAdd
    dsimp only
    rw [hc]
    refine br_f (nI_ne0 hn (by omega)) ⟨hv, hv, nm_e ⟨hv, hv, nm_e ⟨hv, hv, hv, nm_e ⟨hv, hv, nm_e ⟨hv, hv, nm_e ?_⟩⟩⟩⟩⟩
    have F : ∀ k, k ≠ n → rr_mk (rr_pL h) (rr_pR h) (upd (rr_pV h) n (rr_pV h n + a)) (rr_pN h) (upd (rr_pT h) n (rr_pT h n + a * rr_pN h n)) (upd (rr_pI h) n (rr_pI h n + a)) (upd (rr_pM h) n (rr_pM h n + a)) (rr_pU h) (upd (rr_pA h) n (rr_pA h n + a)) k = h k := by
      intro k hk
      unfold rr_mk
      simp only [pk_un hk]
      rfl
    refine K (rr_mk (rr_pL h) (rr_pR h) (upd (rr_pV h) n (rr_pV h n + a)) (rr_pN h) (upd (rr_pT h) n (rr_pT h n + a * rr_pN h n)) (upd (rr_pI h) n (rr_pI h n + a)) (upd (rr_pM h) n (rr_pM h n + a)) (rr_pU h) (upd (rr_pA h) n (rr_pA h n + a))) (rr_addT H hn N R ?_ F) (fun k hk => F k (by rintro rfl; exact hk (rr_TT_self H hn)))
    unfold rr_mk
    simp only [pk_us]
    rfl
theorem rr_pass36 {post : SX → Prop} {n l r : Nat} {xs xl xr : rr_LX} (V : rr_NV h n xs l r xl xr) (N : (rr_nd xs).Nodup) (eu : rr_u (h n) = 0)
    (K : ∀ h' (l r : Nat) (xl xr : rr_LX), rr_NV h' n xs l r xl xr → rr_u (h' n) = 0 → rr_a (h' n) = 0 → (∀ k, k ∉ rr_nd xs → h' k = h k) → post (rr_ST ro fc sd fp sp pc h' aC aF aP)) :
    wX_passNotes_36 post (nI n) ro fc sd fp sp pc (rr_pL h) (rr_pR h) aC (rr_pV h) (rr_pN h) (rr_pT h) (rr_pI h) (rr_pM h) (rr_pU h) (rr_pA h) aF aP := by
  have hn := V.1
  have h40 := V.2.1
  have hc := rr_cl h40
  have hv := rr_in h40
  have M := rr_NV_mem V
  obtain ⟨Nl, Nr, dj, n1, n2⟩ := rr_NV_nodup V N
  unfold wX_passNotes_36
  rw [hc]
  refine ⟨hv, ?_⟩
  by_cases z : rr_a (h n) = 0
  · exact br_t z (K h l r xl xr V eu z (fun _ _ => rfl))
  · obtain ⟨_, _, ok, el, er, tl, tr, e3⟩ := V
    rw [eu, rr_ef_0, rr_ef_0] at e3
    have rg := ok.2.2.2.2
    rw [e3, rr_rg_app, rr_rg_cons] at rg
    have F1 : ∀ k, k ≠ n → rr_mk (rr_pL h) (rr_pR h) (rr_pV h) (rr_pN h) (rr_pT h) (rr_pI h) (rr_pM h) (rr_pU h) (upd (rr_pA h) n 0) k = h k := by
      intro k hk
      unfold rr_mk
      simp only [pk_un hk]
      rfl
    have E1 : rr_mk (rr_pL h) (rr_pR h) (rr_pV h) (rr_pN h) (rr_pT h) (rr_pI h) (rr_pM h) (rr_pU h) (upd (rr_pA h) n 0) n = (rr_l (h n), rr_r (h n), rr_v (h n), rr_n (h n), rr_t (h n), rr_i (h n), rr_m (h n), rr_u (h n), 0) := by
      unfold rr_mk
      simp only [pk_us]
      rfl
    refine br_f z ⟨hv, nm_e ⟨hv, nm_e ⟨hv, ?_⟩⟩⟩
    rw [show rr_pL h n = nI l from el]
    refine rr_noteAdd (h := rr_mk (rr_pL h) (rr_pR h) (rr_pV h) (rr_pN h) (rr_pT h) (rr_pI h) (rr_pM h) (rr_pU h) (upd (rr_pA h) n 0)) (n := l) (xs := xl) (a := rr_pA h n) (rr_TT_fr tl fun k hk => F1 k (by rintro rfl; rcases hk with hk | hk; omega; exact n1 hk)) Nl rg.1 ?_
    intro h2 T2 F2
    dsimp only
    have e2n : h2 n = _ := (F2 n n1).trans E1
    refine ⟨hv, ?_⟩
    rw [show rr_pR h2 n = nI r from by show rr_r (h2 n) = nI r; rw [e2n]; exact er]
    refine rr_noteAdd (h := h2) (n := r) (xs := xr) (a := rr_pA h n) (rr_TT_fr tr fun k hk => ?_) Nr rg.2.2 ?_
    · rw [F2 k, F1 k]
      · rintro rfl; rcases hk with hk | hk
        · omega
        · exact n2 hk
      · rcases hk with hk | hk
        · rw [hk]; exact rr_TT_n0 tl
        · exact fun q => dj k q hk
    · intro h3 T3 F3
      have e3n : h3 n = _ := (F3 n n2).trans e2n
      have T2' : rr_TT h3 l (rr_mp (rr_pA h n) xl) := rr_TT_fr T2 fun k hk => F3 k (by
        rcases hk with hk | hk
        · rw [hk]; exact rr_TT_n0 tr
        · rw [rr_nd_mp] at hk; exact dj k hk)
      refine K h3 l r (rr_mp (rr_pA h n) xl) (rr_mp (rr_pA h n) xr) ⟨hn, h40, by rw [e3n]; exact ok, by rw [e3n]; exact el, by rw [e3n]; exact er, T2', T3, ?_⟩ (by rw [e3n]; exact eu) (by rw [e3n]; rfl) ?_
      · rw [e3n]
        show xs = rr_ef (rr_u (h n)) 0 _ ++ (n, rr_v (h n)) :: rr_ef (rr_u (h n)) 0 _
        rw [eu, rr_ef_00, rr_ef_00]
        exact e3
      · intro k hk
        have q := fun w => hk ((M k).mpr w)
        rw [F3 k (fun w => q (Or.inr (Or.inr w))), F2 k (fun w => q (Or.inl w)), F1 k (fun w => q (Or.inr (Or.inl w)))]
theorem rr_passNotes {post : SX → Prop} {n : Nat} {xs : rr_LX} (H : rr_TT h n xs) (hn : 0 < n) (N : (rr_nd xs).Nodup)
    (K : ∀ h' (l r : Nat) (xl xr : rr_LX), rr_NV h' n xs l r xl xr → rr_u (h' n) = 0 → rr_a (h' n) = 0 → (∀ k, k ∉ rr_nd xs → h' k = h k) → post (rr_ST ro fc sd fp sp pc h' aC aF aP)) :
    wpX_passNotes post (rr_ST ro fc sd fp sp pc h aC aF aP) (nI n) := by
  obtain ⟨l, r, xl, xr, V⟩ := rr_TT_inv H hn
  have h40 := V.2.1
  have hc := rr_cl h40
  have hv := rr_in h40
  have M := rr_NV_mem V
  obtain ⟨Nl, Nr, dj, n1, n2⟩ := rr_NV_nodup V N
  unfold wpX_passNotes
  dsimp only
  rw [hc]
  refine ⟨hv, ?_⟩
  by_cases t : rr_u (h n) = 0
  · exact br_t t (rr_pass36 V N t K)
  · refine br_f t ⟨hv, ?_⟩
    obtain ⟨_, _, ok, el, er, tl, tr, e3⟩ := V
    rw [rr_ef_nz t, rr_ef_nz t] at e3
    rw [show rr_pL h n = nI l from el]
    refine rr_noteTurn (h := h) (n := l) (xs := xl) tl Nl ?_
    intro h1 T1 F1
    dsimp only
    have e1n : h1 n = h n := F1 n n1
    refine ⟨hv, ?_⟩
    rw [show rr_pR h1 n = nI r from by show rr_r (h1 n) = nI r; rw [e1n]; exact er]
    refine rr_noteTurn (h := h1) (n := r) (xs := xr) (rr_TT_fr tr fun k hk => F1 k ?_) Nr ?_
    · rcases hk with hk | hk
      · rw [hk]; exact rr_TT_n0 tl
      · exact fun q => dj k q hk
    · intro h2 T2 F2
      dsimp only
      have e2n : h2 n = h n := (F2 n n2).trans e1n
      refine ⟨hv, nm_e ?_⟩
      have F3 : ∀ k, k ≠ n → rr_mk (rr_pL h2) (rr_pR h2) (rr_pV h2) (rr_pN h2) (rr_pT h2) (rr_pI h2) (rr_pM h2) (upd (rr_pU h2) n (vp_nar .boolean 0)) (rr_pA h2) k = h2 k := by
        intro k hk
        unfold rr_mk
        simp only [pk_un hk]
        rfl
      have E3 : rr_mk (rr_pL h2) (rr_pR h2) (rr_pV h2) (rr_pN h2) (rr_pT h2) (rr_pI h2) (rr_pM h2) (upd (rr_pU h2) n (vp_nar .boolean 0)) (rr_pA h2) n = (rr_l (h n), rr_r (h n), rr_v (h n), rr_n (h n), rr_t (h n), rr_i (h n), rr_m (h n), 0, rr_a (h n)) := by
        unfold rr_mk
        simp only [pk_us]
        show (rr_l (h2 n), rr_r (h2 n), rr_v (h2 n), rr_n (h2 n), rr_t (h2 n), rr_i (h2 n), rr_m (h2 n), vp_nar .boolean 0, rr_a (h2 n)) = _
        rw [e2n, rr_n0]
      refine rr_pass36 (h := rr_mk (rr_pL h2) (rr_pR h2) (rr_pV h2) (rr_pN h2) (rr_pT h2) (rr_pI h2) (rr_pM h2) (upd (rr_pU h2) n (vp_nar .boolean 0)) (rr_pA h2)) (n := n) (l := l) (r := r) (xs := xs) (xl := xl.reverse) (xr := xr.reverse) ?_ N ?_ ?_
      · refine ⟨hn, h40, by rw [E3]; exact ok, by rw [E3]; exact el, by rw [E3]; exact er, rr_TT_fr T1 fun k hk => ?_, rr_TT_fr T2 fun k hk => F3 k ?_, ?_⟩
        · rw [F3 k, F2 k]
          · rcases hk with hk | hk
            · rw [hk]; exact rr_TT_n0 tr
            · rw [rr_nd_rev, List.mem_reverse] at hk; exact dj k hk
          · rintro rfl; rcases hk with hk | hk
            · omega
            · rw [rr_nd_rev, List.mem_reverse] at hk; exact n1 hk
        · rintro rfl; rcases hk with hk | hk
          · omega
          · rw [rr_nd_rev, List.mem_reverse] at hk; exact n2 hk
        · rw [E3]
          exact e3
      · rw [E3]; rfl
      · intro h' l' r' xl' xr' V' u' a' F'
        refine K h' l' r' xl' xr' V' u' a' fun k hk => ?_
        have q := fun w => hk ((M k).mpr w)
        rw [F' k hk, F3 k (fun w => q (Or.inr (Or.inl w))), F2 k (fun w => q (Or.inr (Or.inr w))), F1 k (fun w => q (Or.inl w))]
end
end
section
/-! part 04: the walks of hang and update -/
def rr_sb (b : Bool) (x : Int32) (r : rr_HX) : rr_HX :=
  if b = true then (rr_l r, x, rr_v r, rr_n r, rr_t r, rr_i r, rr_m r, rr_u r, rr_a r) else (x, rr_r r, rr_v r, rr_n r, rr_t r, rr_i r, rr_m r, rr_u r, rr_a r)
/-- the heap with n hung under e (to the right if b), nothing changed if e is no node -/
def rr_hg (b : Bool) (e n : Nat) (h : Nat → rr_HX) (k : Nat) : rr_HX := if k = e ∧ 0 < k then rr_sb b (nI n) (h k) else h k
theorem rr_hg_ne {b : Bool} {e n k : Nat} {h : Nat → rr_HX} (q : k ≠ e) : rr_hg b e n h k = h k := if_neg fun c => q c.1
theorem rr_hg_0 {b : Bool} {e n : Nat} {h : Nat → rr_HX} : rr_hg b e n h 0 = h 0 := if_neg fun c => absurd c.2 (by omega)
theorem rr_hg_z {b : Bool} {n k : Nat} {h : Nat → rr_HX} : rr_hg b 0 n h k = h k := if_neg fun c => absurd c.2 (by omega)
theorem rr_hg_eq {b : Bool} {e n : Nat} {h : Nat → rr_HX} (q : 0 < e) : rr_hg b e n h e = rr_sb b (nI n) (h e) := if_pos ⟨rfl, q⟩
theorem rr_hg_c {b : Bool} {e n k : Nat} {h h' : Nat → rr_HX} (q : h k = h' k) : rr_hg b e n h k = rr_hg b e n h' k := by unfold rr_hg; rw [q]
theorem rr_hg_comm {b c : Bool} {e1 e2 n1 n2 k : Nat} {h : Nat → rr_HX} (he : e1 = 0 ∨ e1 ≠ e2) : rr_hg b e1 n1 (rr_hg c e2 n2 h) k = rr_hg c e2 n2 (rr_hg b e1 n1 h) k := by
  by_cases z : k = 0
  · subst z; rw [rr_hg_0, rr_hg_0, rr_hg_0, rr_hg_0]
  · by_cases q : k = e1
    · have q2 : k ≠ e2 := by omega
      rw [rr_hg_ne (e := e2) q2]
      exact rr_hg_c (rr_hg_ne q2)
    · rw [rr_hg_ne (e := e1) q]
      exact rr_hg_c (rr_hg_ne q).symm
section
variable {ro fc sd fp sp pc : Int32} {h : Nat → rr_HX} {aC aF aP : Nat → Int32}
theorem rr_hangA {post : SX → Prop} {e n : Nat} {p1 : Int32} (b : Bool) (he : e ≤ 40) (hn : n ≤ 40) (hp : p1 = if b = true then 1 else 0)
    (K : ∀ h' fp', fp' = (if e = 0 then nI n else fp) → (∀ k, h' k = rr_hg b e n h k) → post (rr_ST ro fc sd fp' sp pc h' aC aF aP)) :
    wpX_hang post (rr_ST ro fc sd fp sp pc h aC aF aP) (nI e) p1 (nI n) 1 := by
  unfold wpX_hang
  dsimp only
  by_cases z : e = 0
  · subst z
    exact br_t (rfl : nI 0 = 0) (br_f (by decide) (K h (nI n) (by rw [if_pos rfl]) (fun k => rr_hg_z.symm)))
  · have hv := rr_in he
    have ez : 0 < e := by omega
    rw [rr_cl he, rr_bb n (by omega)]
    refine br_f (nI_ne0 ez (by omega)) ?_
    cases b with
    | true =>
      rw [if_pos rfl] at hp
      subst hp
      refine br_f (by decide) ⟨hv, nm_e (K (rr_mk (rr_pL h) (upd (rr_pR h) e (nI n)) (rr_pV h) (rr_pN h) (rr_pT h) (rr_pI h) (rr_pM h) (rr_pU h) (rr_pA h)) fp (by rw [if_neg z]) fun k => ?_)⟩
      unfold rr_mk
      by_cases q : k = e
      · subst q
        rw [rr_hg_eq ez, pk_us]
        rfl
      · rw [rr_hg_ne q, pk_un q]
        rfl
    | false =>
      rw [if_neg (by decide)] at hp
      subst hp
      refine br_t rfl ⟨hv, nm_e (K (rr_mk (upd (rr_pL h) e (nI n)) (rr_pR h) (rr_pV h) (rr_pN h) (rr_pT h) (rr_pI h) (rr_pM h) (rr_pU h) (rr_pA h)) fp (by rw [if_neg z]) fun k => ?_)⟩
      unfold rr_mk
      by_cases q : k = e
      · subst q
        rw [rr_hg_eq ez, pk_us]
        rfl
      · rw [rr_hg_ne q, pk_un q]
        rfl
theorem rr_hangB {post : SX → Prop} {e n : Nat} (he : e ≤ 40) (hn : n ≤ 40)
    (K : ∀ h' sp', sp' = (if e = 0 then nI n else sp) → (∀ k, h' k = rr_hg false e n h k) → post (rr_ST ro fc sd fp sp' pc h' aC aF aP)) :
    wpX_hang post (rr_ST ro fc sd fp sp pc h aC aF aP) (nI e) 0 (nI n) 0 := by
  unfold wpX_hang
  dsimp only
  by_cases z : e = 0
  · subst z
    exact br_t (rfl : nI 0 = 0) (br_t rfl (K h (nI n) (by rw [if_pos rfl]) (fun k => rr_hg_z.symm)))
  · have hv := rr_in he
    have ez : 0 < e := by omega
    rw [rr_cl he, rr_bb n (by omega)]
    refine br_f (nI_ne0 ez (by omega)) ?_
    refine br_t rfl ⟨hv, nm_e (K (rr_mk (upd (rr_pL h) e (nI n)) (rr_pR h) (rr_pV h) (rr_pN h) (rr_pT h) (rr_pI h) (rr_pM h) (rr_pU h) (rr_pA h)) sp (by rw [if_neg z]) fun k => ?_)⟩
    unfold rr_mk
    by_cases q : k = e
    · subst q
      rw [rr_hg_eq ez, pk_us]
      rfl
    · rw [rr_hg_ne q, pk_un q]
      rfl
end
theorem rr_mxS {r : Nat} {xr ys : rr_LX} {aM : Nat → Int32} {x5 : Int32} {A : Int32 → Prop} (hr : (r = 0 ∧ xr = []) ∨ (0 < r ∧ r ≤ 40 ∧ rr_mx (aM r) xr)) (hx : rr_mx x5 ys) (K : ∀ x, rr_mx x (ys ++ xr) → A x) :
    (nI r = 0 → A x5) ∧ (¬ nI r = 0 → (vp_in (nI r) 41 ∧ ((aM (nI r).toNatClampNeg ≤ x5 → A x5) ∧ (¬ aM (nI r).toNatClampNeg ≤ x5 → (vp_in (nI r) 41 ∧ (∀ y : Int32, y = aM (nI r).toNatClampNeg → A y)))))) := by
  rcases hr with ⟨rfl, rfl⟩ | ⟨h0, h40, hm⟩
  · exact br_t rfl (K x5 (by rw [List.append_nil]; exact hx))
  · rw [rr_cl h40]
    refine br_f (nI_ne0 h0 (by omega)) ⟨rr_in h40, ?_⟩
    by_cases c : aM r ≤ x5
    · exact br_t c (K x5 (rr_mx_l hx hm (Int32.le_iff_toInt_le.mp c)))
    · refine br_f c ⟨rr_in h40, nm_e (K (aM r) (rr_mx_r hx hm ?_))⟩
      have c' : ¬ (aM r).toInt ≤ x5.toInt := fun q => c (Int32.le_iff_toInt_le.mpr q)
      omega
theorem rr_mnS {r : Nat} {xr ys : rr_LX} {aM : Nat → Int32} {x5 : Int32} {A : Int32 → Prop} (hr : (r = 0 ∧ xr = []) ∨ (0 < r ∧ r ≤ 40 ∧ rr_mn (aM r) xr)) (hx : rr_mn x5 ys) (K : ∀ x, rr_mn x (ys ++ xr) → A x) :
    (nI r = 0 → A x5) ∧ (¬ nI r = 0 → (vp_in (nI r) 41 ∧ ((x5 ≤ aM (nI r).toNatClampNeg → A x5) ∧ (¬ x5 ≤ aM (nI r).toNatClampNeg → (vp_in (nI r) 41 ∧ (∀ y : Int32, y = aM (nI r).toNatClampNeg → A y)))))) := by
  rcases hr with ⟨rfl, rfl⟩ | ⟨h0, h40, hm⟩
  · exact br_t rfl (K x5 (by rw [List.append_nil]; exact hx))
  · rw [rr_cl h40]
    refine br_f (nI_ne0 h0 (by omega)) ⟨rr_in h40, ?_⟩
    by_cases c : x5 ≤ aM r
    · exact br_t c (K x5 (rr_mn_l hx hm (Int32.le_iff_toInt_le.mp c)))
    · refine br_f c ⟨rr_in h40, nm_e (K (aM r) (rr_mn_r hx hm ?_))⟩
      have c' : ¬ x5.toInt ≤ (aM r).toInt := fun q => c (Int32.le_iff_toInt_le.mpr q)
      omega
theorem rr_mem_mid {p q : Nat × Int32} {xl xr : rr_LX} : q ∈ ([p] ++ xl) ++ xr ↔ q ∈ xl ++ p :: xr := by
  simp only [List.mem_append, List.mem_cons, List.not_mem_nil, or_false]
  constructor
  · rintro ((a | a) | a)
    · exact Or.inr (Or.inl a)
    · exact Or.inl a
    · exact Or.inr (Or.inr a)
  · rintro (a | a | a)
    · exact Or.inl (Or.inr a)
    · exact Or.inl (Or.inl a)
    · exact Or.inr a
theorem rr_mn_c {m : Int32} {xs ys : rr_LX} (E : ∀ q, q ∈ xs ↔ q ∈ ys) (H : rr_mn m xs) : rr_mn m ys :=
  ⟨H.1.elim fun p hp => ⟨p, (E p).mp hp.1, hp.2⟩, fun p hp => H.2 p ((E p).mpr hp)⟩
theorem rr_mx_c {m : Int32} {xs ys : rr_LX} (E : ∀ q, q ∈ xs ↔ q ∈ ys) (H : rr_mx m xs) : rr_mx m ys :=
  ⟨H.1.elim fun p hp => ⟨p, (E p).mp hp.1, hp.2⟩, fun p hp => H.2 p ((E p).mpr hp)⟩
theorem rr_TT_or {h : Nat → rr_HX} {r : Nat} {xr : rr_LX} (H : rr_TT h r xr) : (r = 0 ∧ xr = []) ∨ (0 < r ∧ r ≤ 40 ∧ rr_ok (h r) xr) := by
  by_cases z : r = 0
  · subst z; exact Or.inl ⟨rfl, rr_TT_z H⟩
  · exact Or.inr ⟨by omega, rr_TT_le H, rr_TT_ok H (by omega)⟩
section
variable {ro fc sd fp sp pc : Int32} {h : Nat → rr_HX} {aC aF aP : Nat → Int32}
/-- the last joins of update: least and greatest -/
theorem rr_u76 {post : SX → Prop} {n l r : Nat} {xl xr : rr_LX} {z0 z1 : Int32} {aN : Nat → Int32} (h40 : n ≤ 40) (tl : rr_TT h l xl) (tr : rr_TT h r xr)
    (K : ∀ lo hi, rr_mn lo (xl ++ (n, rr_v (h n)) :: xr) → rr_mx hi (xl ++ (n, rr_v (h n)) :: xr) → post (ro, fc, sd, fp, sp, pc, rr_pL h, rr_pR h, aC, rr_pV h, aN, upd (rr_pT h) n (z1 + z0), upd (rr_pI h) n lo, upd (rr_pM h) n hi, rr_pU h, rr_pA h, aF, aP)) :
    wX_update_76 post (nI n) (nI l) (nI r) z0 z1 (nI n) ro fc sd fp sp pc (rr_pL h) (rr_pR h) aC (rr_pV h) aN (rr_pT h) (rr_pI h) (rr_pM h) (rr_pU h) (rr_pA h) aF aP := by
  have hc := rr_cl h40
  have hv := rr_in h40
  have il : (l = 0 ∧ xl = []) ∨ (0 < l ∧ l ≤ 40 ∧ rr_mn (rr_pI h l) xl) := (rr_TT_or tl).imp id fun q => ⟨q.1, q.2.1, q.2.2.2.2.1⟩
  have ir : (r = 0 ∧ xr = []) ∨ (0 < r ∧ r ≤ 40 ∧ rr_mn (rr_pI h r) xr) := (rr_TT_or tr).imp id fun q => ⟨q.1, q.2.1, q.2.2.2.2.1⟩
  have ml : (l = 0 ∧ xl = []) ∨ (0 < l ∧ l ≤ 40 ∧ rr_mx (rr_pM h l) xl) := (rr_TT_or tl).imp id fun q => ⟨q.1, q.2.1, q.2.2.2.2.2.1⟩
  have mr : (r = 0 ∧ xr = []) ∨ (0 < r ∧ r ≤ 40 ∧ rr_mx (rr_pM h r) xr) := (rr_TT_or tr).imp id fun q => ⟨q.1, q.2.1, q.2.2.2.2.2.1⟩
  have S186 : ∀ lo hi, rr_mn lo (([(n, rr_v (h n))] ++ xl) ++ xr) → rr_mx hi (([(n, rr_v (h n))] ++ xl) ++ xr) → wX_update_186 post (nI n) lo hi ro fc sd fp sp pc (rr_pL h) (rr_pR h) aC (rr_pV h) aN (upd (rr_pT h) n (z1 + z0)) (rr_pI h) (rr_pM h) (rr_pU h) (rr_pA h) aF aP := by
    intro lo hi h1 h2
    unfold wX_update_186
    rw [hc]
    exact ⟨hv, nm_e ⟨hv, nm_e (K lo hi (rr_mn_c (fun q => rr_mem_mid) h1) (rr_mx_c (fun q => rr_mem_mid) h2))⟩⟩
  have S163 : ∀ lo hi, rr_mn lo (([(n, rr_v (h n))] ++ xl) ++ xr) → rr_mx hi ([(n, rr_v (h n))] ++ xl) → wX_update_163 post (nI n) (nI r) lo hi ro fc sd fp sp pc (rr_pL h) (rr_pR h) aC (rr_pV h) aN (upd (rr_pT h) n (z1 + z0)) (rr_pI h) (rr_pM h) (rr_pU h) (rr_pA h) aF aP := by
    intro lo hi h1 h2
    exact rr_mxS (A := fun x => wX_update_186 post (nI n) lo x ro fc sd fp sp pc (rr_pL h) (rr_pR h) aC (rr_pV h) aN (upd (rr_pT h) n (z1 + z0)) (rr_pI h) (rr_pM h) (rr_pU h) (rr_pA h) aF aP) mr h2 (fun x hx => S186 lo x h1 hx)
  have S140 : ∀ lo hi, rr_mn lo (([(n, rr_v (h n))] ++ xl) ++ xr) → rr_mx hi [(n, rr_v (h n))] → wX_update_140 post (nI n) (nI l) (nI r) lo hi ro fc sd fp sp pc (rr_pL h) (rr_pR h) aC (rr_pV h) aN (upd (rr_pT h) n (z1 + z0)) (rr_pI h) (rr_pM h) (rr_pU h) (rr_pA h) aF aP := by
    intro lo hi h1 h2
    exact rr_mxS (A := fun x => wX_update_163 post (nI n) (nI r) lo x ro fc sd fp sp pc (rr_pL h) (rr_pR h) aC (rr_pV h) aN (upd (rr_pT h) n (z1 + z0)) (rr_pI h) (rr_pM h) (rr_pU h) (rr_pA h) aF aP) ml h2 (fun x hx => S163 lo x h1 hx)
  have S117 : ∀ lo hi, rr_mn lo ([(n, rr_v (h n))] ++ xl) → rr_mx hi [(n, rr_v (h n))] → wX_update_117 post (nI n) (nI l) (nI r) lo hi ro fc sd fp sp pc (rr_pL h) (rr_pR h) aC (rr_pV h) aN (upd (rr_pT h) n (z1 + z0)) (rr_pI h) (rr_pM h) (rr_pU h) (rr_pA h) aF aP := by
    intro lo hi h1 h2
    exact rr_mnS (A := fun x => wX_update_140 post (nI n) (nI l) (nI r) x hi ro fc sd fp sp pc (rr_pL h) (rr_pR h) aC (rr_pV h) aN (upd (rr_pT h) n (z1 + z0)) (rr_pI h) (rr_pM h) (rr_pU h) (rr_pA h) aF aP) ir h1 (fun x hx => S140 x hi hx h2)
  unfold wX_update_76
  rw [hc]
  refine ⟨hv, nm_e ⟨hv, nm_e ⟨hv, nm_e ?_⟩⟩⟩
  exact rr_mnS (A := fun x => wX_update_117 post (nI n) (nI l) (nI r) x (rr_pV h n) ro fc sd fp sp pc (rr_pL h) (rr_pR h) aC (rr_pV h) aN (upd (rr_pT h) n (z1 + z0)) (rr_pI h) (rr_pM h) (rr_pU h) (rr_pA h) aF aP) il (rr_mn_1 (n, rr_v (h n))) (fun x hx => S117 x _ hx (rr_mx_1 (n, rr_v (h n))))
theorem rr_update {post : SX → Prop} {n l r : Nat} {xl xr : rr_LX} (hn : 0 < n) (h40 : n ≤ 40) (tl : rr_TT h l xl) (tr : rr_TT h r xr) (n1 : n ∉ rr_nd xl) (n2 : n ∉ rr_nd xr)
    (el : rr_l (h n) = nI l) (er : rr_r (h n) = nI r) (eu : rr_u (h n) = 0) (ea : rr_a (h n) = 0)
    (vr : -1000000 ≤ (rr_v (h n)).toInt ∧ (rr_v (h n)).toInt ≤ 1000000) (hlen : xl.length + xr.length + 1 ≤ 40)
    (K : ∀ h', rr_TT h' n (xl ++ (n, rr_v (h n)) :: xr) → (∀ k, k ≠ n → h' k = h k) → post (rr_ST ro fc sd fp sp pc h' aC aF aP)) :
    wpX_update post (rr_ST ro fc sd fp sp pc h aC aF aP) (nI n) := by
  have hc := rr_cl h40
  have hv := rr_in h40
  have l40 := rr_TT_le tl
  have r40 := rr_TT_le tr
  have C : vp_nar .byte (((rr_pN h (nI l).toNatClampNeg + rr_pN h (nI r).toNatClampNeg) + 1).toInt8.toInt32) = nI (xl.length + xr.length + 1) := by
    rw [rr_cl l40, rr_cl r40]
    rw [show rr_pN h l = nI xl.length from rr_TT_cnt tl, show rr_pN h r = nI xr.length from rr_TT_cnt tr, nI_add, nI_1]
    exact rr_bb _ (by omega)
  have G : ∀ tt lo hi, tt = rr_v (h n) + rr_sm xl + rr_sm xr → rr_mn lo (xl ++ (n, rr_v (h n)) :: xr) → rr_mx hi (xl ++ (n, rr_v (h n)) :: xr) → post (ro, fc, sd, fp, sp, pc, rr_pL h, rr_pR h, aC, rr_pV h, upd (rr_pN h) n (nI (xl.length + xr.length + 1)), upd (rr_pT h) n tt, upd (rr_pI h) n lo, upd (rr_pM h) n hi, rr_pU h, rr_pA h, aF, aP) := by
    intro tt lo hi e1 e2 e3
    have F : ∀ k, k ≠ n → rr_mk (rr_pL h) (rr_pR h) (rr_pV h) (upd (rr_pN h) n (nI (xl.length + xr.length + 1))) (upd (rr_pT h) n tt) (upd (rr_pI h) n lo) (upd (rr_pM h) n hi) (rr_pU h) (rr_pA h) k = h k := by
      intro k hk
      unfold rr_mk
      simp only [pk_un hk]
      rfl
    refine K (rr_mk (rr_pL h) (rr_pR h) (rr_pV h) (upd (rr_pN h) n (nI (xl.length + xr.length + 1))) (upd (rr_pT h) n tt) (upd (rr_pI h) n lo) (upd (rr_pM h) n hi) (rr_pU h) (rr_pA h)) (rr_updT hn h40 tl tr n1 n2 el er eu ea vr rfl e1 e2 e3 ?_ F) F
    unfold rr_mk
    simp only [pk_us]
    rfl
  have S61 : ∀ z0, z0 = rr_sm xl → wX_update_61 post (nI n) (nI l) (nI r) z0 (rr_pV h n) (nI n) ro fc sd fp sp pc (rr_pL h) (rr_pR h) aC (rr_pV h) (upd (rr_pN h) n (nI (xl.length + xr.length + 1))) (rr_pT h) (rr_pI h) (rr_pM h) (rr_pU h) (rr_pA h) aF aP := by
    intro z0 e0
    unfold wX_update_61
    rw [rr_cl r40]
    rcases rr_TT_or tr with ⟨q1, q2⟩ | ⟨q1, q2, q3⟩
    · refine br_t (by rw [q1]; rfl) (rr_u76 h40 tl tr fun lo hi e2 e3 => G _ lo hi ?_ e2 e3)
      rw [q2, e0]; rfl
    · refine br_f (nI_ne0 q1 (by omega)) ⟨rr_in r40, rr_u76 h40 tl tr fun lo hi e2 e3 => G _ lo hi ?_ e2 e3⟩
      rw [e0, show rr_pT h r = rr_sm xr from q3.2.1]; rfl
  unfold wpX_update
  dsimp only
  rw [hc]
  refine ⟨hv, nm_r (show rr_pL h n = nI l from el) ⟨hv, nm_r (show rr_pR h n = nI r from er) ⟨rr_in l40, rr_in r40, hv, nm_r (e' := upd (rr_pN h) n (nI (xl.length + xr.length + 1))) (by rw [C]) ⟨hv, ?_⟩⟩⟩⟩
  rcases rr_TT_or tl with ⟨q1, q2⟩ | ⟨q1, q2, q3⟩
  · exact br_t (by rw [q1]; rfl) (S61 0 (by rw [q2]; rfl))
  · refine br_f (nI_ne0 q1 (by omega)) ⟨rr_in l40, S61 _ ?_⟩
    rw [rr_cl l40]
    exact q3.2.1
end
end
section
/-! part 05: the walks of updatePassed and cut -/
/-- the first j nodes of the passed list are still to be mended -/
def rr_UP (post : SX → Prop) (j : Nat) (ro fc sd fp sp pc : Int32) (h : Nat → rr_HX) (aC aF aP : Nat → Int32) : Prop :=
  ∀ m, j < m → wX_updatePassed_7 post m (nI j - 1) ro fc sd fp sp pc (rr_pL h) (rr_pR h) aC (rr_pV h) (rr_pN h) (rr_pT h) (rr_pI h) (rr_pM h) (rr_pU h) (rr_pA h) aF aP
section
variable {ro fc sd fp sp pc : Int32} {h : Nat → rr_HX} {aC aF aP : Nat → Int32}
theorem rr_UP_0 {post : SX → Prop} (H : post (rr_ST ro fc sd fp sp pc h aC aF aP)) : rr_UP post 0 ro fc sd fp sp pc h aC aF aP := by
  intro m hm
  cases m with
  | zero => omega
  | succ m =>
    unfold wX_updatePassed_7
    exact br_t (by decide) H
theorem rr_UP_S {post : SX → Prop} {j n l r : Nat} {xl xr : rr_LX} (hj : j ≤ 40) (ep : aP j = nI n) (hn : 0 < n) (h40 : n ≤ 40) (tl : rr_TT h l xl) (tr : rr_TT h r xr) (n1 : n ∉ rr_nd xl) (n2 : n ∉ rr_nd xr)
    (el : rr_l (h n) = nI l) (er : rr_r (h n) = nI r) (eu : rr_u (h n) = 0) (ea : rr_a (h n) = 0)
    (vr : -1000000 ≤ (rr_v (h n)).toInt ∧ (rr_v (h n)).toInt ≤ 1000000) (hlen : xl.length + xr.length + 1 ≤ 40)
    (K : ∀ h', rr_TT h' n (xl ++ (n, rr_v (h n)) :: xr) → (∀ k, k ≠ n → h' k = h k) → rr_UP post j ro fc sd fp sp pc h' aC aF aP) :
    rr_UP post (j + 1) ro fc sd fp sp pc h aC aF aP := by
  intro m hm
  cases m with
  | zero => omega
  | succ m =>
    unfold wX_updatePassed_7
    rw [nI_pred]
    refine br_f (nI_pos (by omega)) ⟨rr_in hj, ?_⟩
    rw [rr_cl hj, ep]
    refine rr_update hn h40 tl tr n1 n2 el er eu ea vr hlen ?_
    intro h' T F
    dsimp only
    refine nm_r (rr_subm _) ?_
    exact K h' T F m (by omega)
theorem rr_updatePassed {post : SX → Prop} {j : Nat} (H : rr_UP post j ro fc sd fp sp (nI j) h aC aF aP) : wpX_updatePassed post (rr_ST ro fc sd fp sp (nI j) h aC aF aP) := by
  unfold wpX_updatePassed
  dsimp only
  exact nm_e ⟨j + 1, H (j + 1) (by omega)⟩
end
theorem rr_take_l {α : Type} {xl ys : List α} {k : Nat} (h : k ≤ xl.length) : (xl ++ ys).take k = xl.take k := by
  rw [List.take_append, show k - xl.length = 0 by omega, List.take_zero, List.append_nil]
theorem rr_drop_l {α : Type} {xl ys : List α} {k : Nat} (h : k ≤ xl.length) : (xl ++ ys).drop k = xl.drop k ++ ys := by
  rw [List.drop_append, show k - xl.length = 0 by omega, List.drop_zero]
theorem rr_take_r {α : Type} {xl ys : List α} {p : α} {k : Nat} (h : xl.length < k) : (xl ++ p :: ys).take k = xl ++ p :: ys.take (k - (xl.length + 1)) := by
  obtain ⟨c, rfl⟩ : ∃ c, k = xl.length + (c + 1) := ⟨k - xl.length - 1, by omega⟩
  rw [List.take_append, List.take_of_length_le (by omega), show xl.length + (c + 1) - xl.length = c + 1 by omega, List.take_succ_cons, show xl.length + (c + 1) - (xl.length + 1) = c by omega]
theorem rr_drop_r {α : Type} {xl ys : List α} {p : α} {k : Nat} (h : xl.length < k) : (xl ++ p :: ys).drop k = ys.drop (k - (xl.length + 1)) := by
  obtain ⟨c, rfl⟩ : ∃ c, k = xl.length + (c + 1) := ⟨k - xl.length - 1, by omega⟩
  rw [List.drop_append, List.drop_eq_nil_of_le (by omega), show xl.length + (c + 1) - xl.length = c + 1 by omega, List.drop_succ_cons, show xl.length + (c + 1) - (xl.length + 1) = c by omega, List.nil_append]
theorem rr_nd_take {xs : rr_LX} {k j : Nat} (h : k ∈ rr_nd (xs.take j)) : k ∈ rr_nd xs := by
  rw [rr_nd, List.map_take] at h; exact List.mem_of_mem_take h
theorem rr_nd_drop {xs : rr_LX} {k j : Nat} (h : k ∈ rr_nd (xs.drop j)) : k ∈ rr_nd xs := by
  rw [rr_nd, List.map_drop] at h; exact List.mem_of_mem_drop h
theorem rr_NV_00 {h : Nat → rr_HX} {n : Nat} {xs : rr_LX} {l r : Nat} {xl xr : rr_LX} (H : rr_NV h n xs l r xl xr) (eu : rr_u (h n) = 0) (ea : rr_a (h n) = 0) : xs = xl ++ (n, rr_v (h n)) :: xr := by
  have e := H.2.2.2.2.2.2.2
  rw [eu, ea, rr_ef_00, rr_ef_00] at e
  exact e
theorem rr_NV_v {h : Nat → rr_HX} {n : Nat} {xs : rr_LX} {l r : Nat} {xl xr : rr_LX} (H : rr_NV h n xs l r xl xr) : -1000000 ≤ (rr_v (h n)).toInt ∧ (rr_v (h n)).toInt ≤ 1000000 := by
  have g := H.2.2.1.2.2.2.2
  rw [H.2.2.2.2.2.2.2, rr_rg_app, rr_rg_cons] at g
  exact g.2.1
theorem rr_sb_t (x : Int32) (r : rr_HX) : rr_sb true x r = (rr_l r, x, rr_v r, rr_n r, rr_t r, rr_i r, rr_m r, rr_u r, rr_a r) := rfl
theorem rr_sb_f (x : Int32) (r : rr_HX) : rr_sb false x r = (x, rr_r r, rr_v r, rr_n r, rr_t r, rr_i r, rr_m r, rr_u r, rr_a r) := rfl
section
variable {post : SX → Prop} {ro fc sd : Int32} {aC aF : Nat → Int32}
theorem rr_cutL : ∀ (m : Nat) {n rest e1 e2 pc : Nat} {xs : rr_LX} {fp sp : Int32} {h : Nat → rr_HX} {aP : Nat → Int32}, xs.length < m → rr_TT h n xs → (rr_nd xs).Nodup → pc + xs.length ≤ 40 → e1 ≤ 40 → e2 ≤ 40 → e1 ∉ rr_nd xs → e2 ∉ rr_nd xs → (e1 = 0 ∨ e1 ≠ e2) → rest ≤ 40 →
    (∀ (h' : Nat → rr_HX) (fp' sp' pc' : Int32) (aP' : Nat → Int32) (n1 n2 : Nat), rr_TT h' n1 (xs.take rest) → rr_TT h' n2 (xs.drop rest) → fp' = (if e1 = 0 then nI n1 else fp) → sp' = (if e2 = 0 then nI n2 else sp) → (∀ k, k ∉ rr_nd xs → h' k = rr_hg false e2 n2 (rr_hg true e1 n1 h) k) → (∀ k, k < pc → aP' k = aP k) → rr_UP post pc ro fc sd fp' sp' pc' h' aC aF aP') →
    wX_cut_26 post m (nI n) (nI rest) (nI e1) (nI e2) ro fc sd fp sp (nI pc) (rr_pL h) (rr_pR h) aC (rr_pV h) (rr_pN h) (rr_pT h) (rr_pI h) (rr_pM h) (rr_pU h) (rr_pA h) aF aP := by
  intro m
  induction m with
  | zero => intro n rest e1 e2 pc xs fp sp h aP hm; omega
  | succ m ih =>
    intro n rest e1 e2 pc xs fp sp h aP hm H N hpc he1 he2 me1 me2 hee hr K
    by_cases z : n = 0
    · subst z
      have ex := rr_TT_z H
      subst ex
      unfold wX_cut_26
      refine br_t (rfl : nI 0 = 0) ?_
      refine rr_hangA (n := 0) true he1 (by omega) rfl ?_
      intro h1 fp1 ef1 H1
      dsimp only
      refine rr_hangB (n := 0) he2 (by omega) ?_
      intro h2 sp2 es2 H2
      dsimp only
      refine rr_updatePassed ?_
      have F : ∀ k, h2 k = rr_hg false e2 0 (rr_hg true e1 0 h) k := fun k => (H2 k).trans (rr_hg_c (H1 k))
      have T0 : rr_TT h2 0 [] := rr_TT_nil (by rw [F 0, rr_hg_0, rr_hg_0]; exact rr_TT_h0 H)
      exact K h2 fp1 sp2 (nI pc) aP 0 0 (by rw [List.take_nil]; exact T0) (by rw [List.drop_nil]; exact T0) ef1 es2 (fun k _ => F k) (fun _ _ => rfl)
    · have hn : 0 < n := by omega
      have h40 := rr_TT_le H
      have hc := rr_cl h40
      have hv := rr_in h40
      have sn := rr_TT_self H hn
      have ne1 : n ≠ e1 := fun e => me1 (e ▸ sn)
      have ne2 : n ≠ e2 := fun e => me2 (e ▸ sn)
      unfold wX_cut_26
      refine br_f (nI_ne0 hn (by omega)) ?_
      refine rr_passNotes H hn N ?_
      intro h1 l r xl xr V eu ea F1
      dsimp only
      rw [hc, rr_cl (show pc ≤ 40 by omega), rr_bb n (by omega), nI_1 pc]
      have M := rr_NV_mem V
      have L := rr_NV_len V
      have vr := rr_NV_v V
      have E := rr_NV_00 V eu ea
      obtain ⟨Nl, Nr, dj, n1, n2⟩ := rr_NV_nodup V N
      have ml : ∀ k, k ∈ rr_nd xl → k ∈ rr_nd xs := fun k q => (M k).mpr (Or.inl q)
      have mr : ∀ k, k ∈ rr_nd xr → k ∈ rr_nd xs := fun k q => (M k).mpr (Or.inr (Or.inr q))
      obtain ⟨_, _, ok, el, er, tl, tr, _⟩ := V
      have l40 := rr_TT_le tl
      have r40 := rr_TT_le tr
      have ell : rr_pL h1 n = nI l := el
      have ec : rr_pN h1 (rr_pL h1 n).toNatClampNeg = nI xl.length := by
        rw [ell, rr_cl l40]; exact rr_TT_cnt tl
      have z0l : 0 ∉ rr_nd xl := rr_TT_n0 tl
      have z0r : 0 ∉ rr_nd xr := rr_TT_n0 tr
      refine ⟨rr_in (by omega), nm_e (nm_e ⟨hv, by rw [ell]; exact rr_in l40, ?_⟩)⟩
      rw [ec]
      refine pk_le rest xl.length (fun hle => ?_) (fun hlt => ?_)
      · refine rr_hangB he2 h40 ?_
        intro h2 sp2 es2 H2
        dsimp only
        have e2n : h2 n = h1 n := (H2 n).trans (rr_hg_ne ne2)
        refine ⟨hv, nm_r (e' := nI l) (by show rr_l (h2 n) = nI l; rw [e2n]; exact el) ?_⟩
        have Tl2 : rr_TT h2 l xl := rr_TT_fr tl fun k hk => (H2 k).trans (by
          rcases hk with hk | hk
          · rw [hk]; exact rr_hg_0
          · exact rr_hg_ne fun e => me2 (e ▸ ml k hk))
        refine ih (n := l) (rest := rest) (e1 := e1) (e2 := n) (pc := pc + 1) (xs := xl) (by omega) Tl2 Nl (by omega) he1 h40 (fun q => me1 (ml _ q)) n1 (Or.inr ne1.symm) hr ?_
        intro h' fp' sp' pc' aP' m1 m2 T1 T2 ef es F eA
        have eh' : h' n = rr_sb false (nI m2) (h1 n) := by
          rw [F n n1, rr_hg_eq hn, rr_hg_ne ne1, e2n]
        have g : ∀ k, k ∉ rr_nd xl → k ≠ n → h' k = rr_hg false e2 n (rr_hg true e1 m1 h1) k := by
          intro k q1 q2
          rw [F k q1, rr_hg_ne q2, ← rr_hg_comm hee]
          exact rr_hg_c (H2 k)
        have Tr' : rr_TT h' r xr := rr_TT_fr tr fun k hk => by
          rcases hk with hk | hk
          · rw [hk, g 0 z0l (by omega), rr_hg_0, rr_hg_0]
          · rw [g k (fun q => dj k q hk) (fun e => n2 (e ▸ hk)), rr_hg_ne (show k ≠ e2 from fun e => me2 (e ▸ mr k hk)), rr_hg_ne (show k ≠ e1 from fun e => me1 (e ▸ mr k hk))]
        have vv : rr_v (h' n) = rr_v (h1 n) := by rw [eh']; rfl
        refine rr_UP_S (n := n) (l := m2) (r := r) (xl := xl.drop rest) (xr := xr) (by omega) ?_ hn h40 T2 Tr' (fun q => n1 (rr_nd_drop q)) n2 (by rw [eh']; rfl) (by rw [eh']; exact er) (by rw [eh']; exact eu) (by rw [eh']; exact ea) (by rw [vv]; exact vr) (by rw [List.length_drop]; omega) ?_
        · rw [eA pc (by omega)]; exact pk_us
        · intro h'' T'' F''
          rw [vv] at T''
          refine K h'' fp' sp' pc' aP' m1 n ?_ ?_ ef ?_ ?_ ?_
          · rw [E, rr_take_l hle]
            exact rr_TT_fr T1 fun k hk => F'' k (by
              rcases hk with hk | hk
              · omega
              · exact fun e => n1 (e ▸ rr_nd_take hk))
          · rw [E, rr_drop_l hle]; exact T''
          · rw [es, if_neg z, es2]
          · intro k hk
            have q : k ≠ n := fun e => hk (e ▸ sn)
            rw [F'' k q, g k (fun w => hk (ml k w)) q]
            exact rr_hg_c (rr_hg_c (F1 k hk))
          · intro k hk
            rw [eA k (by omega)]
            exact pk_un (by omega)
      · refine ⟨hv, by rw [ell]; exact rr_in l40, nm_r (e' := nI (rest - (xl.length + 1))) (by rw [nI_1, pk_sub (by omega)]) ?_⟩
        refine rr_hangA true he1 h40 rfl ?_
        intro h2 fp2 ef2 H2
        dsimp only
        have e2n : h2 n = h1 n := (H2 n).trans (rr_hg_ne ne1)
        refine ⟨hv, nm_r (e' := nI r) (by show rr_r (h2 n) = nI r; rw [e2n]; exact er) ?_⟩
        have Tr2 : rr_TT h2 r xr := rr_TT_fr tr fun k hk => (H2 k).trans (by
          rcases hk with hk | hk
          · rw [hk]; exact rr_hg_0
          · exact rr_hg_ne fun e => me1 (e ▸ mr k hk))
        refine ih (n := r) (rest := rest - (xl.length + 1)) (e1 := n) (e2 := e2) (pc := pc + 1) (xs := xr) (by omega) Tr2 Nr (by omega) h40 he2 n2 (fun q => me2 (mr _ q)) (Or.inr ne2) (by omega) ?_
        intro h' fp' sp' pc' aP' m1 m2 T1 T2 ef es F eA
        have eh' : h' n = rr_sb true (nI m1) (h1 n) := by
          rw [F n n2, rr_hg_ne ne2, rr_hg_eq hn, e2n]
        have g : ∀ k, k ∉ rr_nd xr → k ≠ n → h' k = rr_hg false e2 m2 (rr_hg true e1 n h1) k := by
          intro k q1 q2
          rw [F k q1]
          exact rr_hg_c ((rr_hg_ne q2).trans (H2 k))
        have Tl' : rr_TT h' l xl := rr_TT_fr tl fun k hk => by
          rcases hk with hk | hk
          · rw [hk, g 0 z0r (by omega), rr_hg_0, rr_hg_0]
          · rw [g k (dj k hk) (fun e => n1 (e ▸ hk)), rr_hg_ne (show k ≠ e2 from fun e => me2 (e ▸ ml k hk)), rr_hg_ne (show k ≠ e1 from fun e => me1 (e ▸ ml k hk))]
        have vv : rr_v (h' n) = rr_v (h1 n) := by rw [eh']; rfl
        refine rr_UP_S (n := n) (l := l) (r := m1) (xl := xl) (xr := xr.take (rest - (xl.length + 1))) (by omega) ?_ hn h40 Tl' T1 n1 (fun q => n2 (rr_nd_take q)) (by rw [eh']; exact el) (by rw [eh']; rfl) (by rw [eh']; exact eu) (by rw [eh']; exact ea) (by rw [vv]; exact vr) (by rw [List.length_take]; omega) ?_
        · rw [eA pc (by omega)]; exact pk_us
        · intro h'' T'' F''
          rw [vv] at T''
          refine K h'' fp' sp' pc' aP' n m2 ?_ ?_ ?_ es ?_ ?_
          · rw [E, rr_take_r hlt]; exact T''
          · rw [E, rr_drop_r hlt]
            exact rr_TT_fr T2 fun k hk => F'' k (by
              rcases hk with hk | hk
              · omega
              · exact fun e => n2 (e ▸ rr_nd_drop hk))
          · rw [ef, if_neg z, ef2]
          · intro k hk
            have q : k ≠ n := fun e => hk (e ▸ sn)
            rw [F'' k q, g k (fun w => hk (mr k w)) q]
            exact rr_hg_c (rr_hg_c (F1 k hk))
          · intro k hk
            rw [eA k (by omega)]
            exact pk_un (by omega)
theorem rr_cut {fp sp pc : Int32} {h : Nat → rr_HX} {aP : Nat → Int32} {n s : Nat} {xs : rr_LX} (H : rr_TT h n xs) (N : (rr_nd xs).Nodup) (hx : xs.length ≤ 40) (hs : s ≤ 40)
    (K : ∀ (h' : Nat → rr_HX) (pc' : Int32) (aP' : Nat → Int32) (n1 n2 : Nat), rr_TT h' n1 (xs.take s) → rr_TT h' n2 (xs.drop s) → (∀ k, k ∉ rr_nd xs → h' k = h k) → post (rr_ST ro fc sd (nI n1) (nI n2) pc' h' aC aF aP')) :
    wpX_cut post (rr_ST ro fc sd fp sp pc h aC aF aP) (nI n) (nI s) := by
  unfold wpX_cut
  dsimp only
  refine ⟨xs.length + 1, rr_cutL (pc := 0) (e1 := 0) (e2 := 0) (xs.length + 1) (by omega) H N (by omega) (by omega) (by omega) (rr_TT_n0 H) (rr_TT_n0 H) (Or.inl rfl) hs ?_⟩
  intro h' fp' sp' pc' aP' n1 n2 T1 T2 ef es F eA
  rw [if_pos rfl] at ef es
  subst ef es
  exact rr_UP_0 (K h' pc' aP' n1 n2 T1 T2 fun k hk => (F k hk).trans (rr_hg_z.trans rr_hg_z))
end
end
section
/-! part 06: the walk of join -/
section
variable {post : Int32 → SX → Prop} {ro fc sd : Int32} {aC aF : Nat → Int32}
theorem rr_j156 {n e pc : Nat} {b : Bool} {p : Int32} {zs : rr_LX} {fp sp : Int32} {h : Nat → rr_HX} {aP : Nat → Int32} (T : rr_TT h n zs) (he : e ≤ 40) (hp : p = if b = true then 1 else 0) (me : e ∉ rr_nd zs)
    (K : ∀ (h' : Nat → rr_HX) (fp' pc' : Int32) (aP' : Nat → Int32) (n : Nat), rr_TT h' n zs → fp' = (if e = 0 then nI n else fp) → (∀ k, k ∉ rr_nd zs → h' k = rr_hg b e n h k) → (∀ k, k < pc → aP' k = aP k) → rr_UP (post fp') pc ro fc sd fp' sp pc' h' aC aF aP') :
    wX_join_156 post (nI n) p (nI e) ro fc sd fp sp (nI pc) (rr_pL h) (rr_pR h) aC (rr_pV h) (rr_pN h) (rr_pT h) (rr_pI h) (rr_pM h) (rr_pU h) (rr_pA h) aF aP := by
  unfold wX_join_156
  refine rr_hangA b he (rr_TT_le T) hp ?_
  intro h1 fp1 ef1 H1
  dsimp only
  refine rr_updatePassed ?_
  refine K h1 fp1 (nI pc) aP n (rr_TT_fr T fun k hk => (H1 k).trans ?_) ef1 (fun k _ => H1 k) (fun _ _ => rfl)
  rcases hk with hk | hk
  · rw [hk]; exact rr_hg_0
  · exact rr_hg_ne fun q => me (q ▸ hk)
theorem rr_joinL : ∀ (m : Nat) {x y e pc : Nat} {b : Bool} {p : Int32} {xs ys : rr_LX} {fp sp : Int32} {h : Nat → rr_HX} {aP : Nat → Int32}, xs.length + ys.length < m → rr_TT h x xs → rr_TT h y ys → (rr_nd xs).Nodup → (rr_nd ys).Nodup → rr_dj xs ys → pc + (xs.length + ys.length) ≤ 40 → e ≤ 40 → e ∉ rr_nd xs → e ∉ rr_nd ys → p = (if b = true then 1 else 0) →
    (∀ (h' : Nat → rr_HX) (fp' pc' : Int32) (aP' : Nat → Int32) (n : Nat), rr_TT h' n (xs ++ ys) → fp' = (if e = 0 then nI n else fp) → (∀ k, k ∉ rr_nd (xs ++ ys) → h' k = rr_hg b e n h k) → (∀ k, k < pc → aP' k = aP k) → rr_UP (post fp') pc ro fc sd fp' sp pc' h' aC aF aP') →
    wX_join_21 post m (nI x) (nI y) (nI e) p ro fc sd fp sp (nI pc) (rr_pL h) (rr_pR h) aC (rr_pV h) (rr_pN h) (rr_pT h) (rr_pI h) (rr_pM h) (rr_pU h) (rr_pA h) aF aP := by
  intro m
  induction m with
  | zero => intro x y e pc b p xs ys fp sp h aP hm; omega
  | succ m ih =>
    intro x y e pc b p xs ys fp sp h aP hm Hx Hy Nx Ny dj hpc he mex mey hp K
    have x40 := rr_TT_le Hx
    have y40 := rr_TT_le Hy
    have ma : ∀ k, k ∈ rr_nd (xs ++ ys) ↔ k ∈ rr_nd xs ∨ k ∈ rr_nd ys := fun k => by rw [rr_nd, List.map_append, List.mem_append]
    have mexy : e ∉ rr_nd (xs ++ ys) := fun q => ((ma e).mp q).elim mex mey
    unfold wX_join_21
    by_cases zx : x = 0
    · subst zx
      have ex := rr_TT_z Hx
      subst ex
      refine br_t (rfl : nI 0 = 0) (br_t (rfl : nI 0 = 0) ?_)
      exact rr_j156 Hy he hp mey K
    · refine br_f (nI_ne0 (by omega) (by omega)) ?_
      by_cases zy : y = 0
      · subst zy
        have ey := rr_TT_z Hy
        subst ey
        rw [List.append_nil] at K
        refine br_t (rfl : nI 0 = 0) (br_f (nI_ne0 (by omega) (by omega)) ?_)
        exact rr_j156 Hx he hp mex K
      · refine br_f (nI_ne0 (by omega) (by omega)) ⟨rr_in x40, rr_in y40, ?_⟩
        refine br_c (fun _ => ?_) (fun _ => ?_)
        · -- y comes next
          have hn : 0 < y := by omega
          have hc := rr_cl y40
          have hv := rr_in y40
          have sn := rr_TT_self Hy hn
          have ne : y ≠ e := fun q => mey (q ▸ sn)
          refine br_t rfl ?_
          unfold wX_join_64
          refine rr_passNotes Hy hn Ny ?_
          intro h1 l r xl xr V eu ea F1
          dsimp only
          rw [hc, rr_cl (show pc ≤ 40 by omega), rr_bb y (by omega), nI_1 pc]
          have M := rr_NV_mem V
          have L := rr_NV_len V
          have vr := rr_NV_v V
          have E := rr_NV_00 V eu ea
          obtain ⟨Nl, Nr, djl, n1, n2⟩ := rr_NV_nodup V Ny
          have ml : ∀ k, k ∈ rr_nd xl → k ∈ rr_nd ys := fun k q => (M k).mpr (Or.inl q)
          have mr : ∀ k, k ∈ rr_nd xr → k ∈ rr_nd ys := fun k q => (M k).mpr (Or.inr (Or.inr q))
          obtain ⟨_, _, ok, el, er, tl, tr, _⟩ := V
          refine ⟨rr_in (by omega), nm_e (nm_e ?_)⟩
          refine rr_hangA b he y40 hp ?_
          intro h2 fp2 ef2 H2
          dsimp only
          have e2n : h2 y = h1 y := (H2 y).trans (rr_hg_ne ne)
          refine br_t rfl ⟨hv, nm_r (e' := nI l) (by show rr_l (h2 y) = nI l; rw [e2n]; exact el) ?_⟩
          have Tl2 : rr_TT h2 l xl := rr_TT_fr tl fun k hk => (H2 k).trans (by
            rcases hk with hk | hk
            · rw [hk]; exact rr_hg_0
            · exact rr_hg_ne fun q => mey (q ▸ ml k hk))
          have Tx2 : rr_TT h2 x xs := rr_TT_fr Hx fun k hk => (H2 k).trans (by
            rcases hk with hk | hk
            · rw [hk, rr_hg_0]; exact F1 0 (rr_TT_n0 Hy)
            · rw [rr_hg_ne (show k ≠ e from fun q => mex (q ▸ hk))]; exact F1 k (dj k hk))
          refine ih (x := x) (y := l) (e := y) (pc := pc + 1) (b := false) (xs := xs) (ys := xl) (by omega) Tx2 Tl2 Nx Nl (fun k q w => dj k q (ml k w)) (by omega) y40 (fun q => dj y q sn) n1 rfl ?_
          intro h' fp' pc' aP' m1 T1 ef F eA
          have mb : ∀ k, k ∈ rr_nd (xs ++ xl) ↔ k ∈ rr_nd xs ∨ k ∈ rr_nd xl := fun k => by rw [rr_nd, List.map_append, List.mem_append]
          have nb : y ∉ rr_nd (xs ++ xl) := fun q => ((mb y).mp q).elim (fun w => dj y w sn) n1
          have eh' : h' y = rr_sb false (nI m1) (h1 y) := by
            rw [F y nb, rr_hg_eq hn, e2n]
          have g : ∀ k, k ∉ rr_nd (xs ++ xl) → k ≠ y → h' k = rr_hg b e y h1 k := by
            intro k q1 q2
            rw [F k q1, rr_hg_ne q2]
            exact H2 k
          have Tr' : rr_TT h' r xr := rr_TT_fr tr fun k hk => by
            rcases hk with hk | hk
            · rw [hk, g 0 (fun q => ((mb 0).mp q).elim (rr_TT_n0 Hx) (rr_TT_n0 tl)) (by omega), rr_hg_0]
            · rw [g k (fun q => ((mb k).mp q).elim (fun w => dj k w (mr k hk)) (fun w => djl k w hk)) (fun q => n2 (q ▸ hk)), rr_hg_ne (show k ≠ e from fun q => mey (q ▸ mr k hk))]
          have vv : rr_v (h' y) = rr_v (h1 y) := by rw [eh']; rfl
          refine rr_UP_S (n := y) (l := m1) (r := r) (xl := xs ++ xl) (xr := xr) (by omega) ?_ hn y40 T1 Tr' nb n2 (by rw [eh']; rfl) (by rw [eh']; exact er) (by rw [eh']; exact eu) (by rw [eh']; exact ea) (by rw [vv]; exact vr) (by rw [List.length_append]; omega) ?_
          · rw [eA pc (by omega)]; exact pk_us
          · intro h'' T'' F''
            rw [vv, List.append_assoc, ← E] at T''
            refine K h'' fp' pc' aP' y T'' ?_ ?_ ?_
            · rw [ef, if_neg zy, ef2]
            · intro k hk
              have q : k ≠ y := fun w => hk ((ma k).mpr (Or.inr (w ▸ sn)))
              rw [F'' k q, g k (fun w => hk ((ma k).mpr (((mb k).mp w).imp id (ml k)))) q]
              exact rr_hg_c (F1 k (fun w => hk ((ma k).mpr (Or.inr w))))
            · intro k hk
              rw [eA k (by omega)]
              exact pk_un (by omega)
        · -- x comes next
          have hn : 0 < x := by omega
          have hc := rr_cl x40
          have hv := rr_in x40
          have sn := rr_TT_self Hx hn
          have ne : x ≠ e := fun q => mex (q ▸ sn)
          refine br_f (by decide) ?_
          unfold wX_join_64
          refine rr_passNotes Hx hn Nx ?_
          intro h1 l r xl xr V eu ea F1
          dsimp only
          rw [hc, rr_cl (show pc ≤ 40 by omega), rr_bb x (by omega), nI_1 pc]
          have M := rr_NV_mem V
          have L := rr_NV_len V
          have vr := rr_NV_v V
          have E := rr_NV_00 V eu ea
          obtain ⟨Nl, Nr, djl, n1, n2⟩ := rr_NV_nodup V Nx
          have ml : ∀ k, k ∈ rr_nd xl → k ∈ rr_nd xs := fun k q => (M k).mpr (Or.inl q)
          have mr : ∀ k, k ∈ rr_nd xr → k ∈ rr_nd xs := fun k q => (M k).mpr (Or.inr (Or.inr q))
          obtain ⟨_, _, ok, el, er, tl, tr, _⟩ := V
          refine ⟨rr_in (by omega), nm_e (nm_e ?_)⟩
          refine rr_hangA b he x40 hp ?_
          intro h2 fp2 ef2 H2
          dsimp only
          have e2n : h2 x = h1 x := (H2 x).trans (rr_hg_ne ne)
          refine br_f (by decide) ⟨hv, nm_r (e' := nI r) (by show rr_r (h2 x) = nI r; rw [e2n]; exact er) ?_⟩
          have Tr2 : rr_TT h2 r xr := rr_TT_fr tr fun k hk => (H2 k).trans (by
            rcases hk with hk | hk
            · rw [hk]; exact rr_hg_0
            · exact rr_hg_ne fun q => mex (q ▸ mr k hk))
          have Ty2 : rr_TT h2 y ys := rr_TT_fr Hy fun k hk => (H2 k).trans (by
            rcases hk with hk | hk
            · rw [hk, rr_hg_0]; exact F1 0 (rr_TT_n0 Hx)
            · rw [rr_hg_ne (show k ≠ e from fun q => mey (q ▸ hk))]; exact F1 k (fun w => dj k w hk))
          refine ih (x := r) (y := y) (e := x) (pc := pc + 1) (b := true) (xs := xr) (ys := ys) (by omega) Tr2 Ty2 Nr Ny (fun k q w => dj k (mr k q) w) (by omega) x40 n2 (dj x sn) rfl ?_
          intro h' fp' pc' aP' m1 T1 ef F eA
          have mb : ∀ k, k ∈ rr_nd (xr ++ ys) ↔ k ∈ rr_nd xr ∨ k ∈ rr_nd ys := fun k => by rw [rr_nd, List.map_append, List.mem_append]
          have nb : x ∉ rr_nd (xr ++ ys) := fun q => ((mb x).mp q).elim n2 (dj x sn)
          have eh' : h' x = rr_sb true (nI m1) (h1 x) := by
            rw [F x nb, rr_hg_eq hn, e2n]
          have g : ∀ k, k ∉ rr_nd (xr ++ ys) → k ≠ x → h' k = rr_hg b e x h1 k := by
            intro k q1 q2
            rw [F k q1, rr_hg_ne q2]
            exact H2 k
          have Tl' : rr_TT h' l xl := rr_TT_fr tl fun k hk => by
            rcases hk with hk | hk
            · rw [hk, g 0 (fun q => ((mb 0).mp q).elim (rr_TT_n0 tr) (rr_TT_n0 Hy)) (by omega), rr_hg_0]
            · rw [g k (fun q => ((mb k).mp q).elim (djl k hk) (dj k (ml k hk))) (fun q => n1 (q ▸ hk)), rr_hg_ne (show k ≠ e from fun q => mex (q ▸ ml k hk))]
          have vv : rr_v (h' x) = rr_v (h1 x) := by rw [eh']; rfl
          refine rr_UP_S (n := x) (l := l) (r := m1) (xl := xl) (xr := xr ++ ys) (by omega) ?_ hn x40 Tl' T1 n1 nb (by rw [eh']; exact el) (by rw [eh']; rfl) (by rw [eh']; exact eu) (by rw [eh']; exact ea) (by rw [vv]; exact vr) (by rw [List.length_append]; omega) ?_
          · rw [eA pc (by omega)]; exact pk_us
          · intro h'' T'' F''
            rw [vv, ← List.cons_append, ← List.append_assoc, ← E] at T''
            refine K h'' fp' pc' aP' x T'' ?_ ?_ ?_
            · rw [ef, if_neg zx, ef2]
            · intro k hk
              have q : k ≠ x := fun w => hk ((ma k).mpr (Or.inl (w ▸ sn)))
              rw [F'' k q, g k (fun w => hk ((ma k).mpr (((mb k).mp w).imp (mr k) id))) q]
              exact rr_hg_c (F1 k (fun w => hk ((ma k).mpr (Or.inl w))))
            · intro k hk
              rw [eA k (by omega)]
              exact pk_un (by omega)
theorem rr_join {fp sp pc : Int32} {h : Nat → rr_HX} {aP : Nat → Int32} {x y : Nat} {xs ys : rr_LX} (Hx : rr_TT h x xs) (Hy : rr_TT h y ys) (N : (rr_nd (xs ++ ys)).Nodup) (hx : xs.length + ys.length ≤ 40)
    (K : ∀ (h' : Nat → rr_HX) (fp' pc' : Int32) (aP' : Nat → Int32) (n : Nat), rr_TT h' n (xs ++ ys) → (∀ k, k ∉ rr_nd (xs ++ ys) → h' k = h k) → post (nI n) (rr_ST ro fc sd fp' sp pc' h' aC aF aP')) :
    wpX_join post (rr_ST ro fc sd fp sp pc h aC aF aP) (nI x) (nI y) := by
  obtain ⟨Nx, Ny, dj⟩ := rr_nodup_app.mp N
  unfold wpX_join
  dsimp only
  refine ⟨xs.length + ys.length + 1, rr_joinL (pc := 0) (e := 0) (b := false) (xs.length + ys.length + 1) (by omega) Hx Hy Nx Ny dj (by omega) (by omega) (rr_TT_n0 Hx) (rr_TT_n0 Hy) rfl ?_⟩
  intro h' fp' pc' aP' n T ef F eA
  rw [if_pos rfl] at ef
  subst ef
  exact rr_UP_0 (K h' (nI n) pc' aP' n T fun k hk => (F k hk).trans rr_hg_z)
end
end
section
/-! part 07: the walks of newNode, nodeAt, placeOfFirst -/
section
variable {ro fc sd fp sp pc : Int32} {h : Nat → rr_HX} {aC aF aP : Nat → Int32}
theorem rr_newNode {post : Int32 → SX → Prop} {f c : Nat} {v : Int32} (h0 : rr_n (h 0) = 0) (hf : 0 < f) (f40 : f ≤ 40) (hc40 : c < 40) (ef : aF c = nI f) (vr : -1000000 ≤ v.toInt ∧ v.toInt ≤ 1000000)
    (K : ∀ (sd' : Int32) (aC' : Nat → Int32) (h' : Nat → rr_HX), rr_TT h' f [(f, v)] → (∀ k, k ≠ f → h' k = h k) → post (nI f) (rr_ST ro (nI c) sd' fp sp pc h' aC' aF aP)) :
    wpX_newNode post (rr_ST ro (nI (c + 1)) sd fp sp pc h aC aF aP) v := by
  have hc := rr_cl f40
  have hv := rr_in f40
  unfold wpX_newNode
  dsimp only
  refine nm_r (nI_pred c) ⟨vp_in_nI (by omega) (by omega), nm_r (e' := nI f) (by rw [rr_cl (show c ≤ 40 by omega)]; exact ef) (nm_e ⟨hv, nm_e ⟨hv, nm_e ⟨hv, nm_e ⟨hv, nm_e ⟨hv, nm_e ⟨hv, nm_e ?_⟩⟩⟩⟩⟩⟩)⟩
  rw [hc]
  have F : ∀ k, k ≠ f → rr_mk (upd (rr_pL h) f (vp_nar .byte 0)) (upd (rr_pR h) f (vp_nar .byte 0)) (upd (rr_pV h) f v) (rr_pN h) (rr_pT h) (rr_pI h) (rr_pM h) (upd (rr_pU h) f (vp_nar .boolean 0)) (upd (rr_pA h) f 0) k = h k := by
    intro k hk
    unfold rr_mk
    simp only [pk_un hk]
    rfl
  have E : rr_mk (upd (rr_pL h) f (vp_nar .byte 0)) (upd (rr_pR h) f (vp_nar .byte 0)) (upd (rr_pV h) f v) (rr_pN h) (rr_pT h) (rr_pI h) (rr_pM h) (upd (rr_pU h) f (vp_nar .boolean 0)) (upd (rr_pA h) f 0) f = (nI 0, nI 0, v, rr_n (h f), rr_t (h f), rr_i (h f), rr_m (h f), 0, 0) := by
    unfold rr_mk
    simp only [pk_us]
    rfl
  have T0 : rr_TT (rr_mk (upd (rr_pL h) f (vp_nar .byte 0)) (upd (rr_pR h) f (vp_nar .byte 0)) (upd (rr_pV h) f v) (rr_pN h) (rr_pT h) (rr_pI h) (rr_pM h) (upd (rr_pU h) f (vp_nar .boolean 0)) (upd (rr_pA h) f 0)) 0 [] := rr_TT_nil (by rw [F 0 (by omega)]; exact h0)
  refine rr_update (h := rr_mk (upd (rr_pL h) f (vp_nar .byte 0)) (upd (rr_pR h) f (vp_nar .byte 0)) (upd (rr_pV h) f v) (rr_pN h) (rr_pT h) (rr_pI h) (rr_pM h) (upd (rr_pU h) f (vp_nar .boolean 0)) (upd (rr_pA h) f 0)) (n := f) (l := 0) (r := 0) (xl := []) (xr := []) hf f40 T0 T0 List.not_mem_nil List.not_mem_nil (by rw [E]; rfl) (by rw [E]; rfl) (by rw [E]; rfl) (by rw [E]; rfl) (by rw [E]; exact vr) (by decide) ?_
  intro h' T F'
  dsimp only
  rw [E] at T
  exact K _ _ h' T fun k hk => (F' k hk).trans (F k hk)
theorem rr_nodeL {post : Int32 → SX → Prop} : ∀ (m : Nat) {n k l r : Nat} {xs xl xr : rr_LX} {h : Nat → rr_HX}, xs.length < m → rr_NV h n xs l r xl xr → rr_u (h n) = 0 → rr_a (h n) = 0 → (rr_nd xs).Nodup → xs.length ≤ 40 → k < xs.length →
    (∀ (h' : Nat → rr_HX) (q : Nat) (v : Int32), rr_TT h' n xs → (∀ k, k ∉ rr_nd xs → h' k = h k) → h' n = h n → xs[k]? = some (q, v) → rr_v (h' q) = v → q ≤ 40 → post (nI q) (rr_ST ro fc sd fp sp pc h' aC aF aP)) →
    wX_nodeAt_12 post m (nI n) (nI k) ro fc sd fp sp pc (rr_pL h) (rr_pR h) aC (rr_pV h) (rr_pN h) (rr_pT h) (rr_pI h) (rr_pM h) (rr_pU h) (rr_pA h) aF aP := by
  intro m
  induction m with
  | zero => intro n k l r xs xl xr h hm; omega
  | succ m ih =>
    intro n k l r xs xl xr h hm V eu ea N hx hk K
    have V0 := V
    have hn := V.1
    have h40 := V.2.1
    have hc := rr_cl h40
    have hv := rr_in h40
    have M := rr_NV_mem V
    have L := rr_NV_len V
    have E := rr_NV_00 V eu ea
    obtain ⟨Nl, Nr, dj, n1, n2⟩ := rr_NV_nodup V N
    obtain ⟨_, _, ok, el, er, tl, tr, e3⟩ := V
    have l40 := rr_TT_le tl
    have r40 := rr_TT_le tr
    have ell : rr_pL h n = nI l := el
    have err : rr_pR h n = nI r := er
    have ec : rr_pN h (nI l).toNatClampNeg = nI xl.length := by
      rw [rr_cl l40]; exact rr_TT_cnt tl
    unfold wX_nodeAt_12
    rw [hc, ell, err, ec]
    refine ⟨hv, rr_in l40, ?_⟩
    refine pk_eq k xl.length (fun he => ?_) (fun hne => ?_)
    · refine K h n (rr_v (h n)) (rr_TT_mk V0) (fun _ _ => rfl) rfl ?_ rfl h40
      rw [E, he, List.getElem?_append_right (by omega), Nat.sub_self]
      rfl
    · refine ⟨hv, rr_in l40, ?_⟩
      refine pk_le xl.length k (fun hle => ?_) (fun hlt => ?_)
      · refine ⟨hv, rr_in l40, nm_r (e' := nI (k - (xl.length + 1))) (by rw [nI_1, pk_sub (by omega)]) ⟨hv, nm_e ?_⟩⟩
        have hr0 : 0 < r := by
          rcases rr_TT_or tr with q | q
          · rw [q.2, List.length_nil] at L; omega
          · exact q.1
        unfold wX_nodeAt_75
        refine rr_passNotes tr hr0 Nr ?_
        intro h1 l' r' xl' xr' V' eu' ea' F1
        dsimp only
        refine ih (n := r) (k := k - (xl.length + 1)) (by omega) V' eu' ea' Nr (by omega) (by omega) ?_
        intro h' q v T F e g1 g2 g3
        have en : h' n = h n := (F n n2).trans (F1 n n2)
        have Fa : ∀ k, k ∉ rr_nd xr → h' k = h k := fun k hk => (F k hk).trans (F1 k hk)
        refine K h' q v (rr_TT_mk (l := l) (r := r) (xl := xl) (xr := xr) ⟨hn, h40, by rw [en]; exact ok, by rw [en]; exact el, by rw [en]; exact er, ?_, T, by rw [en]; exact e3⟩) ?_ en ?_ g2 g3
        · exact rr_TT_fr tl fun k hk => Fa k (by
            rcases hk with hk | hk
            · rw [hk]; exact rr_TT_n0 tr
            · exact dj k hk)
        · exact fun k hk => Fa k fun w => hk ((M k).mpr (Or.inr (Or.inr w)))
        · rw [E, List.getElem?_append_right (by omega), show k - xl.length = (k - (xl.length + 1)) + 1 by omega, List.getElem?_cons_succ]
          exact g1
      · refine ⟨hv, nm_e ?_⟩
        have hl0 : 0 < l := by
          rcases rr_TT_or tl with q | q
          · rw [q.2, List.length_nil] at hlt; omega
          · exact q.1
        unfold wX_nodeAt_75
        refine rr_passNotes tl hl0 Nl ?_
        intro h1 l' r' xl' xr' V' eu' ea' F1
        dsimp only
        refine ih (n := l) (k := k) (by omega) V' eu' ea' Nl (by omega) (by omega) ?_
        intro h' q v T F e g1 g2 g3
        have en : h' n = h n := (F n n1).trans (F1 n n1)
        have Fa : ∀ k, k ∉ rr_nd xl → h' k = h k := fun k hk => (F k hk).trans (F1 k hk)
        refine K h' q v (rr_TT_mk (l := l) (r := r) (xl := xl) (xr := xr) ⟨hn, h40, by rw [en]; exact ok, by rw [en]; exact el, by rw [en]; exact er, T, ?_, by rw [en]; exact e3⟩) ?_ en ?_ g2 g3
        · exact rr_TT_fr tr fun k hk => Fa k (by
            rcases hk with hk | hk
            · rw [hk]; exact rr_TT_n0 tl
            · exact fun w => dj k w hk)
        · exact fun k hk => Fa k fun w => hk ((M k).mpr (Or.inl w))
        · rw [E, List.getElem?_append_left hlt]
          exact g1
theorem rr_nodeAt {post : Int32 → SX → Prop} {n k : Nat} {xs : rr_LX} (T : rr_TT h n xs) (N : (rr_nd xs).Nodup) (hx : xs.length ≤ 40) (hk : k < xs.length)
    (K : ∀ (h' : Nat → rr_HX) (q : Nat) (v : Int32), rr_TT h' n xs → xs[k]? = some (q, v) → rr_v (h' q) = v → q ≤ 40 → post (nI q) (rr_ST (nI n) fc sd fp sp pc h' aC aF aP)) :
    wpX_nodeAt post (rr_ST (nI n) fc sd fp sp pc h aC aF aP) (nI k) := by
  have hn : 0 < n := by
    rcases rr_TT_or T with q | q
    · rw [q.2, List.length_nil] at hk; omega
    · exact q.1
  unfold wpX_nodeAt
  dsimp only
  refine rr_passNotes T hn N ?_
  intro h1 l r xl xr V eu ea F1
  dsimp only
  exact ⟨xs.length + 1, rr_nodeL (xs.length + 1) (by omega) V eu ea N hx hk fun h' q v T' _ _ g1 g2 g3 => K h' q v T' g1 g2 g3⟩
end
/-- the place of the first int that is not less than w -/
def rr_fi (w : Int32) : rr_LX → Nat
  | [] => 0
  | p :: xs => if w ≤ p.2 then 0 else rr_fi w xs + 1
def rr_gt (w : Int32) (xs : rr_LX) : Prop := ∃ p, p ∈ xs ∧ w ≤ p.2
theorem rr_fi_l {w : Int32} {xs ys : rr_LX} (H : rr_gt w xs) : rr_fi w (xs ++ ys) = rr_fi w xs := by
  induction xs with
  | nil => obtain ⟨p, hp, _⟩ := H; exact absurd hp List.not_mem_nil
  | cons p xs ih =>
    show (if w ≤ p.2 then 0 else rr_fi w (xs ++ ys) + 1) = if w ≤ p.2 then 0 else rr_fi w xs + 1
    by_cases c : w ≤ p.2
    · rw [if_pos c, if_pos c]
    · rw [if_neg c, if_neg c, ih]
      obtain ⟨q, hq, hw⟩ := H
      rcases List.mem_cons.mp hq with e | e
      · exact absurd (e ▸ hw) c
      · exact ⟨q, e, hw⟩
theorem rr_fi_r {w : Int32} {xs ys : rr_LX} (H : ¬ rr_gt w xs) : rr_fi w (xs ++ ys) = xs.length + rr_fi w ys := by
  induction xs with
  | nil => show rr_fi w ys = 0 + rr_fi w ys; omega
  | cons p xs ih =>
    show (if w ≤ p.2 then 0 else rr_fi w (xs ++ ys) + 1) = (xs.length + 1) + rr_fi w ys
    rw [if_neg fun c => H ⟨p, List.mem_cons_self, c⟩, ih fun ⟨q, hq, hw⟩ => H ⟨q, List.mem_cons_of_mem _ hq, hw⟩]
    omega
theorem rr_fi_lt {w : Int32} {xs : rr_LX} (H : rr_gt w xs) : rr_fi w xs < xs.length := by
  induction xs with
  | nil => obtain ⟨p, hp, _⟩ := H; exact absurd hp List.not_mem_nil
  | cons p xs ih =>
    show (if w ≤ p.2 then 0 else rr_fi w xs + 1) < xs.length + 1
    by_cases c : w ≤ p.2
    · rw [if_pos c]; omega
    · rw [if_neg c]
      have := ih (by
        obtain ⟨q, hq, hw⟩ := H
        rcases List.mem_cons.mp hq with e | e
        · exact absurd (e ▸ hw) c
        · exact ⟨q, e, hw⟩)
      omega
theorem rr_gt_mx {w m : Int32} {xs : rr_LX} (H : rr_mx m xs) : rr_gt w xs ↔ w ≤ m := by
  constructor
  · rintro ⟨p, hp, hw⟩
    have := H.2 p hp
    rw [Int32.le_iff_toInt_le] at hw ⊢
    omega
  · intro c
    obtain ⟨⟨p, hp, e⟩, _⟩ := H
    exact ⟨p, hp, by rw [e]; exact c⟩
section
variable {ro fc sd fp sp pc : Int32} {h : Nat → rr_HX} {aC aF aP : Nat → Int32}
theorem rr_hasGreat {post : Int32 → Prop} {n : Nat} {w : Int32} {xs : rr_LX} (T : rr_TT h n xs) (K1 : rr_gt w xs → post 1) (K0 : ¬ rr_gt w xs → post 0) :
    wpX_hasGreat post (rr_ST ro fc sd fp sp pc h aC aF aP) (nI n) w := by
  unfold wpX_hasGreat
  dsimp only
  rcases rr_TT_or T with ⟨rfl, rfl⟩ | ⟨q1, q2, q3⟩
  · exact br_t (rfl : nI 0 = 0) (K0 fun ⟨p, hp, _⟩ => absurd hp List.not_mem_nil)
  · rw [rr_cl q2]
    refine br_f (nI_ne0 q1 (by omega)) ⟨rr_in q2, ?_⟩
    have G := rr_gt_mx (w := w) q3.2.2.2.1
    refine br_c (fun c => K0 fun g => ?_) (fun c => K1 (G.mpr (Int32.not_lt.mp c)))
    exact absurd c (Int32.not_lt.mpr (G.mp g))
theorem rr_placeL {post : Int32 → SX → Prop} {w : Int32} : ∀ (m : Nat) {n b l r : Nat} {xs xl xr : rr_LX} {h : Nat → rr_HX}, xs.length < m → rr_NV h n xs l r xl xr → rr_u (h n) = 0 → rr_a (h n) = 0 → (rr_nd xs).Nodup → rr_gt w xs →
    (∀ (h' : Nat → rr_HX), rr_TT h' n xs → (∀ k, k ∉ rr_nd xs → h' k = h k) → post (nI (b + rr_fi w xs)) (rr_ST ro fc sd fp sp pc h' aC aF aP)) →
    wX_placeOfFirst_10 post w m (nI n) (nI b) ro fc sd fp sp pc (rr_pL h) (rr_pR h) aC (rr_pV h) (rr_pN h) (rr_pT h) (rr_pI h) (rr_pM h) (rr_pU h) (rr_pA h) aF aP := by
  intro m
  induction m with
  | zero => intro n b l r xs xl xr h hm; omega
  | succ m ih =>
    intro n b l r xs xl xr h hm V eu ea N hg K
    have V0 := V
    have hn := V.1
    have h40 := V.2.1
    have hc := rr_cl h40
    have hv := rr_in h40
    have M := rr_NV_mem V
    have L := rr_NV_len V
    have E := rr_NV_00 V eu ea
    obtain ⟨Nl, Nr, dj, n1, n2⟩ := rr_NV_nodup V N
    obtain ⟨_, _, ok, el, er, tl, tr, e3⟩ := V
    have l40 := rr_TT_le tl
    have r40 := rr_TT_le tr
    have ell : rr_pL h n = nI l := el
    have err : rr_pR h n = nI r := er
    have ec : rr_pN h (nI l).toNatClampNeg = nI xl.length := by
      rw [rr_cl l40]; exact rr_TT_cnt tl
    have S34l : rr_gt w xl → wX_placeOfFirst_34 post (wX_placeOfFirst_10 post w m) w (nI n) (nI b) ro fc sd fp sp pc (rr_pL h) (rr_pR h) aC (rr_pV h) (rr_pN h) (rr_pT h) (rr_pI h) (rr_pM h) (rr_pU h) (rr_pA h) aF aP := by
      intro gl
      unfold wX_placeOfFirst_34
      rw [hc, ell, err]
      refine ⟨hv, rr_hasGreat tl (fun _ => br_f (by decide) ⟨hv, nm_e ?_⟩) (fun g => absurd gl g)⟩
      have hl0 : 0 < l := by
        rcases rr_TT_or tl with q | q
        · rw [q.2] at gl; obtain ⟨p, hp, _⟩ := gl; exact absurd hp List.not_mem_nil
        · exact q.1
      unfold wX_placeOfFirst_83
      refine rr_passNotes tl hl0 Nl ?_
      intro h1 l' r' xl' xr' V' eu' ea' F1
      dsimp only
      refine ih (n := l) (b := b) (by omega) V' eu' ea' Nl gl ?_
      intro h' T F
      have Fa : ∀ k, k ∉ rr_nd xl → h' k = h k := fun k hk => (F k hk).trans (F1 k hk)
      have en : h' n = h n := Fa n n1
      rw [← rr_fi_l (ys := (n, rr_v (h n)) :: xr) gl, ← E]
      refine K h' (rr_TT_mk (l := l) (r := r) (xl := xl) (xr := xr) ⟨hn, h40, by rw [en]; exact ok, by rw [en]; exact el, by rw [en]; exact er, T, ?_, by rw [en]; exact e3⟩) ?_
      · exact rr_TT_fr tr fun k hk => Fa k (by
          rcases hk with hk | hk
          · rw [hk]; exact rr_TT_n0 tl
          · exact fun w => dj k w hk)
      · exact fun k hk => Fa k fun w => hk ((M k).mpr (Or.inl w))
    have S34r : ¬ rr_gt w xl → ¬ w ≤ rr_v (h n) → wX_placeOfFirst_34 post (wX_placeOfFirst_10 post w m) w (nI n) (nI b) ro fc sd fp sp pc (rr_pL h) (rr_pR h) aC (rr_pV h) (rr_pN h) (rr_pT h) (rr_pI h) (rr_pM h) (rr_pU h) (rr_pA h) aF aP := by
      intro gl gv
      have gr : rr_gt w xr := by
        obtain ⟨p, hp, hw⟩ := hg
        rw [E, List.mem_append, List.mem_cons] at hp
        rcases hp with hp | hp | hp
        · exact absurd ⟨p, hp, hw⟩ gl
        · rw [hp] at hw; exact absurd hw gv
        · exact ⟨p, hp, hw⟩
      have fi : rr_fi w xs = xl.length + (rr_fi w xr + 1) := by
        rw [E, rr_fi_r gl]
        show xl.length + (if w ≤ rr_v (h n) then 0 else rr_fi w xr + 1) = _
        rw [if_neg gv]
      unfold wX_placeOfFirst_34
      rw [hc, ell, err, ec]
      refine ⟨hv, rr_hasGreat tl (fun g => absurd g gl) (fun _ => br_t rfl ⟨hv, rr_in l40, nm_r (e' := nI (b + (xl.length + 1))) (by rw [nI_1, nI_add]) ⟨hv, nm_e ?_⟩⟩)⟩
      have hr0 : 0 < r := by
        rcases rr_TT_or tr with q | q
        · rw [q.2] at gr; obtain ⟨p, hp, _⟩ := gr; exact absurd hp List.not_mem_nil
        · exact q.1
      unfold wX_placeOfFirst_83
      refine rr_passNotes tr hr0 Nr ?_
      intro h1 l' r' xl' xr' V' eu' ea' F1
      dsimp only
      refine ih (n := r) (b := b + (xl.length + 1)) (by omega) V' eu' ea' Nr gr ?_
      intro h' T F
      have Fa : ∀ k, k ∉ rr_nd xr → h' k = h k := fun k hk => (F k hk).trans (F1 k hk)
      have en : h' n = h n := Fa n n2
      rw [show b + (xl.length + 1) + rr_fi w xr = b + rr_fi w xs by omega]
      refine K h' (rr_TT_mk (l := l) (r := r) (xl := xl) (xr := xr) ⟨hn, h40, by rw [en]; exact ok, by rw [en]; exact el, by rw [en]; exact er, ?_, T, by rw [en]; exact e3⟩) ?_
      · exact rr_TT_fr tl fun k hk => Fa k (by
          rcases hk with hk | hk
          · rw [hk]; exact rr_TT_n0 tr
          · exact dj k hk)
      · exact fun k hk => Fa k fun w => hk ((M k).mpr (Or.inr (Or.inr w)))
    unfold wX_placeOfFirst_10
    rw [hc, ell, ec]
    refine ⟨hv, rr_hasGreat tl (fun gl => br_f (by decide) (S34l gl)) (fun gl => br_t rfl ⟨hv, br_c (fun c => ⟨hv, rr_in l40, ?_⟩) (fun c => S34r gl c)⟩)⟩
    have fi : rr_fi w xs = xl.length := by
      rw [E, rr_fi_r gl]
      show xl.length + (if w ≤ rr_v (h n) then 0 else rr_fi w xr + 1) = _
      rw [if_pos (show w ≤ rr_v (h n) from c)]; rfl
    rw [nI_add, ← fi]
    exact K h (rr_TT_mk V0) (fun _ _ => rfl)
theorem rr_placeOfFirst {post : Int32 → SX → Prop} {n : Nat} {w : Int32} {xs : rr_LX} (T : rr_TT h n xs) (N : (rr_nd xs).Nodup) (hg : rr_gt w xs)
    (K : ∀ (h' : Nat → rr_HX), rr_TT h' n xs → (∀ k, k ∉ rr_nd xs → h' k = h k) → post (nI (rr_fi w xs)) (rr_ST ro fc sd fp sp pc h' aC aF aP)) :
    wpX_placeOfFirst post (rr_ST ro fc sd fp sp pc h aC aF aP) (nI n) w := by
  have hn : 0 < n := by
    rcases rr_TT_or T with q | q
    · rw [q.2] at hg; obtain ⟨p, hp, _⟩ := hg; exact absurd hp List.not_mem_nil
    · exact q.1
  unfold wpX_placeOfFirst
  dsimp only
  refine rr_passNotes T hn N ?_
  intro h1 l r xl xr V eu ea F1
  dsimp only
  refine ⟨xs.length + 1, rr_placeL (b := 0) (xs.length + 1) (by omega) V eu ea N hg fun h' T' F' => ?_⟩
  rw [Nat.zero_add]
  exact K h' T' fun k hk => (F' k hk).trans (F1 k hk)
end
end
section
/-! part 08: the free list, the walk of release -/
def rr_FL (aF : Nat → Int32) : List Nat → Prop
  | [] => True
  | f :: fs => aF fs.length = nI f ∧ rr_FL aF fs
theorem rr_FL_upd {aF : Nat → Int32} {x : Int32} {j : Nat} : ∀ {fs : List Nat}, fs.length ≤ j → rr_FL aF fs → rr_FL (upd aF j x) fs := by
  intro fs
  induction fs with
  | nil => intro _ _; trivial
  | cons f fs ih =>
    intro hj H
    rw [List.length_cons] at hj
    exact ⟨(pk_un (by omega)).trans H.1, ih (by omega) H.2⟩
/-- the waiting nodes, the last one first, each with its tree -/
def rr_SK (aP : Nat → Int32) : List (Nat × rr_LX) → Prop
  | [] => True
  | s :: st => aP st.length = nI s.1 ∧ rr_SK aP st
theorem rr_SK_upd {aP : Nat → Int32} {x : Int32} {j : Nat} : ∀ {st : List (Nat × rr_LX)}, st.length ≤ j → rr_SK aP st → rr_SK (upd aP j x) st := by
  intro st
  induction st with
  | nil => intro _ _; trivial
  | cons f fs ih =>
    intro hj H
    rw [List.length_cons] at hj
    exact ⟨(pk_un (by omega)).trans H.1, ih (by omega) H.2⟩
def rr_ns : List (Nat × rr_LX) → List Nat
  | [] => []
  | s :: st => rr_nd s.2 ++ rr_ns st
def rr_sk (h : Nat → rr_HX) (st : List (Nat × rr_LX)) : Prop := ∀ s, s ∈ st → 0 < s.1 ∧ rr_TT h s.1 s.2
theorem rr_sk_len {h : Nat → rr_HX} : ∀ {st : List (Nat × rr_LX)}, rr_sk h st → st.length ≤ (rr_ns st).length := by
  intro st
  induction st with
  | nil => intro _; exact Nat.le_refl _
  | cons s st ih =>
    intro H
    have a := ih fun q hq => H q (List.mem_cons_of_mem _ hq)
    have b := H s List.mem_cons_self
    have c : 0 < s.2.length := List.length_pos_iff.mpr (rr_TT_ne b.2 b.1)
    show st.length + 1 ≤ (rr_nd s.2 ++ rr_ns st).length
    rw [List.length_append, rr_nd, List.length_map]
    omega
theorem rr_sk_cons {h : Nat → rr_HX} {s : Nat × rr_LX} {st : List (Nat × rr_LX)} (a : 0 < s.1) (b : rr_TT h s.1 s.2) (H : rr_sk h st) : rr_sk h (s :: st) :=
  fun q hq => (List.mem_cons.mp hq).elim (fun e => e ▸ ⟨a, b⟩) (H q)
section
variable {post : SX → Prop} {ro sd fp sp pc : Int32} {h : Nat → rr_HX} {aC : Nat → Int32}
theorem rr_relL : ∀ (m : Nat) {st : List (Nat × rr_LX)} {fs : List Nat} {aF aP : Nat → Int32}, (rr_ns st).length < m → rr_SK aP st → rr_FL aF fs → rr_sk h st → fs.length + (rr_ns st).length ≤ 40 →
    (∀ (aF' aP' : Nat → Int32) (fs' : List Nat), rr_FL aF' fs' → fs'.Perm (rr_ns st ++ fs) → post (rr_ST ro (nI fs'.length) sd fp sp pc h aC aF' aP')) →
    wX_release_15 post ro sd fp sp pc m (nI st.length) (nI fs.length) (rr_pL h) (rr_pR h) aC (rr_pV h) (rr_pN h) (rr_pT h) (rr_pI h) (rr_pM h) (rr_pU h) (rr_pA h) aF aP := by
  intro m
  induction m with
  | zero => intro st fs aF aP hm; omega
  | succ m ih =>
    intro st fs aF aP hm SK FL sk hl K
    unfold wX_release_15
    cases st with
    | nil => exact br_t (by decide) (K aF aP fs FL (List.Perm.refl _))
    | cons s st =>
      obtain ⟨hn, T⟩ := sk s List.mem_cons_self
      have sk' : rr_sk h st := fun q hq => sk q (List.mem_cons_of_mem _ hq)
      obtain ⟨ep, SK'⟩ := SK
      obtain ⟨l, r, xl, xr, V⟩ := rr_TT_inv T hn
      have L := rr_NV_len V
      have C := rr_NV_ct V
      obtain ⟨_, h40, _, el, er, tl, tr, _⟩ := V
      have hc := rr_cl h40
      have hv := rr_in h40
      have l40 := rr_TT_le tl
      have r40 := rr_TT_le tr
      have ell : rr_pL h s.1 = nI l := el
      have err : rr_pR h s.1 = nI r := er
      have ln : (rr_ns (s :: st)).length = s.2.length + (rr_ns st).length := by
        show (rr_nd s.2 ++ rr_ns st).length = _
        rw [List.length_append, rr_nd, List.length_map]
      have sl := rr_sk_len sk'
      have lnd : ∀ (ys : rr_LX), (rr_nd ys).length = ys.length := fun ys => List.length_map _
      -- the third part: the node goes to the free list
      have S77 : ∀ (st2 : List (Nat × rr_LX)) (aP2 : Nat → Int32), rr_SK aP2 st2 → rr_sk h st2 → rr_ns st2 = rr_nd xr ++ (rr_nd xl ++ rr_ns st) → wX_release_77 post (wX_release_15 post ro sd fp sp pc m) (nI st2.length) (nI s.1) ro (nI fs.length) sd fp sp pc (rr_pL h) (rr_pR h) aC (rr_pV h) (rr_pN h) (rr_pT h) (rr_pI h) (rr_pM h) (rr_pU h) (rr_pA h) aF aP2 := by
        intro st2 aP2 q1 q2 q3
        have q4 : (rr_ns st2).length = xr.length + (xl.length + (rr_ns st).length) := by
          rw [q3, List.length_append, List.length_append, lnd, lnd]
        unfold wX_release_77
        rw [rr_cl (show fs.length ≤ 40 by omega), rr_bb s.1 (by omega), nI_1]
        refine ⟨vp_in_nI (by omega) (by omega), nm_e (nm_e ?_)⟩
        refine ih (st := st2) (fs := s.1 :: fs) (by omega) q1 ⟨pk_us, rr_FL_upd (Nat.le_refl _) FL⟩ q2 (by rw [List.length_cons]; omega) ?_
        intro aF' aP' fs' g1 g2
        refine K aF' aP' fs' g1 (g2.trans ?_)
        rw [q3]
        show (rr_nd xr ++ (rr_nd xl ++ rr_ns st) ++ s.1 :: fs).Perm (rr_nd s.2 ++ rr_ns st ++ fs)
        rw [List.perm_iff_count]
        intro k
        have c := C k
        simp only [List.count_append, List.count_cons, beq_iff_eq]
        omega
      have S53 : ∀ (st1 : List (Nat × rr_LX)) (aP1 : Nat → Int32), rr_SK aP1 st1 → rr_sk h st1 → rr_ns st1 = rr_nd xl ++ rr_ns st → wX_release_53 post (wX_release_15 post ro sd fp sp pc m) (nI st1.length) (nI s.1) ro (nI fs.length) sd fp sp pc (rr_pL h) (rr_pR h) aC (rr_pV h) (rr_pN h) (rr_pT h) (rr_pI h) (rr_pM h) (rr_pU h) (rr_pA h) aF aP1 := by
        intro st1 aP1 q1 q2 q3
        have q4 : (rr_ns st1).length = xl.length + (rr_ns st).length := by
          rw [q3, List.length_append, lnd]
        have q5 := rr_sk_len q2
        unfold wX_release_53
        rw [hc, err, rr_cl (show st1.length ≤ 40 by omega), rr_b r (by omega), nI_1]
        refine ⟨hv, ?_⟩
        rcases rr_TT_or tr with ⟨w1, w2⟩ | ⟨w1, w2, w3⟩
        · refine br_t (by rw [w1]; rfl) (S77 st1 aP1 q1 q2 ?_)
          rw [q3, w2]; rfl
        · refine br_f (nI_ne0 w1 (by omega)) ⟨hv, rr_in (by omega), nm_e (nm_e ?_)⟩
          exact S77 ((r, xr) :: st1) _ ⟨pk_us, rr_SK_upd (Nat.le_refl _) q1⟩ (rr_sk_cons w1 tr q2) (by show rr_nd xr ++ rr_ns st1 = _; rw [q3])
      refine br_f (nI_nle (Nat.succ_pos _) (by rw [List.length_cons]; omega)) (nm_r (e' := nI st.length) (pk_m1 _) ⟨rr_in (by omega), nm_r (e' := nI s.1) (by rw [rr_cl (show st.length ≤ 40 by omega)]; exact ep) ⟨hv, ?_⟩⟩)
      rw [hc, ell, rr_cl (show st.length ≤ 40 by omega), rr_b l (by omega), nI_1]
      rcases rr_TT_or tl with ⟨w1, w2⟩ | ⟨w1, w2, w3⟩
      · refine br_t (by rw [w1]; rfl) (S53 st aP SK' sk' ?_)
        rw [w2]; rfl
      · refine br_f (nI_ne0 w1 (by omega)) ⟨hv, rr_in (by omega), nm_e (nm_e ?_)⟩
        exact S53 ((l, xl) :: st) _ ⟨pk_us, rr_SK_upd (Nat.le_refl _) SK'⟩ (rr_sk_cons w1 tl sk') rfl
theorem rr_release {n : Nat} {xs : rr_LX} {fs : List Nat} {aF aP : Nat → Int32} (T : rr_TT h n xs) (FL : rr_FL aF fs) (hl : fs.length + xs.length ≤ 40)
    (K : ∀ (aF' aP' : Nat → Int32) (fs' : List Nat), rr_FL aF' fs' → fs'.Perm (rr_nd xs ++ fs) → post (rr_ST ro (nI fs'.length) sd fp sp pc h aC aF' aP')) :
    wpX_release post (rr_ST ro (nI fs.length) sd fp sp pc h aC aF aP) (nI n) := by
  unfold wpX_release
  dsimp only
  rcases rr_TT_or T with ⟨rfl, rfl⟩ | ⟨w1, w2, w3⟩
  · exact br_t (rfl : nI 0 = 0) (K aF aP fs FL (List.Perm.refl _))
  · rw [rr_bb n (by omega)]
    refine br_f (nI_ne0 w1 (by omega)) (nm_e ⟨(rr_ns [(n, xs)]).length + 1, ?_⟩)
    have e1 : rr_ns [(n, xs)] = rr_nd xs := List.append_nil _
    refine rr_relL (st := [(n, xs)]) _ (Nat.lt_succ_self _) ⟨pk_us, trivial⟩ FL (rr_sk_cons w1 T fun q hq => absurd hq List.not_mem_nil) (by rw [e1, rr_nd, List.length_map]; exact hl) ?_
    intro aF' aP' fs' g1 g2
    rw [e1] at g2
    exact K aF' aP' fs' g1 g2
end
end
section
/-! part 09: takeOut, putBack, the relation of the component to a list, ranges and stretches -/
theorem rr_ct_app (xs ys : rr_LX) (k : Nat) : (rr_nd (xs ++ ys)).count k = (rr_nd xs).count k + (rr_nd ys).count k := by
  rw [rr_nd, List.map_append, List.count_append]
theorem rr_ct_rev (xs : rr_LX) (k : Nat) : (rr_nd xs.reverse).count k = (rr_nd xs).count k := by
  rw [rr_nd_rev, List.count_reverse]
theorem rr_ct_mp (a : Int32) (xs : rr_LX) (k : Nat) : (rr_nd (rr_mp a xs)).count k = (rr_nd xs).count k := by
  rw [rr_nd_mp]
theorem rr_nodup_c {ls ls' : List Nat} (N : ls.Nodup) (E : ∀ k, ls'.count k = ls.count k) : ls'.Nodup :=
  List.nodup_iff_count.mpr fun k => by rw [E k]; exact List.nodup_iff_count.mp N k
def rr_PO (ls : List Nat) : Prop := ls.Nodup ∧ (∀ k, k ∈ ls → 0 < k ∧ k ≤ 40) ∧ ls.length = 40
theorem rr_PO_p {ls ls' : List Nat} (H : rr_PO ls) (E : ls'.Perm ls) : rr_PO ls' :=
  ⟨E.nodup_iff.mpr H.1, fun k hk => H.2.1 k (E.mem_iff.mp hk), E.length_eq.trans H.2.2⟩
theorem rr_PO_c {ls ls' : List Nat} (H : rr_PO ls) (E : ∀ k, ls'.count k = ls.count k) : rr_PO ls' := rr_PO_p H (List.perm_iff_count.mpr E)
theorem rr_PO_n {xs : rr_LX} {fs : List Nat} (H : rr_PO (rr_nd xs ++ fs)) : (rr_nd xs).Nodup := (List.nodup_append.mp H.1).1
theorem rr_PO_l {xs : rr_LX} {fs : List Nat} (H : rr_PO (rr_nd xs ++ fs)) : fs.length + xs.length = 40 := by
  have := H.2.2
  rw [List.length_append, rr_nd, List.length_map] at this
  omega
/-- the component's state holds the list -/
def rr_I (u : SX) (xs : rr_LX) : Prop := ∃ (n : Nat) (fs : List Nat) (sd fp sp pc : Int32) (h : Nat → rr_HX) (aC aF aP : Nat → Int32), u = rr_ST (nI n) (nI fs.length) sd fp sp pc h aC aF aP ∧ rr_TT h n xs ∧ rr_FL aF fs ∧ rr_PO (rr_nd xs ++ fs)
theorem rr_I_mk {n : Nat} {fs : List Nat} {sd fp sp pc : Int32} {h : Nat → rr_HX} {aC aF aP : Nat → Int32} {xs : rr_LX} (T : rr_TT h n xs) (FL : rr_FL aF fs) (PO : rr_PO (rr_nd xs ++ fs)) : rr_I (rr_ST (nI n) (nI fs.length) sd fp sp pc h aC aF aP) xs :=
  ⟨n, fs, sd, fp, sp, pc, h, aC, aF, aP, rfl, T, FL, PO⟩
/-- the middle stretch -/
def rr_md {α : Type} (xs : List α) (a b : Nat) : List α := (xs.take b).drop a
def rr_rs {α : Type} (xs : List α) (a b : Nat) : List α := xs.take a ++ xs.drop b
theorem rr_tt {α : Type} (xs : List α) {a b : Nat} (h : a ≤ b) : (xs.take b).take a = xs.take a := by
  rw [List.take_take, Nat.min_eq_left h]
theorem rr_abc {α : Type} (xs : List α) {a b : Nat} (h : a ≤ b) : xs.take a ++ (rr_md xs a b ++ xs.drop b) = xs := by
  rw [← rr_tt xs h, ← List.append_assoc]
  unfold rr_md
  rw [List.take_append_drop, List.take_append_drop]
theorem rr_md_len {α : Type} (xs : List α) {a b : Nat} (h : b ≤ xs.length) : (rr_md xs a b).length = b - a := by
  unfold rr_md
  rw [List.length_drop, List.length_take, Nat.min_eq_left h]
theorem rr_rs_len {α : Type} (xs : List α) {a b : Nat} (h0 : a ≤ b) (h : b ≤ xs.length) : (rr_rs xs a b).length = xs.length - (b - a) := by
  unfold rr_rs
  rw [List.length_append, List.length_drop, List.length_take, Nat.min_eq_left (by omega)]
  omega
theorem rr_rs_take {α : Type} (xs : List α) {a b : Nat} (h : a ≤ xs.length) : (rr_rs xs a b).take a = xs.take a := by
  unfold rr_rs
  rw [rr_take_l (by rw [List.length_take]; omega), rr_tt xs (Nat.le_refl a)]
theorem rr_rs_drop {α : Type} (xs : List α) {a b : Nat} (h : a ≤ xs.length) : (rr_rs xs a b).drop a = xs.drop b := by
  unfold rr_rs
  rw [rr_drop_l (by rw [List.length_take]; omega), List.drop_eq_nil_of_le (by rw [List.length_take]; omega), List.nil_append]
theorem rr_ct_rs (xs : rr_LX) {a b : Nat} (h : a ≤ b) (k : Nat) : (rr_nd (rr_rs xs a b)).count k + (rr_nd (rr_md xs a b)).count k = (rr_nd xs).count k := by
  have e := congrArg (fun ys => (rr_nd ys).count k) (rr_abc xs h)
  rw [rr_ct_app, rr_ct_app] at e
  unfold rr_rs
  rw [rr_ct_app]
  omega
section
variable {fc sd fp sp pc : Int32} {h : Nat → rr_HX} {aC aF aP : Nat → Int32}
theorem rr_takeOut {post : Int32 → SX → Prop} {n i j : Nat} {xs : rr_LX} (T : rr_TT h n xs) (N : (rr_nd xs).Nodup) (hx : xs.length ≤ 40) (hij : i ≤ j) (hj : j ≤ 40)
    (K : ∀ (h' : Nat → rr_HX) (n' m : Nat) (fp' sp' pc' : Int32) (aP' : Nat → Int32), rr_TT h' n' (rr_rs xs i j) → rr_TT h' m (rr_md xs i j) → post (nI m) (rr_ST (nI n') fc sd fp' sp' pc' h' aC aF aP')) :
    wpX_takeOut post (rr_ST (nI n) fc sd fp sp pc h aC aF aP) (nI i) (nI j) := by
  have e1 := List.take_append_drop j xs
  have e2 := List.take_append_drop i (xs.take j)
  obtain ⟨N1, N2, d1⟩ := rr_nodup_app.mp (show (rr_nd (xs.take j ++ xs.drop j)).Nodup by rw [e1]; exact N)
  obtain ⟨N3, N4, d2⟩ := rr_nodup_app.mp (show (rr_nd ((xs.take j).take i ++ (xs.take j).drop i)).Nodup by rw [e2]; exact N1)
  unfold wpX_takeOut
  dsimp only
  refine rr_cut T N hx hj ?_
  intro h1 pc1 aP1 a1 a2 T1 T2 F1
  dsimp only
  refine rr_cut T1 N1 (by rw [List.length_take]; omega) (by omega) ?_
  intro h2 pc2 aP2 b1 b2 T3 T4 F2
  dsimp only
  have T2' : rr_TT h2 a2 (xs.drop j) := rr_TT_fr T2 fun k hk => F2 k (by
    rcases hk with hk | hk
    · rw [hk]; exact rr_TT_n0 T1
    · exact fun w => d1 k w hk)
  refine rr_join T3 T2' (rr_nodup_app.mpr ⟨N3, N2, fun k q => d1 k (rr_nd_take q)⟩) (by rw [List.length_take, List.length_take, List.length_drop]; omega) ?_
  intro h3 fp3 pc3 aP3 c T5 F3
  dsimp only
  rw [rr_tt xs hij] at T5
  refine K h3 c b2 _ _ _ _ T5 (rr_TT_fr T4 fun k hk => F3 k ?_)
  rcases hk with hk | hk
  · rw [hk, rr_nd, List.map_append, List.mem_append]; exact fun w => w.elim (rr_TT_n0 T3) (rr_TT_n0 T2)
  · rw [rr_nd, List.map_append, List.mem_append]; exact fun w => w.elim (fun w => d2 k w hk) (d1 k (rr_nd_drop hk))
theorem rr_putBack {post : SX → Prop} {n m p : Nat} {xs ms : rr_LX} (T : rr_TT h n xs) (Tm : rr_TT h m ms) (N : (rr_nd (xs ++ ms)).Nodup) (hx : xs.length + ms.length ≤ 40) (hp : p ≤ 40)
    (K : ∀ (h' : Nat → rr_HX) (n' : Nat) (fp' sp' pc' : Int32) (aP' : Nat → Int32), rr_TT h' n' (xs.take p ++ (ms ++ xs.drop p)) → post (rr_ST (nI n') fc sd fp' sp' pc' h' aC aF aP')) :
    wpX_putBack post (rr_ST (nI n) fc sd fp sp pc h aC aF aP) (nI m) (nI p) := by
  obtain ⟨N1, N2, d1⟩ := rr_nodup_app.mp N
  have e1 := List.take_append_drop p xs
  obtain ⟨N3, N4, d2⟩ := rr_nodup_app.mp (show (rr_nd (xs.take p ++ xs.drop p)).Nodup by rw [e1]; exact N1)
  unfold wpX_putBack
  dsimp only
  refine rr_cut T N1 (by omega) hp ?_
  intro h1 pc1 aP1 a1 a2 T1 T2 F1
  dsimp only
  have Tm1 : rr_TT h1 m ms := rr_TT_fr Tm fun k hk => F1 k (by
    rcases hk with hk | hk
    · rw [hk]; exact rr_TT_n0 T
    · exact fun w => d1 k w hk)
  have N5 : (rr_nd (xs.take p ++ ms)).Nodup := rr_nodup_app.mpr ⟨N3, N2, fun k q => d1 k (rr_nd_take q)⟩
  have ma : ∀ k, k ∈ rr_nd (xs.take p ++ ms) ↔ k ∈ rr_nd (xs.take p) ∨ k ∈ rr_nd ms := fun k => by rw [rr_nd, List.map_append, List.mem_append]
  have d3 : rr_dj (xs.take p ++ ms) (xs.drop p) := fun k q w => ((ma k).mp q).elim (fun z => d2 k z w) (fun z => d1 k (rr_nd_drop w) z)
  refine rr_join T1 Tm1 N5 (by rw [List.length_take]; omega) ?_
  intro h2 fp2 pc2 aP2 c T3 F2
  dsimp only
  have T2' : rr_TT h2 a2 (xs.drop p) := rr_TT_fr T2 fun k hk => F2 k (by
    rcases hk with hk | hk
    · rw [hk]; exact rr_TT_n0 T3
    · exact fun w => d3 k w hk)
  refine rr_join T3 T2' (rr_nodup_app.mpr ⟨N5, N4, d3⟩) (by rw [List.length_append, List.length_take, List.length_drop]; omega) ?_
  intro h3 fp3 pc3 aP3 e T4 F3
  dsimp only
  rw [List.append_assoc] at T4
  exact K h3 e _ _ _ _ T4
end
/-! ranges and stretches -/
def rr_inR (x : Int) : Prop := -1000000 ≤ x ∧ x ≤ 1000000
theorem rr_rng {p : Int64} {P0 P1 : Prop} (K1 : rr_inR p.toInt → P1) (K0 : ¬ rr_inR p.toInt → P0) : (p < (-1000000) → P0) ∧ (¬ p < (-1000000) → ((1000000 < p → P0) ∧ (¬ 1000000 < p → P1))) := by
  have e1 : (-1000000 : Int64).toInt = -1000000 := by decide
  have e2 : (1000000 : Int64).toInt = 1000000 := by decide
  rw [Int64.lt_iff_toInt_lt, Int64.lt_iff_toInt_lt, e1, e2]
  exact br_c (fun c => K0 fun q => absurd q.1 (by omega)) (fun c => br_c (fun d => K0 fun q => absurd q.2 (by omega)) (fun d => K1 ⟨by omega, by omega⟩))
theorem rr_isInRange {post : Int32 → Prop} {ro fc sd fp sp pc : Int32} {h : Nat → rr_HX} {aC aF aP : Nat → Int32} {p : Int64} (K1 : rr_inR p.toInt → post 1) (K0 : ¬ rr_inR p.toInt → post 0) : wpX_isInRange post (rr_ST ro fc sd fp sp pc h aC aF aP) p := by
  unfold wpX_isInRange
  dsimp only
  exact rr_rng K1 K0
def rr_str (i j : Int32) (c : Nat) : Prop := ∃ a b : Nat, i = nI a ∧ j = nI b ∧ a ≤ b ∧ b ≤ c
theorem rr_str_of {i j : Int32} {c : Nat} (hc : c ≤ 40) (h1 : ¬ i < 0) (h2 : ¬ j < i) (h3 : ¬ nI c < j) : rr_str i j c := by
  obtain ⟨a, ha, rfl⟩ := nI_of h1
  have h4 : ¬ j < 0 := by
    have e := nI_toInt ha
    rw [Int32.lt_iff_toInt_lt] at h2 ⊢
    rw [Int32.toInt_zero]
    omega
  obtain ⟨b, hb, rfl⟩ := nI_of h4
  rw [nI_ltI (by omega) (by omega)] at h2 h3
  exact ⟨a, b, rfl, rfl, by omega, by omega⟩
theorem rr_str_n1 {i j : Int32} {c : Nat} (hc : c ≤ 40) (h : i < 0) : ¬ rr_str i j c := by
  rintro ⟨a, b, rfl, rfl, h1, h2⟩
  exact nI_pos (by omega) h
theorem rr_str_n2 {i j : Int32} {c : Nat} (hc : c ≤ 40) (h : j < i) : ¬ rr_str i j c := by
  rintro ⟨a, b, rfl, rfl, h1, h2⟩
  exact nI_nlt h1 (by omega) h
theorem rr_str_n3 {i j : Int32} {c : Nat} (hc : c ≤ 40) (h : nI c < j) : ¬ rr_str i j c := by
  rintro ⟨a, b, rfl, rfl, h1, h2⟩
  exact nI_nlt h2 (by omega) h
theorem rr_isStretch {post : Int32 → Prop} {fc sd fp sp pc : Int32} {h : Nat → rr_HX} {aC aF aP : Nat → Int32} {n : Nat} {xs : rr_LX} {i j : Int32} (T : rr_TT h n xs) (hx : xs.length ≤ 40) (K1 : rr_str i j xs.length → post 1) (K0 : ¬ rr_str i j xs.length → post 0) : wpX_isStretch post (rr_ST (nI n) fc sd fp sp pc h aC aF aP) i j := by
  unfold wpX_isStretch
  dsimp only
  have n40 := rr_TT_le T
  rw [rr_cl n40, show rr_pN h n = nI xs.length from rr_TT_cnt T]
  exact br_c (fun c => K0 (rr_str_n1 hx c)) (fun c1 => br_c (fun c => K0 (rr_str_n2 hx c)) (fun c2 => ⟨rr_in n40, br_c (fun c => K0 (rr_str_n3 hx c)) (fun c3 => K1 (rr_str_of hx c1 c2 c3))⟩))
end
section
/-! part 10: the calls of the component over a list -/
theorem rr_x_insert {post : Int32 → SX → Prop} {u : SX} {xs : rr_LX} {p v : Int32} (I : rr_I u xs)
    (K0 : xs.length = 40 → post (-2) u)
    (K1 : xs.length < 40 → ¬ ((∃ k, k ≤ xs.length ∧ p = nI k) ∧ rr_inR v.toInt) → post (-1) u)
    (K2 : xs.length < 40 → ∀ k, k ≤ xs.length → p = nI k → rr_inR v.toInt → ∀ u' q, rr_I u' (xs.take k ++ ((q, v) :: xs.drop k)) → post (nI (xs.length + 1)) u') :
    wpX_insert post u p v := by
  obtain ⟨n, fs, sd, fp, sp, pc, h, aC, aF, aP, rfl, T, FL, PO⟩ := I
  have n40 := rr_TT_le T
  have ln := rr_PO_l PO
  have N := rr_PO_n PO
  have hx : xs.length ≤ 40 := by omega
  unfold wpX_insert
  dsimp only
  rw [rr_cl n40, show rr_pN h n = nI xs.length from rr_TT_cnt T]
  refine ⟨rr_in n40, pk_lt xs.length 40 (fun c40 => ?_) (fun c40 => K0 (by omega))⟩
  refine br_c (fun c => K1 c40 ?_) (fun c1 => ?_)
  · rintro ⟨⟨k, hk, rfl⟩, _⟩
    exact nI_pos (by omega) c
  · obtain ⟨k, hk, rfl⟩ := nI_of c1
    refine ⟨rr_in n40, pk_lt xs.length k (fun c => K1 c40 ?_) (fun c2 => ?_)⟩
    · rintro ⟨⟨k', hk', e⟩, _⟩
      rw [nI_eq hk (by omega)] at e
      omega
    · refine rr_isInRange (fun R => br_f (by decide) ?_) (fun R => br_t rfl (K1 c40 fun q => R ?_))
      · rw [Int32.toInt_toInt64] at R
        refine rr_cut T N hx (by omega) ?_
        intro h1 pc1 aP1 a1 a2 T1 T2 F1
        dsimp only
        cases fs with
        | nil => rw [List.length_nil] at ln; omega
        | cons f fs =>
          have hf : 0 < f ∧ f ≤ 40 := PO.2.1 f (List.mem_append.mpr (Or.inr List.mem_cons_self))
          have nf : f ∉ rr_nd xs := fun w => (List.nodup_append.mp PO.1).2.2 f w f List.mem_cons_self rfl
          have e1 := List.take_append_drop k xs
          obtain ⟨N3, N4, d2⟩ := rr_nodup_app.mp (show (rr_nd (xs.take k ++ xs.drop k)).Nodup by rw [e1]; exact N)
          rw [List.length_cons] at ln
          refine rr_newNode (c := fs.length) (f := f) (rr_TT_h0 T1) hf.1 hf.2 (by omega) FL.1 R ?_
          intro sd2 aC2 h2 T3 F2
          dsimp only
          have nd1 : rr_nd [(f, v)] = [f] := rfl
          have T1' : rr_TT h2 a1 (xs.take k) := rr_TT_fr T1 fun j hj => F2 j (by
            rcases hj with hj | hj
            · omega
            · exact fun w => nf (w ▸ rr_nd_take hj))
          have T2' : rr_TT h2 a2 (xs.drop k) := rr_TT_fr T2 fun j hj => F2 j (by
            rcases hj with hj | hj
            · omega
            · exact fun w => nf (w ▸ rr_nd_drop hj))
          have dA : rr_dj (xs.take k) [(f, v)] := fun j q w => nf (by rw [nd1, List.mem_singleton] at w; exact w ▸ rr_nd_take q)
          have N5 : (rr_nd (xs.take k ++ [(f, v)])).Nodup := rr_nodup_app.mpr ⟨N3, by rw [nd1]; exact List.nodup_cons.mpr ⟨List.not_mem_nil, List.nodup_nil⟩, dA⟩
          have ma : ∀ j, j ∈ rr_nd (xs.take k ++ [(f, v)]) ↔ j ∈ rr_nd (xs.take k) ∨ j = f := fun j => by rw [rr_nd, List.map_append, List.mem_append]; exact or_congr Iff.rfl List.mem_singleton
          have dB : rr_dj (xs.take k ++ [(f, v)]) (xs.drop k) := fun j q w => ((ma j).mp q).elim (fun z => d2 j z w) (fun z => nf (z ▸ rr_nd_drop w))
          refine rr_join T1' T3 N5 (by rw [List.length_take, List.length_singleton]; omega) ?_
          intro h3 fp3 pc3 aP3 c T4 F3
          dsimp only
          have T2'' : rr_TT h3 a2 (xs.drop k) := rr_TT_fr T2' fun j hj => F3 j (by
            rcases hj with hj | hj
            · rw [hj]; exact rr_TT_n0 T4
            · exact fun w => dB j w hj)
          refine rr_join T4 T2'' (rr_nodup_app.mpr ⟨N5, N4, dB⟩) (by rw [List.length_append, List.length_take, List.length_singleton, List.length_drop]; omega) ?_
          intro h4 fp4 pc4 aP4 d T5 F4
          dsimp only
          have d40 := rr_TT_le T5
          have ec : rr_pN h4 (nI d).toNatClampNeg = nI (xs.length + 1) := by
            rw [rr_cl d40]
            refine (rr_TT_cnt T5).trans (congrArg nI ?_)
            rw [List.length_append, List.length_append, List.length_take, List.length_singleton, List.length_drop]
            omega
          rw [ec]
          refine ⟨rr_in d40, K2 c40 k (by omega) rfl R _ f ?_⟩
          rw [List.append_assoc] at T5
          refine rr_I_mk T5 FL.2 (rr_PO_c PO fun j => ?_)
          have ej := congrArg (fun ys => (rr_nd ys).count j) e1
          rw [rr_ct_app] at ej
          rw [List.count_append, List.count_append, ← ej, rr_ct_app, List.count_cons]
          show _ + (List.count j (f :: rr_nd (xs.drop k))) + _ = _
          rw [List.count_cons]
          omega
      · rw [Int32.toInt_toInt64]; exact q.2
theorem rr_x_length {post : Int32 → Prop} {u : SX} {xs : rr_LX} (I : rr_I u xs) (K : xs.length ≤ 40 → post (nI xs.length)) : wpX_length post u := by
  obtain ⟨n, fs, sd, fp, sp, pc, h, aC, aF, aP, rfl, T, FL, PO⟩ := I
  have n40 := rr_TT_le T
  have ln := rr_PO_l PO
  unfold wpX_length
  dsimp only
  rw [rr_cl n40, show rr_pN h n = nI xs.length from rr_TT_cnt T]
  exact ⟨rr_in n40, K (by omega)⟩
theorem rr_x_remove {post : Int32 → SX → Prop} {u : SX} {xs : rr_LX} {i j : Int32} (I : rr_I u xs)
    (K0 : ¬ rr_str i j xs.length → post (-1) u)
    (K1 : ∀ a b, i = nI a → j = nI b → a ≤ b → b ≤ xs.length → ∀ u', rr_I u' (rr_rs xs a b) → post (nI (xs.length - (b - a))) u') :
    wpX_remove post u i j := by
  obtain ⟨n, fs, sd, fp, sp, pc, h, aC, aF, aP, rfl, T, FL, PO⟩ := I
  have ln := rr_PO_l PO
  have N := rr_PO_n PO
  have hx : xs.length ≤ 40 := by omega
  unfold wpX_remove
  dsimp only
  refine rr_isStretch T hx (fun S => br_f (by decide) ?_) (fun S => br_t rfl (K0 S))
  obtain ⟨a, b, rfl, rfl, hab, hb⟩ := S
  refine rr_takeOut T N hx hab (by omega) ?_
  intro h1 n1 m fp1 sp1 pc1 aP1 T1 T2
  dsimp only
  have lm := rr_md_len xs (a := a) hb
  have lr := rr_rs_len xs hab hb
  refine rr_release T2 FL (by omega) ?_
  intro aF' aP' fs' g1 g2
  dsimp only
  have n40 := rr_TT_le T1
  rw [rr_cl n40, show rr_pN h1 n1 = nI (rr_rs xs a b).length from rr_TT_cnt T1, lr]
  refine ⟨rr_in n40, K1 a b rfl rfl hab hb _ (rr_I_mk T1 g1 (rr_PO_c PO fun k => ?_))⟩
  have c1 := rr_ct_rs xs hab k
  have c2 := List.perm_iff_count.mp g2 k
  rw [List.count_append] at c2
  rw [List.count_append, List.count_append]
  omega
theorem rr_x_get {post : Int32 → SX → Prop} {u : SX} {xs : rr_LX} {i : Int32} (I : rr_I u xs)
    (K0 : ¬ (∃ k, k < xs.length ∧ i = nI k) → post 0 u)
    (K1 : ∀ k q v, k < xs.length → i = nI k → xs[k]? = some (q, v) → ∀ u', rr_I u' xs → post v u') :
    wpX_get post u i := by
  obtain ⟨n, fs, sd, fp, sp, pc, h, aC, aF, aP, rfl, T, FL, PO⟩ := I
  have ln := rr_PO_l PO
  have N := rr_PO_n PO
  have hx : xs.length ≤ 40 := by omega
  have n40 := rr_TT_le T
  unfold wpX_get
  dsimp only
  rw [rr_cl n40, show rr_pN h n = nI xs.length from rr_TT_cnt T]
  refine br_c (fun c => K0 ?_) (fun c1 => ?_)
  · rintro ⟨k, hk, rfl⟩
    exact nI_pos (by omega) c
  · obtain ⟨k, hk, rfl⟩ := nI_of c1
    refine ⟨rr_in n40, pk_lt k xs.length (fun c => ?_) (fun c => K0 ?_)⟩
    · refine rr_nodeAt T N hx c ?_
      intro h' q v T' g1 g2 g3
      dsimp only
      rw [rr_cl g3, show rr_pV h' q = v from g2]
      exact ⟨rr_in g3, K1 k q v c rfl g1 _ (rr_I_mk T' FL PO)⟩
    · rintro ⟨k', hk', e⟩
      rw [nI_eq hk (by omega)] at e
      omega
/-- takeOut, then something with the middle, then putBack -/
theorem rr_ab_nodup {xs ms : rr_LX} {a b : Nat} (N : (rr_nd xs).Nodup) (hab : a ≤ b) (E : ∀ k, (rr_nd ms).count k = (rr_nd (rr_md xs a b)).count k) : (rr_nd (rr_rs xs a b ++ ms)).Nodup :=
  rr_nodup_c N fun k => by rw [rr_ct_app, E k, rr_ct_rs xs hab k]
theorem rr_ab_PO {xs ms ys : rr_LX} {fs : List Nat} {a b : Nat} (PO : rr_PO (rr_nd xs ++ fs)) (hab : a ≤ b) (E : ∀ k, (rr_nd ms).count k = (rr_nd (rr_md xs a b)).count k) (Y : ∀ k, (rr_nd ys).count k = (rr_nd (rr_rs xs a b)).count k + (rr_nd ms).count k) : rr_PO (rr_nd ys ++ fs) :=
  rr_PO_c PO fun k => by rw [List.count_append, List.count_append, Y k, E k, rr_ct_rs xs hab k]
section
variable {fc sd fp sp pc : Int32} {h : Nat → rr_HX} {aC aF aP : Nat → Int32}
/-- putting a middle back where it was -/
theorem rr_back {post : SX → Prop} {n m a b : Nat} {xs ms : rr_LX} {fs : List Nat} (T : rr_TT h n (rr_rs xs a b)) (Tm : rr_TT h m ms) (FL : rr_FL aF fs) (PO : rr_PO (rr_nd xs ++ fs)) (hab : a ≤ b) (hb : b ≤ xs.length) (E : ∀ k, (rr_nd ms).count k = (rr_nd (rr_md xs a b)).count k) (hl : ms.length = b - a)
    (K : ∀ u', rr_I u' (xs.take a ++ (ms ++ xs.drop b)) → post u') :
    wpX_putBack post (rr_ST (nI n) (nI fs.length) sd fp sp pc h aC aF aP) (nI m) (nI a) := by
  have ln := rr_PO_l PO
  have N := rr_PO_n PO
  have lr := rr_rs_len xs hab hb
  refine rr_putBack T Tm (rr_ab_nodup N hab E) (by omega) (by omega) ?_
  intro h' n' fp' sp' pc' aP' T'
  rw [rr_rs_take xs (by omega), rr_rs_drop xs (by omega)] at T'
  refine K _ (rr_I_mk T' FL (rr_ab_PO PO hab E fun k => ?_))
  rw [rr_ct_app, rr_ct_app]
  unfold rr_rs
  rw [rr_ct_app]
  omega
/-- putting the same middle back -/
theorem rr_same {post : SX → Prop} {n m a b : Nat} {xs : rr_LX} {fs : List Nat} (T : rr_TT h n (rr_rs xs a b)) (Tm : rr_TT h m (rr_md xs a b)) (FL : rr_FL aF fs) (PO : rr_PO (rr_nd xs ++ fs)) (hab : a ≤ b) (hb : b ≤ xs.length)
    (K : ∀ u', rr_I u' xs → post u') :
    wpX_putBack post (rr_ST (nI n) (nI fs.length) sd fp sp pc h aC aF aP) (nI m) (nI a) := by
  refine rr_back T Tm FL PO hab hb (fun _ => rfl) (rr_md_len xs hb) ?_
  intro u' I'
  rw [rr_abc xs hab] at I'
  exact K u' I'
end
theorem rr_x_reverse {post : Int32 → SX → Prop} {u : SX} {xs : rr_LX} {i j : Int32} (I : rr_I u xs)
    (K0 : ¬ rr_str i j xs.length → post 0 u)
    (K1 : ∀ a b, i = nI a → j = nI b → a ≤ b → b ≤ xs.length → ∀ u', rr_I u' (xs.take a ++ ((rr_md xs a b).reverse ++ xs.drop b)) → post 1 u') :
    wpX_reverse post u i j := by
  obtain ⟨n, fs, sd, fp, sp, pc, h, aC, aF, aP, rfl, T, FL, PO⟩ := I
  have ln := rr_PO_l PO
  have N := rr_PO_n PO
  have hx : xs.length ≤ 40 := by omega
  unfold wpX_reverse
  dsimp only
  refine rr_isStretch T hx (fun S => br_f (by decide) ?_) (fun S => br_t rfl (K0 S))
  obtain ⟨a, b, rfl, rfl, hab, hb⟩ := S
  refine rr_takeOut T N hx hab (by omega) ?_
  intro h1 n1 m fp1 sp1 pc1 aP1 T1 T2
  dsimp only
  obtain ⟨N1, N2, d1⟩ := rr_nodup_app.mp (rr_ab_nodup N hab (ms := rr_md xs a b) (fun _ => rfl))
  refine rr_noteTurn T2 N2 ?_
  intro h2 T3 F3
  dsimp only
  have T1' : rr_TT h2 n1 (rr_rs xs a b) := rr_TT_fr T1 fun k hk => F3 k (by
    rcases hk with hk | hk
    · rw [hk]; exact rr_TT_n0 T2
    · exact d1 k hk)
  exact rr_back T1' T3 FL PO hab hb (fun k => rr_ct_rev _ k) (by rw [List.length_reverse]; exact rr_md_len xs hb) fun u' I' => K1 a b rfl rfl hab hb u' I'
theorem rr_x_move {post : Int32 → SX → Prop} {u : SX} {xs : rr_LX} {i j p : Int32} (I : rr_I u xs)
    (K0 : ¬ rr_str i j xs.length → post 0 u)
    (K2 : ∀ a b, i = nI a → j = nI b → a ≤ b → b ≤ xs.length → ¬ (∃ k, k + (b - a) ≤ xs.length ∧ p = nI k) → post 0 u)
    (K1 : ∀ a b k, i = nI a → j = nI b → p = nI k → a ≤ b → b ≤ xs.length → k + (b - a) ≤ xs.length → ∀ u', rr_I u' ((rr_rs xs a b).take k ++ (rr_md xs a b ++ (rr_rs xs a b).drop k)) → post 1 u') :
    wpX_move post u i j p := by
  obtain ⟨n, fs, sd, fp, sp, pc, h, aC, aF, aP, rfl, T, FL, PO⟩ := I
  have ln := rr_PO_l PO
  have N := rr_PO_n PO
  have hx : xs.length ≤ 40 := by omega
  have n40 := rr_TT_le T
  unfold wpX_move
  dsimp only
  rw [rr_cl n40, show rr_pN h n = nI xs.length from rr_TT_cnt T]
  refine rr_isStretch T hx (fun S => br_f (by decide) ?_) (fun S => br_t rfl (K0 S))
  obtain ⟨a, b, rfl, rfl, hab, hb⟩ := S
  rw [pk_sub hab, pk_sub (show b - a ≤ xs.length by omega)]
  refine br_c (fun c => K2 a b rfl rfl hab hb ?_) (fun c1 => ?_)
  · rintro ⟨k, hk, rfl⟩
    exact nI_pos (by omega) c
  · obtain ⟨k, hk, rfl⟩ := nI_of c1
    refine ⟨rr_in n40, pk_le k (xs.length - (b - a)) (fun c => ?_) (fun c => K2 a b rfl rfl hab hb ?_)⟩
    · refine rr_takeOut T N hx hab (by omega) ?_
      intro h1 n1 m fp1 sp1 pc1 aP1 T1 T2
      dsimp only
      have lm := rr_md_len xs (a := a) hb
      have lr := rr_rs_len xs hab hb
      refine rr_putBack T1 T2 (rr_ab_nodup N hab (fun _ => rfl)) (by omega) (by omega) ?_
      intro h' n' fp' sp' pc' aP' T'
      dsimp only
      refine K1 a b k rfl rfl rfl hab hb (by omega) _ (rr_I_mk T' FL (rr_ab_PO (ms := rr_md xs a b) PO hab (fun _ => rfl) fun q => ?_))
      have e := congrArg (fun ys => (rr_nd ys).count q) (List.take_append_drop k (rr_rs xs a b))
      rw [rr_ct_app] at e
      rw [rr_ct_app, rr_ct_app]
      omega
    · rintro ⟨k', hk', e⟩
      rw [nI_eq hk (by omega)] at e
      omega
theorem rr_x_sum {post : Int32 → SX → Prop} {u : SX} {xs : rr_LX} {i j : Int32} (I : rr_I u xs)
    (K0 : ¬ rr_str i j xs.length → post 0 u)
    (K1 : ∀ a b, i = nI a → j = nI b → a ≤ b → b ≤ xs.length → ∀ u', rr_I u' xs → post (rr_sm (rr_md xs a b)) u') :
    wpX_sum post u i j := by
  obtain ⟨n, fs, sd, fp, sp, pc, h, aC, aF, aP, rfl, T, FL, PO⟩ := I
  have ln := rr_PO_l PO
  have N := rr_PO_n PO
  have hx : xs.length ≤ 40 := by omega
  unfold wpX_sum
  dsimp only
  refine rr_isStretch T hx (fun S => br_f (by decide) ?_) (fun S => br_t rfl (K0 S))
  obtain ⟨a, b, rfl, rfl, hab, hb⟩ := S
  refine rr_takeOut T N hx hab (by omega) ?_
  intro h1 n1 m fp1 sp1 pc1 aP1 T1 T2
  dsimp only
  have m40 := rr_TT_le T2
  rw [rr_cl m40]
  rcases rr_TT_or T2 with ⟨w1, w2⟩ | ⟨w1, w2, w3⟩
  · refine br_t (by rw [w1]; rfl) ?_
    unfold wX_sum_32
    refine rr_same T1 T2 FL PO hab hb fun u' I' => ?_
    have := K1 a b rfl rfl hab hb u' I'
    rw [w2] at this
    exact this
  · refine br_f (nI_ne0 w1 (by omega)) ⟨rr_in m40, ?_⟩
    unfold wX_sum_32
    refine rr_same T1 T2 FL PO hab hb fun u' I' => ?_
    have := K1 a b rfl rfl hab hb u' I'
    rw [← w3.2.1] at this
    exact this
theorem rr_x_greatest {post : Int32 → SX → Prop} {u : SX} {xs : rr_LX} {i j : Int32} (I : rr_I u xs)
    (K0 : ¬ rr_str i j xs.length → post 0 u)
    (K1 : ∀ a b, i = nI a → j = nI b → a ≤ b → b ≤ xs.length → ∀ r, ((rr_md xs a b = [] ∧ r = 0) ∨ rr_mx r (rr_md xs a b)) → ∀ u', rr_I u' xs → post r u') :
    wpX_greatest post u i j := by
  obtain ⟨n, fs, sd, fp, sp, pc, h, aC, aF, aP, rfl, T, FL, PO⟩ := I
  have ln := rr_PO_l PO
  have N := rr_PO_n PO
  have hx : xs.length ≤ 40 := by omega
  unfold wpX_greatest
  dsimp only
  refine rr_isStretch T hx (fun S => br_f (by decide) ?_) (fun S => br_t rfl (K0 S))
  obtain ⟨a, b, rfl, rfl, hab, hb⟩ := S
  refine rr_takeOut T N hx hab (by omega) ?_
  intro h1 n1 m fp1 sp1 pc1 aP1 T1 T2
  dsimp only
  have m40 := rr_TT_le T2
  rw [rr_cl m40]
  rcases rr_TT_or T2 with ⟨w1, w2⟩ | ⟨w1, w2, w3⟩
  · refine br_t (by rw [w1]; rfl) ?_
    unfold wX_greatest_32
    exact rr_same T1 T2 FL PO hab hb fun u' I' => K1 a b rfl rfl hab hb 0 (Or.inl ⟨w2, rfl⟩) u' I'
  · refine br_f (nI_ne0 w1 (by omega)) ⟨rr_in m40, ?_⟩
    unfold wX_greatest_32
    exact rr_same T1 T2 FL PO hab hb fun u' I' => K1 a b rfl rfl hab hb _ (Or.inr w3.2.2.2.1) u' I'
theorem rr_x_smallest {post : Int32 → SX → Prop} {u : SX} {xs : rr_LX} {i j : Int32} (I : rr_I u xs)
    (K0 : ¬ rr_str i j xs.length → post 0 u)
    (K1 : ∀ a b, i = nI a → j = nI b → a ≤ b → b ≤ xs.length → ∀ r, ((rr_md xs a b = [] ∧ r = 0) ∨ rr_mn r (rr_md xs a b)) → ∀ u', rr_I u' xs → post r u') :
    wpX_smallest post u i j := by
  obtain ⟨n, fs, sd, fp, sp, pc, h, aC, aF, aP, rfl, T, FL, PO⟩ := I
  have ln := rr_PO_l PO
  have N := rr_PO_n PO
  have hx : xs.length ≤ 40 := by omega
  unfold wpX_smallest
  dsimp only
  refine rr_isStretch T hx (fun S => br_f (by decide) ?_) (fun S => br_t rfl (K0 S))
  obtain ⟨a, b, rfl, rfl, hab, hb⟩ := S
  refine rr_takeOut T N hx hab (by omega) ?_
  intro h1 n1 m fp1 sp1 pc1 aP1 T1 T2
  dsimp only
  have m40 := rr_TT_le T2
  rw [rr_cl m40]
  rcases rr_TT_or T2 with ⟨w1, w2⟩ | ⟨w1, w2, w3⟩
  · refine br_t (by rw [w1]; rfl) ?_
    unfold wX_smallest_32
    exact rr_same T1 T2 FL PO hab hb fun u' I' => K1 a b rfl rfl hab hb 0 (Or.inl ⟨w2, rfl⟩) u' I'
  · refine br_f (nI_ne0 w1 (by omega)) ⟨rr_in m40, ?_⟩
    unfold wX_smallest_32
    exact rr_same T1 T2 FL PO hab hb fun u' I' => K1 a b rfl rfl hab hb _ (Or.inr w3.2.2.1) u' I'
theorem rr_x_clear {post : Int32 → SX → Prop} {u : SX} {xs : rr_LX} (I : rr_I u xs)
    (K : ∀ u', rr_I u' [] → post (nI xs.length) u') : wpX_clear post u := by
  obtain ⟨n, fs, sd, fp, sp, pc, h, aC, aF, aP, rfl, T, FL, PO⟩ := I
  have ln := rr_PO_l PO
  have n40 := rr_TT_le T
  unfold wpX_clear
  dsimp only
  rw [rr_cl n40, show rr_pN h n = nI xs.length from rr_TT_cnt T]
  refine ⟨rr_in n40, nm_e ?_⟩
  refine rr_release T FL (by omega) ?_
  intro aF' aP' fs' g1 g2
  dsimp only
  exact K _ (rr_I_mk (n := 0) (rr_TT_nil (rr_TT_h0 T)) g1 (rr_PO_p PO g2))
end
section
/-! part 11: add, twice, firstAtLeast of the component over a list -/
theorem rr_x_add {post : Int32 → SX → Prop} {u : SX} {xs : rr_LX} {i j more : Int32} (I : rr_I u xs)
    (K0 : ¬ rr_str i j xs.length → post 0 u)
    (K1 : ∀ a b, i = nI a → j = nI b → a ≤ b → b ≤ xs.length → (∀ p, p ∈ rr_md xs a b → rr_inR (p.2.toInt + more.toInt)) → ∀ u', rr_I u' (xs.take a ++ (rr_mp more (rr_md xs a b) ++ xs.drop b)) → post 1 u')
    (K2 : ∀ a b, i = nI a → j = nI b → a ≤ b → b ≤ xs.length → ¬ (∀ p, p ∈ rr_md xs a b → rr_inR (p.2.toInt + more.toInt)) → ∀ u', rr_I u' xs → post 0 u') :
    wpX_add post u i j more := by
  obtain ⟨n, fs, sd, fp, sp, pc, h, aC, aF, aP, rfl, T, FL, PO⟩ := I
  have ln := rr_PO_l PO
  have N := rr_PO_n PO
  have hx : xs.length ≤ 40 := by omega
  unfold wpX_add
  dsimp only
  refine rr_isStretch T hx (fun S => br_f (by decide) ?_) (fun S => br_t rfl (K0 S))
  obtain ⟨a, b, rfl, rfl, hab, hb⟩ := S
  refine rr_takeOut T N hx hab (by omega) ?_
  intro h1 n1 m fp1 sp1 pc1 aP1 T1 T2
  dsimp only
  have m40 := rr_TT_le T2
  obtain ⟨N1, N2, d1⟩ := rr_nodup_app.mp (rr_ab_nodup N hab (ms := rr_md xs a b) (fun _ => rfl))
  have rg := rr_TT_rg T2
  have Yes : (∀ p, p ∈ rr_md xs a b → rr_inR (p.2.toInt + more.toInt)) → wX_add_65 post (nI a) more (nI m) 1 (nI n1) (nI fs.length) sd fp1 sp1 pc1 (rr_pL h1) (rr_pR h1) aC (rr_pV h1) (rr_pN h1) (rr_pT h1) (rr_pI h1) (rr_pM h1) (rr_pU h1) (rr_pA h1) aF aP1 := by
    intro A
    unfold wX_add_65
    refine br_f (by decide) ?_
    have R : rr_rg (rr_mp more (rr_md xs a b)) := by
      intro q hq
      obtain ⟨p, hp, rfl⟩ := rr_mem_mp.mp hq
      have g := rg p hp
      have g2 := A p hp
      have e := rr_addR g.1 g.2 g2.1 g2.2
      show rr_inR (p.2 + more).toInt
      rw [e]
      exact g2
    refine rr_noteAdd T2 N2 R ?_
    intro h2 T3 F3
    dsimp only
    have T1' : rr_TT h2 n1 (rr_rs xs a b) := rr_TT_fr T1 fun k hk => F3 k (by
      rcases hk with hk | hk
      · rw [hk]; exact rr_TT_n0 T2
      · exact d1 k hk)
    unfold wX_add_79
    refine rr_back T1' T3 FL PO hab hb (fun k => rr_ct_mp _ _ k) (by rw [rr_len_mp]; exact rr_md_len xs hb) ?_
    intro u' I'
    have J := I'
    obtain ⟨n', fs', sd', fp', sp', pc', h', aC', aF', aP', rfl, _⟩ := I'
    exact ⟨narrow_b1, K1 a b rfl rfl hab hb A _ J⟩
  have No : ¬ (∀ p, p ∈ rr_md xs a b → rr_inR (p.2.toInt + more.toInt)) → wX_add_65 post (nI a) more (nI m) 0 (nI n1) (nI fs.length) sd fp1 sp1 pc1 (rr_pL h1) (rr_pR h1) aC (rr_pV h1) (rr_pN h1) (rr_pT h1) (rr_pI h1) (rr_pM h1) (rr_pU h1) (rr_pA h1) aF aP1 := by
    intro A
    unfold wX_add_65
    refine br_t rfl ?_
    unfold wX_add_79
    refine rr_same T1 T2 FL PO hab hb ?_
    intro u' I'
    have J := I'
    obtain ⟨n', fs', sd', fp', sp', pc', h', aC', aF', aP', rfl, _⟩ := I'
    exact ⟨narrow_b0, K2 a b rfl rfl hab hb A _ J⟩
  rw [rr_cl m40]
  rcases rr_TT_or T2 with ⟨w1, w2⟩ | ⟨w1, w2, w3⟩
  · refine br_t (by rw [w1]; rfl) ?_
    exact Yes fun p hp => by rw [w2] at hp; exact absurd hp List.not_mem_nil
  · refine br_f (nI_ne0 w1 (by omega)) ⟨rr_in m40, ?_⟩
    obtain ⟨⟨pl, hpl, el⟩, ml⟩ := w3.2.2.1
    obtain ⟨⟨pm, hpm, em⟩, mm⟩ := w3.2.2.2.1
    refine rr_isInRange (fun R1 => br_f (by decide) ⟨rr_in m40, rr_isInRange (fun R2 => br_f (by decide) ?_) (fun R2 => br_t rfl ?_)⟩) (fun R1 => br_t rfl ?_)
    · rw [rr_long] at R1 R2
      refine Yes fun p hp => ?_
      have g1 := ml p hp
      have g2 := mm p hp
      have e1 : (rr_pI h1 m).toInt = (rr_i (h1 m)).toInt := rfl
      have e2 : (rr_pM h1 m).toInt = (rr_m (h1 m)).toInt := rfl
      unfold rr_inR at R1 R2 ⊢
      omega
    · rw [rr_long] at R2
      refine No fun A => R2 ?_
      have g := A pm hpm
      rw [em] at g
      exact g
    · rw [rr_long] at R1
      refine No fun A => R1 ?_
      have g := A pl hpl
      rw [el] at g
      exact g
def rr_vs (xs : rr_LX) : List Int32 := xs.map Prod.snd
theorem rr_vs_len (xs : rr_LX) : (rr_vs xs).length = xs.length := List.length_map _
theorem rr_vs_app (xs ys : rr_LX) : rr_vs (xs ++ ys) = rr_vs xs ++ rr_vs ys := List.map_append
theorem rr_vs_take (xs : rr_LX) (k : Nat) : rr_vs (xs.take k) = (rr_vs xs).take k := List.map_take
theorem rr_vs_drop (xs : rr_LX) (k : Nat) : rr_vs (xs.drop k) = (rr_vs xs).drop k := List.map_drop
theorem rr_vs_md (xs : rr_LX) (a b : Nat) : rr_vs (rr_md xs a b) = rr_md (rr_vs xs) a b := by
  unfold rr_md; rw [rr_vs_drop, rr_vs_take]
theorem rr_vs_rs (xs : rr_LX) (a b : Nat) : rr_vs (rr_rs xs a b) = rr_rs (rr_vs xs) a b := by
  unfold rr_rs; rw [rr_vs_app, rr_vs_drop, rr_vs_take]
theorem rr_vs_get {xs : rr_LX} {k q : Nat} {v : Int32} (h : xs[k]? = some (q, v)) : (rr_vs xs)[k]? = some v := by
  unfold rr_vs; rw [List.getElem?_map, h]; rfl
theorem rr_tw_step {vs : List Int32} {a b k : Nat} {v : Int32} (hb : b ≤ vs.length) (hk : a + k < b) (E : (vs.take b ++ ((rr_md vs a b).take k ++ vs.drop b))[a + k]? = some v) : (rr_md vs a b).take (k + 1) = (rr_md vs a b).take k ++ [v] := by
  rw [List.getElem?_append_left (by rw [List.length_take]; omega)] at E
  rw [List.take_succ]
  unfold rr_md
  rw [List.getElem?_drop, E]
  rfl
theorem rr_twL {post : Int32 → SX → Prop} {a b : Nat} {vs : List Int32} (hab : a ≤ b) (hb : b ≤ vs.length) (h40 : vs.length + (b - a) ≤ 40)
    (K : ∀ u' ys, rr_I u' ys → rr_vs ys = vs.take b ++ (rr_md vs a b ++ vs.drop b) → post (nI (vs.length + (b - a))) u') :
    ∀ (m k : Nat) {n : Nat} {fs : List Nat} {sd fp sp pc : Int32} {h : Nat → rr_HX} {aC aF aP : Nat → Int32} {ys : rr_LX}, (b - a) - k < m → k ≤ b - a → rr_TT h n ys → rr_FL aF fs → rr_PO (rr_nd ys ++ fs) → rr_vs ys = vs.take b ++ ((rr_md vs a b).take k ++ vs.drop b) →
    wX_twice_39 post (nI a) (nI b) (nI (b - a)) m (nI k) (nI n) (nI fs.length) sd fp sp pc (rr_pL h) (rr_pR h) aC (rr_pV h) (rr_pN h) (rr_pT h) (rr_pI h) (rr_pM h) (rr_pU h) (rr_pA h) aF aP := by
  intro m
  have lm := rr_md_len vs (a := a) hb
  induction m with
  | zero => intro k n fs sd fp sp pc h aC aF aP ys hm; omega
  | succ m ih =>
    intro k n fs sd fp sp pc h aC aF aP ys hm hk T FL PO E
    have ln := rr_PO_l PO
    have N := rr_PO_n PO
    have n40 := rr_TT_le T
    have ly : ys.length = vs.length + k := by
      rw [← rr_vs_len, E, List.length_append, List.length_append, List.length_take, List.length_take, List.length_drop, lm]
      omega
    unfold wX_twice_39
    refine pk_le (b - a) k (fun c => ?_) (fun c => ?_)
    · have ek : k = b - a := by omega
      rw [rr_cl n40, show rr_pN h n = nI ys.length from rr_TT_cnt T, ly, ek]
      refine ⟨rr_in n40, K _ ys (rr_I_mk T FL PO) ?_⟩
      rw [E, List.take_of_length_le (show (rr_md vs a b).length ≤ k by omega)]
    · rw [nI_add, nI_add]
      refine rr_nodeAt T N (by omega) (by omega) ?_
      intro h' q v T' g1 g2 g3
      dsimp only
      rw [rr_cl g3]
      refine ⟨rr_in g3, nm_r (show rr_pV h' q = v from g2) ?_⟩
      have g4 := rr_vs_get g1
      have R : rr_inR v.toInt := rr_TT_rg T' (q, v) (List.mem_of_getElem? g1)
      refine rr_x_insert (rr_I_mk T' FL PO) (fun c => absurd c (by omega)) (fun _ c => absurd ⟨⟨b + k, by omega, rfl⟩, R⟩ c) ?_
      intro _ k' hk' ek _ u' q' I'
      rw [nI_eq (by omega) (by omega)] at ek
      subst ek
      obtain ⟨n2, fs2, sd2, fp2, sp2, pc2, h2, aC2, aF2, aP2, rfl, T2, FL2, PO2⟩ := I'
      dsimp only
      refine nm_r (nI_1 k) ?_
      refine ih (k + 1) (by omega) (by omega) T2 FL2 PO2 ?_
      rw [rr_vs_app, rr_vs_take]
      show _ ++ (v :: rr_vs (ys.drop (b + k))) = _
      rw [rr_vs_drop]
      rw [E] at g4
      rw [rr_tw_step hb (by omega) g4, E, ← List.append_assoc]
      have lp : (vs.take b ++ (rr_md vs a b).take k).length = b + k := by
        rw [List.length_append, List.length_take, List.length_take, lm]; omega
      rw [rr_take_l (by omega), rr_drop_l (by omega), List.take_of_length_le (by omega), List.drop_eq_nil_of_le (by omega)]
      simp only [List.nil_append, List.append_assoc, List.cons_append]
theorem rr_x_twice {post : Int32 → SX → Prop} {u : SX} {xs : rr_LX} {i j : Int32} (I : rr_I u xs)
    (K0 : ¬ rr_str i j xs.length → post (-1) u)
    (K1 : ∀ a b, i = nI a → j = nI b → a ≤ b → b ≤ xs.length → 40 < xs.length + (b - a) → post (-2) u)
    (K2 : ∀ a b, i = nI a → j = nI b → a ≤ b → b ≤ xs.length → xs.length + (b - a) ≤ 40 → ∀ u' ys, rr_I u' ys → rr_vs ys = (rr_vs xs).take b ++ (rr_md (rr_vs xs) a b ++ (rr_vs xs).drop b) → post (nI (xs.length + (b - a))) u') :
    wpX_twice post u i j := by
  obtain ⟨n, fs, sd, fp, sp, pc, h, aC, aF, aP, rfl, T, FL, PO⟩ := I
  have ln := rr_PO_l PO
  have N := rr_PO_n PO
  have hx : xs.length ≤ 40 := by omega
  have n40 := rr_TT_le T
  unfold wpX_twice
  dsimp only
  rw [rr_cl n40, show rr_pN h n = nI xs.length from rr_TT_cnt T]
  refine rr_isStretch T hx (fun S => br_f (by decide) ?_) (fun S => br_t rfl (K0 S))
  obtain ⟨a, b, rfl, rfl, hab, hb⟩ := S
  refine ⟨rr_in n40, ?_⟩
  rw [nI_add, pk_sub (show a ≤ xs.length + b by omega), pk_sub hab]
  refine pk_le (xs.length + b - a) 40 (fun c => nm_e ⟨(b - a) + 1, ?_⟩) (fun c => K1 a b rfl rfl hab hb (by omega))
  have lv := rr_vs_len xs
  refine rr_twL (vs := rr_vs xs) hab (by omega) (by omega) ?_ ((b - a) + 1) 0 (by omega) (by omega) T FL PO ?_
  · intro u' ys I' E
    rw [lv]
    exact K2 a b rfl rfl hab hb (by omega) u' ys I' E
  · rw [List.take_zero, List.nil_append, List.take_append_drop]
theorem rr_x_firstAtLeast {post : Int32 → SX → Prop} {u : SX} {xs : rr_LX} {i w : Int32} (I : rr_I u xs)
    (K0 : nI xs.length ≤ i → post (-3) u)
    (K1 : ∀ f, (i = nI f ∨ (i < 0 ∧ f = 0)) → f ≤ xs.length → rr_gt w (xs.drop f) → ∀ u', rr_I u' xs → post (nI (f + rr_fi w (xs.drop f))) u')
    (K2 : ∀ f, (i = nI f ∨ (i < 0 ∧ f = 0)) → f ≤ xs.length → ¬ rr_gt w (xs.drop f) → ∀ u', rr_I u' xs → post (-3) u') :
    wpX_firstAtLeast post u i w := by
  have I0 := I
  obtain ⟨n, fs, sd, fp, sp, pc, h, aC, aF, aP, rfl, T, FL, PO⟩ := I
  have ln := rr_PO_l PO
  have N := rr_PO_n PO
  have hx : xs.length ≤ 40 := by omega
  have n40 := rr_TT_le T
  have S9 : ∀ f, f < 2 ^ 31 → (i = nI f ∨ (i < 0 ∧ f = 0)) → wX_firstAtLeast_9 post w (nI f) (nI n) (nI fs.length) sd fp sp pc (rr_pL h) (rr_pR h) aC (rr_pV h) (rr_pN h) (rr_pT h) (rr_pI h) (rr_pM h) (rr_pU h) (rr_pA h) aF aP := by
    intro f hf ef
    unfold wX_firstAtLeast_9
    rw [rr_cl n40, show rr_pN h n = nI xs.length from rr_TT_cnt T]
    refine ⟨rr_in n40, pk_lt f xs.length (fun c => ⟨rr_in n40, ?_⟩) (fun c => ?_)⟩
    · refine rr_takeOut T N hx (by omega) hx ?_
      intro h1 n1 m fp1 sp1 pc1 aP1 T1 T2
      dsimp only
      have m40 := rr_TT_le T2
      have hd : rr_md xs f xs.length = xs.drop f := by unfold rr_md; rw [List.take_length]
      obtain ⟨N1, N2, d1⟩ := rr_nodup_app.mp (rr_ab_nodup N (show f ≤ xs.length by omega) (ms := rr_md xs f xs.length) (fun _ => rfl))
      have S70 : ¬ rr_gt w (xs.drop f) → wX_firstAtLeast_70 post (nI f) (nI m) (nI n1) (nI fs.length) sd fp1 sp1 pc1 (rr_pL h1) (rr_pR h1) aC (rr_pV h1) (rr_pN h1) (rr_pT h1) (rr_pI h1) (rr_pM h1) (rr_pU h1) (rr_pA h1) aF aP1 := by
        intro g
        unfold wX_firstAtLeast_70 wX_firstAtLeast_72
        exact rr_same T1 T2 FL PO (by omega) (Nat.le_refl _) fun u' I' => K2 f ef (by omega) g u' I'
      rw [rr_cl m40]
      rcases rr_TT_or T2 with ⟨w1, w2⟩ | ⟨w1, w2, w3⟩
      · refine br_t (by rw [w1]; rfl) (S70 ?_)
        rw [← hd, w2]
        rintro ⟨p, hp, _⟩
        exact absurd hp List.not_mem_nil
      · have G := rr_gt_mx (w := w) w3.2.2.2.1
        rw [hd] at G
        refine br_f (nI_ne0 w1 (by omega)) ⟨rr_in m40, br_c (fun c2 => S70 fun g => ?_) (fun c2 => ?_)⟩
        · exact absurd c2 (Int32.not_lt.mpr (G.mp g))
        · have g : rr_gt w (xs.drop f) := G.mpr (Int32.not_lt.mp c2)
          refine rr_placeOfFirst T2 N2 (by rw [hd]; exact g) ?_
          intro h2 T3 F3
          dsimp only
          have T1' : rr_TT h2 n1 (rr_rs xs f xs.length) := rr_TT_fr T1 fun k hk => F3 k (by
            rcases hk with hk | hk
            · rw [hk]; exact rr_TT_n0 T2
            · exact d1 k hk)
          unfold wX_firstAtLeast_72
          refine rr_same T1' T3 FL PO (by omega) (Nat.le_refl _) fun u' I' => ?_
          have J := I'
          obtain ⟨n', fs', sd', fp', sp', pc', h', aC', aF', aP', rfl, _⟩ := I'
          dsimp only
          rw [nI_add, hd]
          exact K1 f ef (by omega) g _ J
    · rcases ef with ef | ⟨ef, e0⟩
      · exact K0 (by rw [ef]; exact nI_le c hf)
      · subst e0
        refine K2 0 (Or.inr ⟨ef, rfl⟩) (by omega) ?_ _ I0
        have ex : xs = [] := List.length_eq_zero_iff.mp (by omega)
        rw [List.drop_zero, ex]
        rintro ⟨p, hp, _⟩
        exact absurd hp List.not_mem_nil
  unfold wpX_firstAtLeast
  dsimp only
  by_cases c : 0 ≤ i
  · obtain ⟨f, hf, e⟩ := nI_of (x := i) (Int32.not_lt.mpr c)
    refine br_t c ?_
    have := S9 f hf (Or.inl e)
    rw [← e] at this
    exact this
  · exact br_f c (S9 0 (by omega) (Or.inr ⟨Int32.not_le.mp c, rfl⟩))
end
section
/-! part 12: the walks of the reference -/
theorem rr_in40 {n : Nat} (h : n < 40) : vp_in (nI n) 40 := vp_in_nI h (by omega)
theorem rr_y_inRange {post : Int32 → Prop} {s : Int32} {a o : Nat → Int32} {p : Int64} (K1 : rr_inR p.toInt → post 1) (K0 : ¬ rr_inR p.toInt → post 0) : wpY_inRange post (s, a, o) p := by
  unfold wpY_inRange
  dsimp only
  exact rr_rng K1 K0
theorem rr_y_isStretch {post : Int32 → Prop} {c : Nat} {a o : Nat → Int32} {i j : Int32} (hc : c ≤ 40) (K1 : rr_str i j c → post 1) (K0 : ¬ rr_str i j c → post 0) : wpY_isStretch post (nI c, a, o) i j := by
  unfold wpY_isStretch
  dsimp only
  exact br_c (fun c => K0 (rr_str_n1 hc c)) (fun c1 => br_c (fun c => K0 (rr_str_n2 hc c)) (fun c2 => br_c (fun c => K0 (rr_str_n3 hc c)) (fun c3 => K1 (rr_str_of hc c1 c2 c3))))
theorem rr_y_insert {post : Int32 → SY → Prop} {c : Nat} {a o : Nat → Int32} {p v : Int32} (hc : c ≤ 40)
    (K0 : c = 40 → post (-2) (nI c, a, o))
    (K1 : c < 40 → ¬ ((∃ k, k ≤ c ∧ p = nI k) ∧ rr_inR v.toInt) → post (-1) (nI c, a, o))
    (K2 : c < 40 → ∀ k, k ≤ c → p = nI k → rr_inR v.toInt → ∀ a', (∀ q, q < k → a' q = a q) → a' k = v → (∀ q, k < q → q ≤ c → a' q = a (q - 1)) → post (nI (c + 1)) (nI (c + 1), a', o)) :
    wpY_insert post (nI c, a, o) p v := by
  unfold wpY_insert
  dsimp only
  refine pk_eq c 40 (fun e => K0 e) (fun e => ?_)
  have c40 : c < 40 := by omega
  refine br_c (fun z => K1 c40 ?_) (fun z1 => ?_)
  · rintro ⟨⟨k, hk, rfl⟩, _⟩
    exact nI_pos (by omega) z
  · obtain ⟨k, hk, rfl⟩ := nI_of z1
    refine pk_lt c k (fun z => K1 c40 ?_) (fun z2 => ?_)
    · rintro ⟨⟨k', hk', e⟩, _⟩
      rw [nI_eq hk (by omega)] at e
      omega
    · refine rr_y_inRange (fun R => br_f (by decide) ?_) (fun R => br_t rfl (K1 c40 fun q => R ?_))
      · rw [Int32.toInt_toInt64] at R
        have L : ∀ (m t : Nat) (b : Nat → Int32), k ≤ t → t ≤ c → t - k < m → (∀ q, q ≤ t → b q = a q) → (∀ q, t < q → q ≤ c → b q = a (q - 1)) → wY_insert_40 post (nI k) v (nI c) m (nI t) b o := by
          intro m
          induction m with
          | zero => intro t b _ _ hm; omega
          | succ m ih =>
            intro t b h1 h2 hm h3 h4
            unfold wY_insert_40
            refine pk_le t k (fun le => ?_) (fun lt => ?_)
            · have e : t = k := by omega
              subst e
              rw [rr_cl (show t ≤ 40 by omega), nI_1]
              refine ⟨rr_in40 (by omega), nm_e (nm_e ?_)⟩
              refine K2 c40 t h2 rfl R _ (fun q hq => ?_) pk_us (fun q hq hq2 => ?_)
              · rw [pk_un (by omega)]; exact h3 q (by omega)
              · rw [pk_un (by omega)]; exact h4 q hq hq2
            · obtain ⟨t', rfl⟩ : ∃ t', t = t' + 1 := ⟨t - 1, by omega⟩
              rw [nI_pred, pk_m1, rr_cl (show t' ≤ 40 by omega), rr_cl (show t' + 1 ≤ 40 by omega)]
              refine ⟨rr_in40 (by omega), rr_in40 (by omega), nm_e (nm_e ?_)⟩
              refine ih t' _ (by omega) (by omega) (by omega) (fun q hq => ?_) (fun q hq hq2 => ?_)
              · rw [pk_un (by omega)]; exact h3 q (by omega)
              · by_cases e : q = t' + 1
                · subst e
                  rw [pk_us]; exact h3 t' (by omega)
                · rw [pk_un e]; exact h4 q (by omega) hq2
        exact ⟨(c - k) + 1, L _ c a z2 (Nat.le_refl _) (by omega) (fun _ _ => rfl) (fun q h1 h2 => absurd h1 (by omega))⟩
      · rw [Int32.toInt_toInt64]; exact q.2
theorem rr_y_remove {post : Int32 → SY → Prop} {c : Nat} {a o : Nat → Int32} {i j : Int32} (hc : c ≤ 40)
    (K0 : ¬ rr_str i j c → post (-1) (nI c, a, o))
    (K1 : ∀ x y, i = nI x → j = nI y → x ≤ y → y ≤ c → ∀ a', (∀ q, q < x → a' q = a q) → (∀ q, x ≤ q → q < c - (y - x) → a' q = a (q + (y - x))) → post (nI (c - (y - x))) (nI (c - (y - x)), a', o)) :
    wpY_remove post (nI c, a, o) i j := by
  unfold wpY_remove
  dsimp only
  refine rr_y_isStretch hc (fun S => br_f (by decide) ?_) (fun S => br_t rfl (K0 S))
  obtain ⟨x, y, rfl, rfl, hxy, hy⟩ := S
  have L : ∀ (m t : Nat) (b : Nat → Int32), y ≤ t → t ≤ c → c - t < m → (∀ q, q < x → b q = a q) → (∀ q, x ≤ q → q < x + t - y → b q = a (q + (y - x))) → (∀ q, x + t - y ≤ q → b q = a q) → wY_remove_13 post (nI x) (nI y) (nI c) m (nI t) b o := by
    intro m
    induction m with
    | zero => intro t b _ _ hm; omega
    | succ m ih =>
      intro t b h1 h2 hm h3 h4 h5
      unfold wY_remove_13
      refine pk_le c t (fun le => ?_) (fun lt => ?_)
      · rw [pk_sub hxy, pk_sub (show y - x ≤ c by omega)]
        refine nm_e (K1 x y rfl rfl hxy hy b h3 fun q q1 q2 => h4 q q1 (by omega))
      · rw [nI_add, pk_sub (show y ≤ x + t by omega), rr_cl (show x + t - y ≤ 40 by omega), rr_cl (show t ≤ 40 by omega), nI_1]
        refine ⟨rr_in40 (by omega), rr_in40 (by omega), nm_e (nm_e ?_)⟩
        refine ih (t + 1) _ (by omega) (by omega) (by omega) (fun q hq => ?_) (fun q q1 q2 => ?_) (fun q hq => ?_)
        · rw [pk_un (by omega)]; exact h3 q hq
        · by_cases e : q = x + t - y
          · subst e
            rw [pk_us, h5 t (by omega)]
            exact congrArg a (by omega)
          · rw [pk_un e]; exact h4 q q1 (by omega)
        · rw [pk_un (by omega)]; exact h5 q (by omega)
  exact ⟨(c - y) + 1, L _ y a (Nat.le_refl _) hy (by omega) (fun _ _ => rfl) (fun q q1 q2 => absurd q1 (by omega)) (fun _ _ => rfl)⟩
theorem rr_y_keep {post : SY → Prop} {c : Nat} {a o : Nat → Int32} (hc : c ≤ 40) (K : ∀ o', (∀ q, q < c → o' q = a q) → post (nI c, a, o')) : wpY_keep post (nI c, a, o) := by
  unfold wpY_keep
  dsimp only
  have L : ∀ (m t : Nat) (o : Nat → Int32), t ≤ c → c - t < m → (∀ q, q < t → o q = a q) → wY_keep_2 post (nI c) m (nI t) a o := by
    intro m
    induction m with
    | zero => intro t o _ hm; omega
    | succ m ih =>
      intro t o h1 hm h2
      unfold wY_keep_2
      refine pk_le c t (fun le => K o fun q hq => h2 q (by omega)) (fun lt => ?_)
      rw [rr_cl (show t ≤ 40 by omega), nI_1]
      refine ⟨rr_in40 (by omega), rr_in40 (by omega), nm_e (nm_e ?_)⟩
      refine ih (t + 1) _ (by omega) (by omega) (fun q hq => ?_)
      by_cases e : q = t
      · subst e; exact pk_us
      · rw [pk_un e]; exact h2 q (by omega)
  exact ⟨c + 1, L _ 0 o (by omega) (by omega) (fun q hq => absurd hq (by omega))⟩
theorem rr_y_reverse {post : Int32 → SY → Prop} {c : Nat} {a o : Nat → Int32} {i j : Int32} (hc : c ≤ 40)
    (K0 : ¬ rr_str i j c → post 0 (nI c, a, o))
    (K1 : ∀ x y, i = nI x → j = nI y → x ≤ y → y ≤ c → ∀ a' o', (∀ q, (q < x ∨ y ≤ q) → a' q = a q) → (∀ q, x ≤ q → q < y → a' q = a (x + y - 1 - q)) → post 1 (nI c, a', o')) :
    wpY_reverse post (nI c, a, o) i j := by
  unfold wpY_reverse
  dsimp only
  refine rr_y_isStretch hc (fun S => br_f (by decide) ?_) (fun S => br_t rfl (K0 S))
  obtain ⟨x, y, rfl, rfl, hxy, hy⟩ := S
  refine rr_y_keep hc ?_
  intro o' ho
  dsimp only
  have L : ∀ (m t : Nat) (b : Nat → Int32), x ≤ t → t ≤ y → y - t < m → (∀ q, (q < x ∨ t ≤ q) → b q = a q) → (∀ q, x ≤ q → q < t → b q = a (x + y - 1 - q)) → wY_reverse_17 post (nI x) (nI y) (nI c) m (nI t) b o' := by
    intro m
    induction m with
    | zero => intro t b _ _ hm; omega
    | succ m ih =>
      intro t b h1 h2 hm h3 h4
      unfold wY_reverse_17
      refine pk_le y t (fun le => ?_) (fun lt => ?_)
      · exact K1 x y rfl rfl hxy hy b o' (fun q hq => h3 q (by omega)) (fun q q1 q2 => h4 q q1 (by omega))
      · have e : ((nI x + nI y) - 1) - nI t = nI (x + y - 1 - t) := by
          rw [nI_add]
          obtain ⟨s, es⟩ : ∃ s, x + y = s + 1 := ⟨x + y - 1, by omega⟩
          rw [es, nI_pred, pk_sub (by omega)]
          exact congrArg nI (by omega)
        rw [e, rr_cl (show x + y - 1 - t ≤ 40 by omega), rr_cl (show t ≤ 40 by omega), nI_1]
        refine ⟨rr_in40 (by omega), rr_in40 (by omega), nm_e (nm_e ?_)⟩
        refine ih (t + 1) _ (by omega) (by omega) (by omega) (fun q hq => ?_) (fun q q1 q2 => ?_)
        · rw [pk_un (by omega)]; exact h3 q (by omega)
        · by_cases e2 : q = t
          · subst e2
            rw [pk_us]; exact ho _ (by omega)
          · rw [pk_un e2]; exact h4 q q1 (by omega)
  exact ⟨(y - x) + 1, L _ x a (Nat.le_refl _) hxy (by omega) (fun _ _ => rfl) (fun q q1 q2 => absurd q1 (by omega))⟩
theorem rr_y_add {post : Int32 → SY → Prop} {c : Nat} {a o : Nat → Int32} {i j more : Int32} (hc : c ≤ 40)
    (K0 : ¬ rr_str i j c → post 0 (nI c, a, o))
    (K1 : ∀ x y, i = nI x → j = nI y → x ≤ y → y ≤ c → (∀ q, x ≤ q → q < y → rr_inR ((a q).toInt + more.toInt)) → ∀ a', (∀ q, (q < x ∨ y ≤ q) → a' q = a q) → (∀ q, x ≤ q → q < y → a' q = a q + more) → post 1 (nI c, a', o))
    (K2 : ∀ x y, i = nI x → j = nI y → x ≤ y → y ≤ c → ¬ (∀ q, x ≤ q → q < y → rr_inR ((a q).toInt + more.toInt)) → post 0 (nI c, a, o)) :
    wpY_add post (nI c, a, o) i j more := by
  unfold wpY_add
  dsimp only
  refine rr_y_isStretch hc (fun S => br_f (by decide) ?_) (fun S => br_t rfl (K0 S))
  obtain ⟨x, y, rfl, rfl, hxy, hy⟩ := S
  have L2 : (∀ q, x ≤ q → q < y → rr_inR ((a q).toInt + more.toInt)) → ∀ (m t : Nat) (b : Nat → Int32), x ≤ t → t ≤ y → y - t < m → (∀ q, (q < x ∨ t ≤ q) → b q = a q) → (∀ q, x ≤ q → q < t → b q = a q + more) → wY_add_49 post (nI y) more (nI c) m (nI t) b o := by
    intro A m
    induction m with
    | zero => intro t b _ _ hm; omega
    | succ m ih =>
      intro t b h1 h2 hm h3 h4
      unfold wY_add_49
      refine pk_le y t (fun le => ?_) (fun lt => ?_)
      · exact K1 x y rfl rfl hxy hy A b (fun q hq => h3 q (by omega)) (fun q q1 q2 => h4 q q1 (by omega))
      · rw [rr_cl (show t ≤ 40 by omega), nI_1]
        refine ⟨rr_in40 (by omega), rr_in40 (by omega), nm_e (nm_e ?_)⟩
        refine ih (t + 1) _ (by omega) (by omega) (by omega) (fun q hq => ?_) (fun q q1 q2 => ?_)
        · rw [pk_un (by omega)]; exact h3 q (by omega)
        · by_cases e2 : q = t
          · subst e2
            rw [pk_us, h3 q (Or.inr (Nat.le_refl _))]
          · rw [pk_un e2]; exact h4 q q1 (by omega)
  have L1 : ∀ (m t : Nat), x ≤ t → t ≤ y → y - t < m → (∀ q, x ≤ q → q < t → rr_inR ((a q).toInt + more.toInt)) → wY_add_14 post (nI x) (nI y) more (nI c) a o m (nI t) := by
    intro m
    induction m with
    | zero => intro t _ _ hm; omega
    | succ m ih =>
      intro t h1 h2 hm h3
      unfold wY_add_14
      refine pk_le y t (fun le => ?_) (fun lt => ?_)
      · exact ⟨(y - x) + 1, L2 (fun q q1 q2 => h3 q q1 (by omega)) _ x a (Nat.le_refl _) hxy (by omega) (fun _ _ => rfl) (fun q q1 q2 => absurd q1 (by omega))⟩
      · rw [rr_cl (show t ≤ 40 by omega), nI_1]
        refine ⟨rr_in40 (by omega), rr_y_inRange (fun R => br_f (by decide) (nm_e ?_)) (fun R => br_t rfl (K2 x y rfl rfl hxy hy fun A => R ?_))⟩
        · rw [rr_long] at R
          refine ih (t + 1) (by omega) (by omega) (by omega) (fun q q1 q2 => ?_)
          by_cases e2 : q = t
          · subst e2; exact R
          · exact h3 q q1 (by omega)
        · rw [rr_long]
          exact A t h1 lt
  exact ⟨(y - x) + 1, L1 _ x (Nat.le_refl _) hxy (by omega) (fun q q1 q2 => absurd q1 (by omega))⟩
end
section
/-! part 13: the walks of the reference's move, twice, sum, greatest, smallest, firstAtLeast -/
/-- the place, in the whole list, of the rest's number j -/
def rr_rho (x n j : Nat) : Nat := if j < x then j else j + n
theorem rr_rho_l {x n j : Nat} (h : j < x) : rr_rho x n j = j := if_pos h
theorem rr_rho_r {x n j : Nat} (h : x ≤ j) : rr_rho x n j = j + n := if_neg (by omega)
def rr_mvT (x k n : Nat) (a : Nat → Int32) (q : Nat) : Int32 := if q < k then a (rr_rho x n q) else if q < k + n then a (x + q - k) else a (rr_rho x n (q - n))
theorem rr_y_move {post : Int32 → SY → Prop} {c : Nat} {a o : Nat → Int32} {i j p : Int32} (hc : c ≤ 40)
    (K0 : ¬ rr_str i j c → post 0 (nI c, a, o))
    (K2 : ∀ x y, i = nI x → j = nI y → x ≤ y → y ≤ c → ¬ (∃ k, k + (y - x) ≤ c ∧ p = nI k) → post 0 (nI c, a, o))
    (K1 : ∀ x y k, i = nI x → j = nI y → p = nI k → x ≤ y → y ≤ c → k + (y - x) ≤ c → ∀ a' o', (∀ q, q < c → a' q = rr_mvT x k (y - x) a q) → post 1 (nI c, a', o')) :
    wpY_move post (nI c, a, o) i j p := by
  unfold wpY_move
  dsimp only
  refine rr_y_isStretch hc (fun S => br_f (by decide) ?_) (fun S => br_t rfl (K0 S))
  obtain ⟨x, y, rfl, rfl, hxy, hy⟩ := S
  refine nm_r (pk_sub hxy) ?_
  refine br_c (fun z => K2 x y rfl rfl hxy hy ?_) (fun z1 => ?_)
  · rintro ⟨k, hk, rfl⟩
    exact nI_pos (by omega) z
  · obtain ⟨k, hk, rfl⟩ := nI_of z1
    rw [pk_sub (show y - x ≤ c by omega)]
    refine pk_le k (c - (y - x)) (fun le => ?_) (fun lt => K2 x y rfl rfl hxy hy ?_)
    · refine rr_y_keep hc ?_
      intro o' ho
      dsimp only
      have L : ∀ (m t r e : Nat) (b : Nat → Int32), t ≤ c → c - t < m → ((t ≤ k ∧ e = t) ∨ (k ≤ t ∧ t ≤ k + (y - x) ∧ e = k) ∨ (k + (y - x) ≤ t ∧ e + (y - x) = t)) → ((e ≤ x ∧ r = e) ∨ (x < e ∧ r = e + (y - x))) → (∀ q, q < t → b q = rr_mvT x k (y - x) a q) → wY_move_43 post (nI x) (nI y) (nI k) (nI (y - x)) (nI c) m (nI r) (nI t) b o' := by
        intro m
        induction m with
        | zero => intro t r e b _ hm; omega
        | succ m ih =>
          intro t r e b h1 hm h2 h3 h4
          unfold wY_move_43
          refine pk_le c t (fun le2 => ?_) (fun lt2 => ?_)
          · exact K1 x y k rfl rfl rfl hxy hy (by omega) b o' fun q hq => h4 q (by omega)
          · -- one of the rest
            have S97 : ∀ s, s = rr_rho x (y - x) e → rr_mvT x k (y - x) a t = a s → ((t + 1 ≤ k ∧ e + 1 = t + 1) ∨ (k ≤ t + 1 ∧ t + 1 ≤ k + (y - x) ∧ e + 1 = k) ∨ (k + (y - x) ≤ t + 1 ∧ e + 1 + (y - x) = t + 1)) → s < c → wY_move_97 post (wY_move_43 post (nI x) (nI y) (nI k) (nI (y - x)) (nI c) m) (nI x) (nI y) (nI k) (nI (y - x)) (nI s) (nI t) (nI c) b o' := by
              intro s es et en hs
              unfold wY_move_97
              rw [rr_cl (show s ≤ 40 by omega), rr_cl (show t ≤ 40 by omega), nI_1, nI_1]
              refine ⟨rr_in40 (by omega), rr_in40 (by omega), nm_e (nm_e (nm_e ?_))⟩
              refine ih (t + 1) (s + 1) (e + 1) _ (by omega) (by omega) en ?_ (fun q hq => ?_)
              · by_cases z : e < x
                · rw [rr_rho_l z] at es; omega
                · rw [rr_rho_r (by omega)] at es; omega
              · by_cases z : q = t
                · subst z
                  rw [pk_us, et]; exact ho s hs
                · rw [pk_un z]; exact h4 q (by omega)
            have S88 : rr_mvT x k (y - x) a t = a (rr_rho x (y - x) e) → ((t + 1 ≤ k ∧ e + 1 = t + 1) ∨ (k ≤ t + 1 ∧ t + 1 ≤ k + (y - x) ∧ e + 1 = k) ∨ (k + (y - x) ≤ t + 1 ∧ e + 1 + (y - x) = t + 1)) → e + (y - x) < c → wY_move_88 post (wY_move_43 post (nI x) (nI y) (nI k) (nI (y - x)) (nI c) m) (nI x) (nI y) (nI k) (nI (y - x)) (nI r) (nI t) (nI c) b o' := by
              intro et en hs
              unfold wY_move_88
              refine pk_eq r x (fun er => ?_) (fun er => ?_)
              · have e2 : rr_rho x (y - x) e = y := by rw [rr_rho_r (by omega)]; omega
                exact S97 y e2.symm (by rw [et, e2]) en (by omega)
              · have e2 : rr_rho x (y - x) e = r := by
                  by_cases z : e < x
                  · rw [rr_rho_l z]; omega
                  · rw [rr_rho_r (by omega)]; omega
                exact S97 r e2.symm (by rw [et, e2]) en (by omega)
            refine pk_lt t k (fun q1 => ?_) (fun q1 => ?_)
            · have e0 : e = t := by omega
              refine S88 ?_ (by omega) (by omega)
              unfold rr_mvT
              rw [if_pos q1, e0]
            · rw [nI_add]
              refine pk_le (k + (y - x)) t (fun q2 => ?_) (fun q2 => ?_)
              · have e0 : e = t - (y - x) := by omega
                refine S88 ?_ (by omega) (by omega)
                unfold rr_mvT
                rw [if_neg (by omega), if_neg (by omega), e0]
              · rw [nI_add, pk_sub (show k ≤ x + t by omega), rr_cl (show x + t - k ≤ 40 by omega), rr_cl (show t ≤ 40 by omega), nI_1]
                refine ⟨rr_in40 (by omega), rr_in40 (by omega), nm_e (nm_e ?_)⟩
                refine ih (t + 1) r e _ (by omega) (by omega) (by omega) h3 (fun q hq => ?_)
                by_cases z : q = t
                · subst z
                  rw [pk_us, ho _ (by omega)]
                  unfold rr_mvT
                  rw [if_neg (by omega), if_pos (by omega)]
                · rw [pk_un z]; exact h4 q (by omega)
      exact ⟨c + 1, L (c + 1) 0 0 0 a (by omega) (by omega) (by omega) (by omega) (fun q hq => absurd hq (by omega))⟩
    · rintro ⟨k', hk', e⟩
      rw [nI_eq hk (by omega)] at e
      omega
theorem rr_y_twice {post : Int32 → SY → Prop} {c : Nat} {a o : Nat → Int32} {i j : Int32} (hc : c ≤ 40)
    (K0 : ¬ rr_str i j c → post (-1) (nI c, a, o))
    (K1 : ∀ x y, i = nI x → j = nI y → x ≤ y → y ≤ c → 40 < c + (y - x) → post (-2) (nI c, a, o))
    (K2 : ∀ x y, i = nI x → j = nI y → x ≤ y → y ≤ c → c + (y - x) ≤ 40 → ∀ a' o', (∀ q, q < y → a' q = a q) → (∀ q, y ≤ q → q < c + (y - x) → a' q = a (q - (y - x))) → post (nI (c + (y - x))) (nI (c + (y - x)), a', o')) :
    wpY_twice post (nI c, a, o) i j := by
  unfold wpY_twice
  dsimp only
  refine rr_y_isStretch hc (fun S => br_f (by decide) ?_) (fun S => br_t rfl (K0 S))
  obtain ⟨x, y, rfl, rfl, hxy, hy⟩ := S
  refine nm_r (pk_sub hxy) ?_
  rw [nI_add]
  refine pk_le (c + (y - x)) 40 (fun le => ?_) (fun lt => K1 x y rfl rfl hxy hy lt)
  refine rr_y_keep hc ?_
  intro o' ho
  dsimp only
  have L2 : ∀ (m t : Nat) (b : Nat → Int32), y ≤ t → t ≤ c → c - t < m → (∀ q, q < y → b q = a q) → (∀ q, y ≤ q → q < t + (y - x) → b q = a (q - (y - x))) → wY_twice_69 post (nI (y - x)) (nI c) m (nI t) b o' := by
    intro m
    induction m with
    | zero => intro t b _ _ hm; omega
    | succ m ih =>
      intro t b h1 h2 hm h3 h4
      unfold wY_twice_69
      refine pk_le c t (fun le2 => ?_) (fun lt2 => ?_)
      · exact nm_r (nI_add _ _) (K2 x y rfl rfl hxy hy le b o' h3 fun q q1 q2 => h4 q q1 (by omega))
      · rw [nI_add, rr_cl (show t + (y - x) ≤ 40 by omega), rr_cl (show t ≤ 40 by omega), nI_1]
        refine ⟨rr_in40 (by omega), rr_in40 (by omega), nm_e (nm_e ?_)⟩
        refine ih (t + 1) _ (by omega) (by omega) (by omega) (fun q hq => ?_) (fun q q1 q2 => ?_)
        · rw [pk_un (by omega)]; exact h3 q hq
        · by_cases z : q = t + (y - x)
          · subst z
            rw [pk_us, ho t (by omega)]
            exact congrArg a (by omega)
          · rw [pk_un z]; exact h4 q q1 (by omega)
  have L1 : ∀ (m t : Nat) (b : Nat → Int32), y ≤ t → t ≤ y + (y - x) → y + (y - x) - t < m → (∀ q, q < y → b q = a q) → (∀ q, y ≤ q → q < t → b q = a (q - (y - x))) → wY_twice_36 post (nI y) (nI (y - x)) (nI c) m (nI t) b o' := by
    intro m
    induction m with
    | zero => intro t b _ _ hm; omega
    | succ m ih =>
      intro t b h1 h2 hm h3 h4
      unfold wY_twice_36
      rw [nI_add]
      refine pk_le (y + (y - x)) t (fun le2 => ?_) (fun lt2 => ?_)
      · exact ⟨(c - y) + 1, L2 _ y b (Nat.le_refl _) hy (by omega) h3 fun q q1 q2 => h4 q q1 (by omega)⟩
      · rw [pk_sub (show y - x ≤ t by omega), rr_cl (show t - (y - x) ≤ 40 by omega), rr_cl (show t ≤ 40 by omega), nI_1]
        refine ⟨rr_in40 (by omega), rr_in40 (by omega), nm_e (nm_e ?_)⟩
        refine ih (t + 1) _ (by omega) (by omega) (by omega) (fun q hq => ?_) (fun q q1 q2 => ?_)
        · rw [pk_un (by omega)]; exact h3 q hq
        · by_cases z : q = t
          · subst z
            rw [pk_us]; exact ho _ (by omega)
          · rw [pk_un z]; exact h4 q q1 (by omega)
  exact ⟨(y - x) + 1, L1 _ y a (Nat.le_refl _) (by omega) (by omega) (fun _ _ => rfl) (fun q q1 q2 => absurd q1 (by omega))⟩
/-- the sum of d ints from place t on -/
def rr_sf (a : Nat → Int32) : Nat → Nat → Int32
  | _, 0 => 0
  | t, d + 1 => a t + rr_sf a (t + 1) d
theorem rr_y_sum {post : Int32 → Prop} {c : Nat} {a o : Nat → Int32} {i j : Int32} (hc : c ≤ 40)
    (K0 : ¬ rr_str i j c → post 0)
    (K1 : ∀ x y, i = nI x → j = nI y → x ≤ y → y ≤ c → post (rr_sf a x (y - x))) :
    wpY_sum post (nI c, a, o) i j := by
  unfold wpY_sum
  dsimp only
  by_cases S : rr_str i j c
  · have S0 := S
    obtain ⟨x, y, rfl, rfl, hxy, hy⟩ := S
    have L : ∀ (m t : Nat) (s : Int32), x ≤ t → t ≤ y → y - t < m → s + rr_sf a t (y - t) = rr_sf a x (y - x) → wY_sum_5 post (nI x) (nI y) (nI c) a o m s (nI t) := by
      intro m
      induction m with
      | zero => intro t s _ _ hm; omega
      | succ m ih =>
        intro t s h1 h2 hm h3
        unfold wY_sum_5
        refine rr_y_isStretch hc (fun S => br_f (by decide) ?_) (fun S => absurd S0 S)
        refine pk_le y t (fun le => ?_) (fun lt => ?_)
        · have e : y - t = 0 := by omega
          rw [e] at h3
          have h3' : s + 0 = rr_sf a x (y - x) := h3
          rw [Int32.add_zero] at h3'
          rw [h3']
          exact K1 x y rfl rfl hxy hy
        · rw [rr_cl (show t ≤ 40 by omega), nI_1]
          refine ⟨rr_in40 (by omega), nm_e (nm_e ?_)⟩
          refine ih (t + 1) _ (by omega) (by omega) (by omega) ?_
          rw [← h3, show y - t = (y - (t + 1)) + 1 by omega]
          show _ = s + (a t + rr_sf a (t + 1) (y - (t + 1)))
          rw [Int32.add_assoc]
    exact ⟨(y - x) + 1, L _ x 0 (Nat.le_refl _) hxy (by omega) (Int32.zero_add _)⟩
  · refine ⟨1, ?_⟩
    unfold wY_sum_5
    exact rr_y_isStretch hc (fun S2 => absurd S2 S) (fun _ => br_t rfl (K0 S))
theorem rr_y_greatest {post : Int32 → Prop} {c : Nat} {a o : Nat → Int32} {i j : Int32} (hc : c ≤ 40)
    (K0 : ¬ rr_str i j c → post 0)
    (K2 : ∀ x y, i = nI x → j = nI y → x = y → y ≤ c → post 0)
    (K1 : ∀ x y, i = nI x → j = nI y → x < y → y ≤ c → ∀ r, (∃ q, x ≤ q ∧ q < y ∧ r = a q) → (∀ q, x ≤ q → q < y → (a q).toInt ≤ r.toInt) → post r) :
    wpY_greatest post (nI c, a, o) i j := by
  unfold wpY_greatest
  dsimp only
  refine rr_y_isStretch hc (fun S => br_f (by decide) ?_) (fun S => br_t rfl (K0 S))
  obtain ⟨x, y, rfl, rfl, hxy, hy⟩ := S
  refine pk_eq x y (fun e => K2 x y rfl rfl e hy) (fun e => ?_)
  rw [rr_cl (show x ≤ 40 by omega)]
  refine ⟨rr_in40 (by omega), nm_e ⟨(y - x) + 1, ?_⟩⟩
  have L : ∀ (m t : Nat) (s : Int32), x ≤ t → t ≤ y → y - t < m → (∃ q, x ≤ q ∧ q < y ∧ s = a q) → (∀ q, x ≤ q → q < t → (a q).toInt ≤ s.toInt) → wY_greatest_26 post (nI y) (nI c) a o m s (nI t) := by
    intro m
    induction m with
    | zero => intro t s _ _ hm; omega
    | succ m ih =>
      intro t s h1 h2 hm h3 h4
      unfold wY_greatest_26
      refine pk_le y t (fun le => K1 x y rfl rfl (by omega) hy s h3 fun q q1 q2 => h4 q q1 (by omega)) (fun lt => ?_)
      rw [rr_cl (show t ≤ 40 by omega), nI_1]
      refine ⟨rr_in40 (by omega), br_c (fun z => nm_e ?_) (fun z => ⟨rr_in40 (by omega), nm_e (nm_e ?_)⟩)⟩
      · refine ih (t + 1) s (by omega) (by omega) (by omega) h3 (fun q q1 q2 => ?_)
        by_cases w : q = t
        · subst w; exact Int32.le_iff_toInt_le.mp z
        · exact h4 q q1 (by omega)
      · refine ih (t + 1) _ (by omega) (by omega) (by omega) ⟨t, h1, lt, rfl⟩ (fun q q1 q2 => ?_)
        by_cases w : q = t
        · subst w; exact Int.le_refl _
        · have g := h4 q q1 (by omega)
          have z' : ¬ (a t).toInt ≤ s.toInt := fun k => z (Int32.le_iff_toInt_le.mpr k)
          omega
  exact L _ x _ (Nat.le_refl _) hxy (by omega) ⟨x, Nat.le_refl _, by omega, rfl⟩ (fun q q1 q2 => absurd q1 (by omega))
theorem rr_y_smallest {post : Int32 → Prop} {c : Nat} {a o : Nat → Int32} {i j : Int32} (hc : c ≤ 40)
    (K0 : ¬ rr_str i j c → post 0)
    (K2 : ∀ x y, i = nI x → j = nI y → x = y → y ≤ c → post 0)
    (K1 : ∀ x y, i = nI x → j = nI y → x < y → y ≤ c → ∀ r, (∃ q, x ≤ q ∧ q < y ∧ r = a q) → (∀ q, x ≤ q → q < y → r.toInt ≤ (a q).toInt) → post r) :
    wpY_smallest post (nI c, a, o) i j := by
  unfold wpY_smallest
  dsimp only
  refine rr_y_isStretch hc (fun S => br_f (by decide) ?_) (fun S => br_t rfl (K0 S))
  obtain ⟨x, y, rfl, rfl, hxy, hy⟩ := S
  refine pk_eq x y (fun e => K2 x y rfl rfl e hy) (fun e => ?_)
  rw [rr_cl (show x ≤ 40 by omega)]
  refine ⟨rr_in40 (by omega), nm_e ⟨(y - x) + 1, ?_⟩⟩
  have L : ∀ (m t : Nat) (s : Int32), x ≤ t → t ≤ y → y - t < m → (∃ q, x ≤ q ∧ q < y ∧ s = a q) → (∀ q, x ≤ q → q < t → s.toInt ≤ (a q).toInt) → wY_smallest_26 post (nI y) (nI c) a o m s (nI t) := by
    intro m
    induction m with
    | zero => intro t s _ _ hm; omega
    | succ m ih =>
      intro t s h1 h2 hm h3 h4
      unfold wY_smallest_26
      refine pk_le y t (fun le => K1 x y rfl rfl (by omega) hy s h3 fun q q1 q2 => h4 q q1 (by omega)) (fun lt => ?_)
      rw [rr_cl (show t ≤ 40 by omega), nI_1]
      refine ⟨rr_in40 (by omega), br_c (fun z => nm_e ?_) (fun z => ⟨rr_in40 (by omega), nm_e (nm_e ?_)⟩)⟩
      · refine ih (t + 1) s (by omega) (by omega) (by omega) h3 (fun q q1 q2 => ?_)
        by_cases w : q = t
        · subst w; exact Int32.le_iff_toInt_le.mp z
        · exact h4 q q1 (by omega)
      · refine ih (t + 1) _ (by omega) (by omega) (by omega) ⟨t, h1, lt, rfl⟩ (fun q q1 q2 => ?_)
        by_cases w : q = t
        · subst w; exact Int.le_refl _
        · have g := h4 q q1 (by omega)
          have z' : ¬ s.toInt ≤ (a t).toInt := fun k => z (Int32.le_iff_toInt_le.mpr k)
          omega
  exact L _ x _ (Nat.le_refl _) hxy (by omega) ⟨x, Nat.le_refl _, by omega, rfl⟩ (fun q q1 q2 => absurd q1 (by omega))
theorem rr_y_first {post : Int32 → Prop} {c g : Nat} {a o : Nat → Int32} {i w : Int32} (hc : c ≤ 40) (hg : g < c) (h1 : ∀ t, t < g → nI t < i ∨ a t < w) (h2 : ¬ nI g < i) (h3 : ¬ a g < w) (K : post (nI g)) :
    wpY_firstAtLeast post (nI c, a, o) i w := by
  unfold wpY_firstAtLeast
  dsimp only
  have L : ∀ (m t : Nat), t ≤ g → c - t < m → wY_firstAtLeast_2 post i w (nI c) a o m (nI t) := by
    intro m
    induction m with
    | zero => intro t _ hm; omega
    | succ m ih =>
      intro t ht hm
      unfold wY_firstAtLeast_2
      refine pk_le c t (fun le => absurd le (by omega)) (fun lt => ?_)
      rw [rr_cl (show t ≤ 40 by omega), nI_1]
      by_cases e : t = g
      · subst e
        exact br_f h2 ⟨rr_in40 (by omega), br_f h3 K⟩
      · refine br_c (fun _ => nm_e (ih (t + 1) (by omega) (by omega))) (fun z => ⟨rr_in40 (by omega), ?_⟩)
        exact br_t ((h1 t (by omega)).resolve_left z) (nm_e (ih (t + 1) (by omega) (by omega)))
  exact ⟨c + 1, L _ 0 (by omega) (by omega)⟩
theorem rr_y_none {post : Int32 → Prop} {c : Nat} {a o : Nat → Int32} {i w : Int32} (hc : c ≤ 40) (h1 : ∀ t, t < c → nI t < i ∨ a t < w) (K : post (-3)) :
    wpY_firstAtLeast post (nI c, a, o) i w := by
  unfold wpY_firstAtLeast
  dsimp only
  have L : ∀ (m t : Nat), t ≤ c → c - t < m → wY_firstAtLeast_2 post i w (nI c) a o m (nI t) := by
    intro m
    induction m with
    | zero => intro t _ hm; omega
    | succ m ih =>
      intro t ht hm
      unfold wY_firstAtLeast_2
      refine pk_le c t (fun le => K) (fun lt => ?_)
      rw [rr_cl (show t ≤ 40 by omega), nI_1]
      refine br_c (fun _ => nm_e (ih (t + 1) (by omega) (by omega))) (fun z => ⟨rr_in40 (by omega), ?_⟩)
      exact br_t ((h1 t lt).resolve_left z) (nm_e (ih (t + 1) (by omega) (by omega)))
  exact ⟨c + 1, L _ 0 (by omega) (by omega)⟩
end
section
/-! part 14: the reference's array and the list -/
def rr_AR (a : Nat → Int32) (vs : List Int32) : Prop := ∀ k, k < vs.length → vs[k]? = some (a k)
theorem rr_md_get {vs : List Int32} {x y k : Nat} (h : x + k < y) : (rr_md vs x y)[k]? = vs[x + k]? := by
  unfold rr_md
  rw [List.getElem?_drop, List.getElem?_take_of_lt h]
theorem rr_ap_l {l m : List Int32} {k : Nat} (h : k < l.length) : (l ++ m)[k]? = l[k]? := List.getElem?_append_left h
theorem rr_ap_r {l m : List Int32} {k : Nat} (h : l.length ≤ k) : (l ++ m)[k]? = m[k - l.length]? := List.getElem?_append_right h
theorem rr_tk {l : List Int32} {k j : Nat} (h : j < k) : (l.take k)[j]? = l[j]? := List.getElem?_take_of_lt h
theorem rr_tl {l : List Int32} {k : Nat} (h : k ≤ l.length) : (l.take k).length = k := by rw [List.length_take]; omega
theorem rr_AR_insert {a a' : Nat → Int32} {vs : List Int32} {k : Nat} {v : Int32} (A : rr_AR a vs) (hk : k ≤ vs.length) (h1 : ∀ q, q < k → a' q = a q) (h2 : a' k = v) (h3 : ∀ q, k < q → q ≤ vs.length → a' q = a (q - 1)) : rr_AR a' (vs.take k ++ (v :: vs.drop k)) := by
  intro q hq
  have lt := rr_tl hk
  rw [List.length_append, List.length_cons, lt, List.length_drop] at hq
  by_cases c : q < k
  · rw [rr_ap_l (by omega), rr_tk c, h1 q c]; exact A q (by omega)
  · rw [rr_ap_r (by omega), lt]
    by_cases e : q = k
    · subst e; rw [Nat.sub_self, h2]; rfl
    · rw [show q - k = (q - k - 1) + 1 by omega, List.getElem?_cons_succ, List.getElem?_drop, show k + (q - k - 1) = q - 1 by omega, h3 q (by omega) (by omega)]
      exact A _ (by omega)
theorem rr_AR_remove {a a' : Nat → Int32} {vs : List Int32} {x y : Nat} (A : rr_AR a vs) (hxy : x ≤ y) (hy : y ≤ vs.length) (h1 : ∀ q, q < x → a' q = a q) (h2 : ∀ q, x ≤ q → q < vs.length - (y - x) → a' q = a (q + (y - x))) : rr_AR a' (rr_rs vs x y) := by
  intro q hq
  have lt := rr_tl (show x ≤ vs.length by omega)
  rw [rr_rs_len vs hxy hy] at hq
  unfold rr_rs
  by_cases c : q < x
  · rw [rr_ap_l (by omega), rr_tk c, h1 q c]; exact A q (by omega)
  · rw [rr_ap_r (by omega), lt, List.getElem?_drop, show y + (q - x) = q + (y - x) by omega, h2 q (by omega) (by omega)]
    exact A _ (by omega)
theorem rr_AR_rs {a : Nat → Int32} {vs : List Int32} {x y q : Nat} (A : rr_AR a vs) (hxy : x ≤ y) (hy : y ≤ vs.length) (hq : q + (y - x) < vs.length) : (rr_rs vs x y)[q]? = some (a (rr_rho x (y - x) q)) := by
  refine rr_AR_remove (a' := fun q => a (rr_rho x (y - x) q)) A hxy hy (fun q c => ?_) (fun q c _ => ?_) q (by rw [rr_rs_len vs hxy hy]; omega)
  · show a (rr_rho x (y - x) q) = a q
    rw [rr_rho_l c]
  · show a (rr_rho x (y - x) q) = a _
    rw [rr_rho_r c]
theorem rr_AR_mid {a a' : Nat → Int32} {vs ms : List Int32} {x y : Nat} (A : rr_AR a vs) (hxy : x ≤ y) (hy : y ≤ vs.length) (lm : ms.length = y - x) (h1 : ∀ q, (q < x ∨ y ≤ q) → a' q = a q) (h2 : ∀ k, k < y - x → ms[k]? = some (a' (x + k))) : rr_AR a' (vs.take x ++ (ms ++ vs.drop y)) := by
  intro q hq
  have lt := rr_tl (show x ≤ vs.length by omega)
  rw [List.length_append, List.length_append, lt, lm, List.length_drop] at hq
  by_cases c : q < x
  · rw [rr_ap_l (by omega), rr_tk c, h1 q (Or.inl c)]; exact A q (by omega)
  · rw [rr_ap_r (by omega), lt]
    by_cases d : q < y
    · rw [rr_ap_l (by omega), h2 _ (by omega), show x + (q - x) = q by omega]
    · rw [rr_ap_r (by omega), lm, List.getElem?_drop, show y + (q - x - (y - x)) = q by omega, h1 q (Or.inr (by omega))]
      exact A q (by omega)
theorem rr_AR_reverse {a a' : Nat → Int32} {vs : List Int32} {x y : Nat} (A : rr_AR a vs) (hxy : x ≤ y) (hy : y ≤ vs.length) (h1 : ∀ q, (q < x ∨ y ≤ q) → a' q = a q) (h2 : ∀ q, x ≤ q → q < y → a' q = a (x + y - 1 - q)) : rr_AR a' (vs.take x ++ ((rr_md vs x y).reverse ++ vs.drop y)) := by
  have lm := rr_md_len vs (a := x) hy
  refine rr_AR_mid A hxy hy (by rw [List.length_reverse]; exact lm) h1 fun k hk => ?_
  rw [List.getElem?_reverse (by omega), lm, rr_md_get (by omega), h2 (x + k) (by omega) (by omega), show x + y - 1 - (x + k) = x + (y - x - 1 - k) by omega]
  exact A _ (by omega)
theorem rr_AR_add {a a' : Nat → Int32} {vs : List Int32} {x y : Nat} {m : Int32} (A : rr_AR a vs) (hxy : x ≤ y) (hy : y ≤ vs.length) (h1 : ∀ q, (q < x ∨ y ≤ q) → a' q = a q) (h2 : ∀ q, x ≤ q → q < y → a' q = a q + m) : rr_AR a' (vs.take x ++ ((rr_md vs x y).map (fun v => v + m) ++ vs.drop y)) := by
  have lm := rr_md_len vs (a := x) hy
  refine rr_AR_mid A hxy hy (by rw [List.length_map]; exact lm) h1 fun k hk => ?_
  rw [List.getElem?_map, rr_md_get (by omega), A _ (by omega), h2 (x + k) (by omega) (by omega)]
  rfl
theorem rr_AR_move {a a' : Nat → Int32} {vs : List Int32} {x y k : Nat} (A : rr_AR a vs) (hxy : x ≤ y) (hy : y ≤ vs.length) (hk : k + (y - x) ≤ vs.length) (h : ∀ q, q < vs.length → a' q = rr_mvT x k (y - x) a q) : rr_AR a' ((rr_rs vs x y).take k ++ (rr_md vs x y ++ (rr_rs vs x y).drop k)) := by
  intro q hq
  have lm := rr_md_len vs (a := x) hy
  have lr := rr_rs_len vs hxy hy
  have lt := rr_tl (show k ≤ (rr_rs vs x y).length by omega)
  rw [List.length_append, List.length_append, lt, lm, List.length_drop, lr] at hq
  rw [h q (by omega)]
  unfold rr_mvT
  by_cases c : q < k
  · rw [if_pos c, rr_ap_l (by omega), rr_tk c]
    exact rr_AR_rs A hxy hy (by omega)
  · rw [if_neg c, rr_ap_r (by omega), lt]
    by_cases d : q < k + (y - x)
    · rw [if_pos d, rr_ap_l (by omega), rr_md_get (by omega), show x + (q - k) = x + q - k by omega]
      exact A _ (by omega)
    · rw [if_neg d, rr_ap_r (by omega), lm, List.getElem?_drop, show k + (q - k - (y - x)) = q - (y - x) by omega]
      exact rr_AR_rs A hxy hy (by omega)
theorem rr_AR_twice {a a' : Nat → Int32} {vs : List Int32} {x y : Nat} (A : rr_AR a vs) (hxy : x ≤ y) (hy : y ≤ vs.length) (h1 : ∀ q, q < y → a' q = a q) (h2 : ∀ q, y ≤ q → q < vs.length + (y - x) → a' q = a (q - (y - x))) : rr_AR a' (vs.take y ++ (rr_md vs x y ++ vs.drop y)) := by
  intro q hq
  have lm := rr_md_len vs (a := x) hy
  have lt := rr_tl hy
  rw [List.length_append, List.length_append, lt, lm, List.length_drop] at hq
  by_cases c : q < y
  · rw [rr_ap_l (by omega), rr_tk c, h1 q c]; exact A q (by omega)
  · rw [rr_ap_r (by omega), lt, h2 q (by omega) (by omega)]
    by_cases d : q < y + (y - x)
    · rw [rr_ap_l (by omega), rr_md_get (by omega), show x + (q - y) = q - (y - x) by omega]
      exact A _ (by omega)
    · rw [rr_ap_r (by omega), lm, List.getElem?_drop, show y + (q - y - (y - x)) = q - (y - x) by omega]
      exact A _ (by omega)
/-! the middle of the pairs, by places -/
theorem rr_pg {xs : rr_LX} {a : Nat → Int32} (A : rr_AR a (rr_vs xs)) {k : Nat} {p : Nat × Int32} (h : xs[k]? = some p) : p.2 = a k := by
  have hk : k < xs.length := (List.getElem?_eq_some_iff.mp h).1
  have e := A k (by rw [rr_vs_len]; exact hk)
  rw [rr_vs_get (q := p.1) (v := p.2) h] at e
  exact Option.some.inj e
theorem rr_md_mem {xs : rr_LX} {a : Nat → Int32} (A : rr_AR a (rr_vs xs)) {x y : Nat} {p : Nat × Int32} (hy : y ≤ xs.length) (h : p ∈ rr_md xs x y) : ∃ q, x ≤ q ∧ q < y ∧ p.2 = a q := by
  obtain ⟨k, hk, e⟩ := List.getElem_of_mem h
  have lm := rr_md_len xs (a := x) hy
  have e2 : (rr_md xs x y)[k]? = some p := List.getElem?_eq_some_iff.mpr ⟨hk, e⟩
  unfold rr_md at e2
  rw [List.getElem?_drop, List.getElem?_take_of_lt (by omega)] at e2
  exact ⟨x + k, by omega, by omega, rr_pg A e2⟩
theorem rr_md_at {xs : rr_LX} {a : Nat → Int32} (A : rr_AR a (rr_vs xs)) {x y q : Nat} (hy : y ≤ xs.length) (h1 : x ≤ q) (h2 : q < y) : ∃ p, p ∈ rr_md xs x y ∧ p.2 = a q := by
  have hq : q < xs.length := by omega
  have e : xs[q]? = some xs[q] := List.getElem?_eq_getElem hq
  refine ⟨xs[q], ?_, rr_pg A e⟩
  refine List.mem_of_getElem? (i := q - x) ?_
  unfold rr_md
  rw [List.getElem?_drop, List.getElem?_take_of_lt (by omega), show x + (q - x) = q by omega]
  exact e
theorem rr_sf_md {xs : rr_LX} {a : Nat → Int32} (A : rr_AR a (rr_vs xs)) : ∀ (d t : Nat), t + d ≤ xs.length → rr_sf a t d = rr_sm ((xs.drop t).take d) := by
  intro d
  induction d with
  | zero => intro t _; rw [List.take_zero]; rfl
  | succ d ih =>
    intro t ht
    have hq : t < xs.length := by omega
    rw [List.drop_eq_getElem_cons hq, List.take_succ_cons]
    show a t + rr_sf a (t + 1) d = (xs[t]).2 + rr_sm ((xs.drop (t + 1)).take d)
    rw [ih (t + 1) (by omega), rr_pg A (List.getElem?_eq_getElem hq)]
theorem rr_sf_sm {xs : rr_LX} {a : Nat → Int32} (A : rr_AR a (rr_vs xs)) {x y : Nat} (hxy : x ≤ y) (hy : y ≤ xs.length) : rr_sf a x (y - x) = rr_sm (rr_md xs x y) := by
  rw [rr_sf_md A (y - x) x (by omega)]
  unfold rr_md
  rw [List.drop_take]
theorem rr_fi_spec {w : Int32} : ∀ {xs : rr_LX}, rr_gt w xs → (∃ p, xs[rr_fi w xs]? = some p ∧ w ≤ p.2) ∧ ∀ q, q < rr_fi w xs → ∀ p, xs[q]? = some p → ¬ w ≤ p.2 := by
  intro xs
  induction xs with
  | nil => rintro ⟨p, hp, _⟩; exact absurd hp List.not_mem_nil
  | cons p xs ih =>
    intro H
    by_cases c : w ≤ p.2
    · have e : rr_fi w (p :: xs) = 0 := if_pos c
      rw [e]
      exact ⟨⟨p, rfl, c⟩, fun q hq => absurd hq (by omega)⟩
    · have e : rr_fi w (p :: xs) = rr_fi w xs + 1 := if_neg c
      rw [e]
      obtain ⟨g1, g2⟩ := ih (by
        obtain ⟨q, hq, hw⟩ := H
        rcases List.mem_cons.mp hq with e | e
        · exact absurd (e ▸ hw) c
        · exact ⟨q, e, hw⟩)
      refine ⟨g1, fun q hq r hr => ?_⟩
      cases q with
      | zero =>
        have : p = r := Option.some.inj hr
        rw [← this]; exact c
      | succ q => exact g2 q (by omega) r hr
end
section
/-! part 15: the relation and what is owed -/
/-- the component holds the list of pairs xs; the reference holds its ints -/
def i_Rel (k : Nat) (u : SX) (v : SY) : Prop := ∃ (xs : rr_LX) (a o : Nat → Int32), rr_I u xs ∧ v = (nI xs.length, a, o) ∧ rr_AR a (rr_vs xs)
theorem i_up {k : Nat} {u : SX} {v : SY} (h : i_Rel k u v) : i_Rel (k + 4) u v := h
theorem rr_I_len {u : SX} {xs : rr_LX} (I : rr_I u xs) : xs.length ≤ 40 := by
  obtain ⟨n, fs, sd, fp, sp, pc, h, aC, aF, aP, rfl, T, FL, PO⟩ := I
  have := rr_PO_l PO
  omega
theorem rr_inj {a b : Nat} (ha : a ≤ 40) (hb : b ≤ 40) (e : nI a = nI b) : a = b := (nI_eq (by omega) (by omega)).mp e
theorem rr_rel {k : Nat} {u : SX} {xs : rr_LX} {c : Nat} {a o : Nat → Int32} (I : rr_I u xs) (hc : c = xs.length) (A : rr_AR a (rr_vs xs)) : i_Rel k u (nI c, a, o) := ⟨xs, a, o, I, by rw [hc], A⟩
theorem rr_vs_mp (m : Int32) (xs : rr_LX) : rr_vs (rr_mp m xs) = (rr_vs xs).map (fun v => v + m) := by
  induction xs with
  | nil => rfl
  | cons p xs ih =>
    show (p.2 + m) :: rr_vs (rr_mp m xs) = (p.2 + m) :: (rr_vs xs).map (fun v => v + m)
    rw [ih]
theorem rr_vs_rev (xs : rr_LX) : rr_vs xs.reverse = (rr_vs xs).reverse := List.map_reverse
theorem rr_initL {post : SX → Prop} (K : ∀ aF, rr_FL aF (List.range' 1 40) → post (rr_ST (nI 0) (nI 40) 12345 0 0 0 (rr_mk (fun _ => 0) (fun _ => 0) (fun _ => 0) (fun _ => 0) (fun _ => 0) (fun _ => 0) (fun _ => 0) (fun _ => 0) (fun _ => 0)) (fun _ => 0) aF (fun _ => 0))) :
    ∀ (m t : Nat) (aF : Nat → Int32), t ≤ 40 → t < m → rr_FL aF (List.range' (t + 1) (40 - t)) → wX_init_110 post 0 12345 0 0 0 m (nI t) (nI (40 - t)) (fun _ => 0) (fun _ => 0) (fun _ => 0) (fun _ => 0) (fun _ => 0) (fun _ => 0) (fun _ => 0) (fun _ => 0) (fun _ => 0) (fun _ => 0) aF (fun _ => 0) := by
  intro m
  induction m with
  | zero => intro t aF _ hm; omega
  | succ m ih =>
    intro t aF ht hm FL
    unfold wX_init_110
    cases t with
    | zero => exact br_t (by decide) (K aF FL)
    | succ t =>
      rw [rr_cl (show 40 - (t + 1) ≤ 40 by omega), rr_bb (t + 1) (by omega), nI_1, pk_m1, show 40 - (t + 1) + 1 = 40 - t by omega]
      refine br_f (nI_nle (by omega) (by omega)) ⟨rr_in40 (by omega), nm_e (nm_e (nm_e ?_))⟩
      refine ih t _ (by omega) (by omega) ?_
      rw [show 40 - t = (40 - (t + 1)) + 1 by omega, List.range'_succ]
      refine ⟨?_, rr_FL_upd (by rw [List.length_range']; omega) FL⟩
      rw [List.length_range']
      exact pk_us
theorem i_vc0 : wpX_init (fun u => wpY_init (fun v => i_Rel 0 u v)) := by
  refine ⟨41, rr_initL ?_ 41 40 (fun _ => 0) (by omega) (by omega) trivial⟩
  intro aF FL
  show i_Rel 0 _ (nI 0, (fun _ => 0), (fun _ => 0))
  refine rr_rel (xs := []) ?_ rfl (fun k hk => absurd hk (by show ¬ k < 0; omega))
  refine rr_I_mk (fs := List.range' 1 40) (rr_TT_nil rfl) FL ⟨?_, ?_, ?_⟩
  · show (List.range' 1 40).Nodup
    exact List.nodup_range'
  · intro k hk
    have hk' : k ∈ List.range' 1 40 := hk
    rw [List.mem_range'_1] at hk'
    omega
  · exact List.length_range'
theorem i_vc_insert {k : Nat} {u : SX} {v : SY} (I : i_Rel k u v) (hk : k + 4 ≤ 2048) (v1 : Int32) (v2 : Int32) : wpX_insert (fun r u' => wpY_insert (fun r' v' => r' = r ∧ i_Rel (k + 4) u' v') v v1 v2) u v1 v2 := by
  obtain ⟨xs, a, o, I, rfl, A⟩ := I
  have hl := rr_I_len I
  refine rr_x_insert I (fun c => ?_) (fun c nb => ?_) (fun c p hp e R u' q I' => ?_)
  · exact rr_y_insert hl (fun _ => ⟨rfl, rr_rel I rfl A⟩) (fun c' => absurd c (by omega)) (fun c' => absurd c (by omega))
  · exact rr_y_insert hl (fun c' => absurd c (by omega)) (fun _ _ => ⟨rfl, rr_rel I rfl A⟩) (fun _ p hp e R => absurd ⟨⟨p, hp, e⟩, R⟩ nb)
  · refine rr_y_insert hl (fun c' => absurd c (by omega)) (fun _ nb => absurd ⟨⟨p, hp, e⟩, R⟩ nb) ?_
    intro _ p' hp' e' _ a' h1 h2 h3
    have ep : p = p' := rr_inj (by omega) (by omega) (e.symm.trans e')
    subst ep
    refine ⟨rfl, rr_rel I' ?_ ?_⟩
    · rw [List.length_append, List.length_cons, List.length_take, List.length_drop]; omega
    · rw [rr_vs_app, rr_vs_take]
      show rr_AR a' (_ ++ (v2 :: rr_vs (xs.drop p)))
      rw [rr_vs_drop]
      have lv := rr_vs_len xs
      exact rr_AR_insert A (by omega) h1 h2 (fun q q1 q2 => h3 q q1 (by omega))
theorem i_vc_remove {k : Nat} {u : SX} {v : SY} (I : i_Rel k u v) (hk : k + 4 ≤ 2048) (v1 : Int32) (v2 : Int32) : wpX_remove (fun r u' => wpY_remove (fun r' v' => r' = r ∧ i_Rel (k + 4) u' v') v v1 v2) u v1 v2 := by
  obtain ⟨xs, a, o, I, rfl, A⟩ := I
  have hl := rr_I_len I
  have lv := rr_vs_len xs
  refine rr_x_remove I (fun S => ?_) (fun x y e1 e2 hxy hy u' I' => ?_)
  · exact rr_y_remove hl (fun _ => ⟨rfl, rr_rel I rfl A⟩) (fun x y e1 e2 h1 h2 => absurd ⟨x, y, e1, e2, h1, h2⟩ S)
  · refine rr_y_remove hl (fun S => absurd ⟨x, y, e1, e2, hxy, hy⟩ S) (fun x' y' f1 f2 g1 g2 a' h1 h2 => ?_)
    have ex : x = x' := rr_inj (by omega) (by omega) (e1.symm.trans f1)
    have ey : y = y' := rr_inj (by omega) (by omega) (e2.symm.trans f2)
    subst ex ey
    refine ⟨rfl, rr_rel I' (rr_rs_len xs hxy hy).symm ?_⟩
    rw [rr_vs_rs]
    exact rr_AR_remove A hxy (by omega) h1 (fun q q1 q2 => h2 q q1 (by omega))
theorem i_vc_length {k : Nat} {u : SX} {v : SY} (I : i_Rel k u v) (hk : k + 4 ≤ 2048) : wpX_length (fun r => wpY_length (fun r' => r' = r ∧ i_Rel (k + 4) u v) v) u := by
  have I0 := I
  obtain ⟨xs, a, o, I, rfl, A⟩ := I
  exact rr_x_length I fun _ => ⟨rfl, I0⟩
theorem i_vc_get {k : Nat} {u : SX} {v : SY} (I : i_Rel k u v) (hk : k + 4 ≤ 2048) (v1 : Int32) : wpX_get (fun r u' => wpY_get (fun r' => r' = r ∧ i_Rel (k + 4) u' v) v v1) u v1 := by
  obtain ⟨xs, a, o, I, rfl, A⟩ := I
  have hl := rr_I_len I
  have lv := rr_vs_len xs
  refine rr_x_get I (fun S => ?_) (fun p q w hp e g u' I' => ?_)
  · unfold wpY_get
    dsimp only
    refine br_c (fun _ => ⟨rfl, rr_rel I rfl A⟩) (fun c => ?_)
    obtain ⟨p, hp, rfl⟩ := nI_of c
    exact pk_le xs.length p (fun _ => ⟨rfl, rr_rel I rfl A⟩) (fun lt => absurd ⟨p, lt, rfl⟩ S)
  · subst e
    unfold wpY_get
    dsimp only
    rw [rr_cl (show p ≤ 40 by omega)]
    refine br_f (nI_pos (by omega)) (pk_le xs.length p (fun le => absurd hp (by omega)) (fun lt => ⟨rr_in40 (by omega), ?_, rr_rel I' rfl A⟩))
    exact (rr_pg A g).symm
theorem i_vc_reverse {k : Nat} {u : SX} {v : SY} (I : i_Rel k u v) (hk : k + 4 ≤ 2048) (v1 : Int32) (v2 : Int32) : wpX_reverse (fun r u' => wpY_reverse (fun r' v' => r' = r ∧ i_Rel (k + 4) u' v') v v1 v2) u v1 v2 := by
  obtain ⟨xs, a, o, I, rfl, A⟩ := I
  have hl := rr_I_len I
  have lv := rr_vs_len xs
  refine rr_x_reverse I (fun S => ?_) (fun x y e1 e2 hxy hy u' I' => ?_)
  · exact rr_y_reverse hl (fun _ => ⟨rfl, rr_rel I rfl A⟩) (fun x y e1 e2 h1 h2 => absurd ⟨x, y, e1, e2, h1, h2⟩ S)
  · refine rr_y_reverse hl (fun S => absurd ⟨x, y, e1, e2, hxy, hy⟩ S) (fun x' y' f1 f2 g1 g2 a' o' h1 h2 => ?_)
    have ex : x = x' := rr_inj (by omega) (by omega) (e1.symm.trans f1)
    have ey : y = y' := rr_inj (by omega) (by omega) (e2.symm.trans f2)
    subst ex ey
    refine ⟨rfl, rr_rel I' ?_ ?_⟩
    · rw [List.length_append, List.length_append, List.length_reverse, List.length_take, List.length_drop, rr_md_len xs hy]; omega
    · rw [rr_vs_app, rr_vs_app, rr_vs_rev, rr_vs_md, rr_vs_take, rr_vs_drop]
      exact rr_AR_reverse A hxy (by omega) h1 h2
theorem i_vc_add {k : Nat} {u : SX} {v : SY} (I : i_Rel k u v) (hk : k + 4 ≤ 2048) (v1 : Int32) (v2 : Int32) (v3 : Int32) : wpX_add (fun r u' => wpY_add (fun r' v' => r' = r ∧ i_Rel (k + 4) u' v') v v1 v2 v3) u v1 v2 v3 := by
  obtain ⟨xs, a, o, I, rfl, A⟩ := I
  have hl := rr_I_len I
  have lv := rr_vs_len xs
  have Q : ∀ x y, y ≤ xs.length → ((∀ p, p ∈ rr_md xs x y → rr_inR (p.2.toInt + v3.toInt)) ↔ ∀ q, x ≤ q → q < y → rr_inR ((a q).toInt + v3.toInt)) := by
    intro x y hy
    constructor
    · intro h q q1 q2
      obtain ⟨p, hp, e⟩ := rr_md_at A hy q1 q2
      rw [← e]; exact h p hp
    · intro h p hp
      obtain ⟨q, q1, q2, e⟩ := rr_md_mem A hy hp
      rw [e]; exact h q q1 q2
  refine rr_x_add I (fun S => ?_) (fun x y e1 e2 hxy hy R u' I' => ?_) (fun x y e1 e2 hxy hy R u' I' => ?_)
  · exact rr_y_add hl (fun _ => ⟨rfl, rr_rel I rfl A⟩) (fun x y e1 e2 h1 h2 => absurd ⟨x, y, e1, e2, h1, h2⟩ S) (fun x y e1 e2 h1 h2 => absurd ⟨x, y, e1, e2, h1, h2⟩ S)
  · refine rr_y_add hl (fun S => absurd ⟨x, y, e1, e2, hxy, hy⟩ S) (fun x' y' f1 f2 g1 g2 R' a' h1 h2 => ?_) (fun x' y' f1 f2 g1 g2 R' => ?_)
    · have ex : x = x' := rr_inj (by omega) (by omega) (e1.symm.trans f1)
      have ey : y = y' := rr_inj (by omega) (by omega) (e2.symm.trans f2)
      subst ex ey
      refine ⟨rfl, rr_rel I' ?_ ?_⟩
      · rw [List.length_append, List.length_append, rr_len_mp, List.length_take, List.length_drop, rr_md_len xs hy]; omega
      · rw [rr_vs_app, rr_vs_app, rr_vs_mp, rr_vs_md, rr_vs_take, rr_vs_drop]
        exact rr_AR_add A hxy (by omega) h1 h2
    · have ex : x = x' := rr_inj (by omega) (by omega) (e1.symm.trans f1)
      have ey : y = y' := rr_inj (by omega) (by omega) (e2.symm.trans f2)
      subst ex ey
      exact absurd ((Q x y hy).mp R) R'
  · refine rr_y_add hl (fun S => absurd ⟨x, y, e1, e2, hxy, hy⟩ S) (fun x' y' f1 f2 g1 g2 R' a' h1 h2 => ?_) (fun x' y' f1 f2 g1 g2 R' => ?_)
    · have ex : x = x' := rr_inj (by omega) (by omega) (e1.symm.trans f1)
      have ey : y = y' := rr_inj (by omega) (by omega) (e2.symm.trans f2)
      subst ex ey
      exact absurd ((Q x y hy).mpr R') R
    · exact ⟨rfl, rr_rel I' rfl A⟩
theorem i_vc_move {k : Nat} {u : SX} {v : SY} (I : i_Rel k u v) (hk : k + 4 ≤ 2048) (v1 : Int32) (v2 : Int32) (v3 : Int32) : wpX_move (fun r u' => wpY_move (fun r' v' => r' = r ∧ i_Rel (k + 4) u' v') v v1 v2 v3) u v1 v2 v3 := by
  obtain ⟨xs, a, o, I, rfl, A⟩ := I
  have hl := rr_I_len I
  have lv := rr_vs_len xs
  refine rr_x_move I (fun S => ?_) (fun x y e1 e2 hxy hy R => ?_) (fun x y p e1 e2 e3 hxy hy hp u' I' => ?_)
  · exact rr_y_move hl (fun _ => ⟨rfl, rr_rel I rfl A⟩) (fun x y e1 e2 h1 h2 => absurd ⟨x, y, e1, e2, h1, h2⟩ S) (fun x y p e1 e2 e3 h1 h2 => absurd ⟨x, y, e1, e2, h1, h2⟩ S)
  · refine rr_y_move hl (fun S => absurd ⟨x, y, e1, e2, hxy, hy⟩ S) (fun x' y' f1 f2 g1 g2 R' => ⟨rfl, rr_rel I rfl A⟩) (fun x' y' p' f1 f2 f3 g1 g2 g3 => ?_)
    have ex : x = x' := rr_inj (by omega) (by omega) (e1.symm.trans f1)
    have ey : y = y' := rr_inj (by omega) (by omega) (e2.symm.trans f2)
    subst ex ey
    exact absurd ⟨p', g3, f3⟩ R
  · refine rr_y_move hl (fun S => absurd ⟨x, y, e1, e2, hxy, hy⟩ S) (fun x' y' f1 f2 g1 g2 R' => ?_) (fun x' y' p' f1 f2 f3 g1 g2 g3 a' o' h => ?_)
    · have ex : x = x' := rr_inj (by omega) (by omega) (e1.symm.trans f1)
      have ey : y = y' := rr_inj (by omega) (by omega) (e2.symm.trans f2)
      subst ex ey
      exact absurd ⟨p, hp, e3⟩ R'
    · have ex : x = x' := rr_inj (by omega) (by omega) (e1.symm.trans f1)
      have ey : y = y' := rr_inj (by omega) (by omega) (e2.symm.trans f2)
      have ep : p = p' := rr_inj (by omega) (by omega) (e3.symm.trans f3)
      subst ex ey ep
      refine ⟨rfl, rr_rel I' ?_ ?_⟩
      · rw [List.length_append, List.length_append, List.length_take, List.length_drop, rr_md_len xs hy, rr_rs_len xs hxy hy]; omega
      · rw [rr_vs_app, rr_vs_app, rr_vs_take, rr_vs_drop, rr_vs_md, rr_vs_rs]
        exact rr_AR_move A hxy (by omega) (by omega) (fun q hq => h q (by omega))
theorem i_vc_twice {k : Nat} {u : SX} {v : SY} (I : i_Rel k u v) (hk : k + 4 ≤ 2048) (v1 : Int32) (v2 : Int32) : wpX_twice (fun r u' => wpY_twice (fun r' v' => r' = r ∧ i_Rel (k + 4) u' v') v v1 v2) u v1 v2 := by
  obtain ⟨xs, a, o, I, rfl, A⟩ := I
  have hl := rr_I_len I
  have lv := rr_vs_len xs
  refine rr_x_twice I (fun S => ?_) (fun x y e1 e2 hxy hy R => ?_) (fun x y e1 e2 hxy hy R u' ys I' E => ?_)
  · exact rr_y_twice hl (fun _ => ⟨rfl, rr_rel I rfl A⟩) (fun x y e1 e2 h1 h2 => absurd ⟨x, y, e1, e2, h1, h2⟩ S) (fun x y e1 e2 h1 h2 => absurd ⟨x, y, e1, e2, h1, h2⟩ S)
  · refine rr_y_twice hl (fun S => absurd ⟨x, y, e1, e2, hxy, hy⟩ S) (fun x' y' f1 f2 g1 g2 R' => ⟨rfl, rr_rel I rfl A⟩) (fun x' y' f1 f2 g1 g2 R' => ?_)
    have ex : x = x' := rr_inj (by omega) (by omega) (e1.symm.trans f1)
    have ey : y = y' := rr_inj (by omega) (by omega) (e2.symm.trans f2)
    subst ex ey
    exact absurd R (by omega)
  · refine rr_y_twice hl (fun S => absurd ⟨x, y, e1, e2, hxy, hy⟩ S) (fun x' y' f1 f2 g1 g2 R' => ?_) (fun x' y' f1 f2 g1 g2 R' a' o' h1 h2 => ?_)
    · have ex : x = x' := rr_inj (by omega) (by omega) (e1.symm.trans f1)
      have ey : y = y' := rr_inj (by omega) (by omega) (e2.symm.trans f2)
      subst ex ey
      exact absurd R (by omega)
    · have ex : x = x' := rr_inj (by omega) (by omega) (e1.symm.trans f1)
      have ey : y = y' := rr_inj (by omega) (by omega) (e2.symm.trans f2)
      subst ex ey
      refine ⟨rfl, rr_rel I' ?_ ?_⟩
      · rw [← rr_vs_len ys, E, List.length_append, List.length_append, List.length_take, List.length_drop, rr_md_len (rr_vs xs) (by omega)]; omega
      · rw [E]
        exact rr_AR_twice A hxy (by omega) h1 (fun q q1 q2 => h2 q q1 (by omega))
theorem i_vc_sum {k : Nat} {u : SX} {v : SY} (I : i_Rel k u v) (hk : k + 4 ≤ 2048) (v1 : Int32) (v2 : Int32) : wpX_sum (fun r u' => wpY_sum (fun r' => r' = r ∧ i_Rel (k + 4) u' v) v v1 v2) u v1 v2 := by
  obtain ⟨xs, a, o, I, rfl, A⟩ := I
  have hl := rr_I_len I
  refine rr_x_sum I (fun S => ?_) (fun x y e1 e2 hxy hy u' I' => ?_)
  · exact rr_y_sum hl (fun _ => ⟨rfl, rr_rel I rfl A⟩) (fun x y e1 e2 h1 h2 => absurd ⟨x, y, e1, e2, h1, h2⟩ S)
  · refine rr_y_sum hl (fun S => absurd ⟨x, y, e1, e2, hxy, hy⟩ S) (fun x' y' f1 f2 g1 g2 => ?_)
    have ex : x = x' := rr_inj (by omega) (by omega) (e1.symm.trans f1)
    have ey : y = y' := rr_inj (by omega) (by omega) (e2.symm.trans f2)
    subst ex ey
    exact ⟨rr_sf_sm A hxy hy, rr_rel I' rfl A⟩
theorem i_vc_greatest {k : Nat} {u : SX} {v : SY} (I : i_Rel k u v) (hk : k + 4 ≤ 2048) (v1 : Int32) (v2 : Int32) : wpX_greatest (fun r u' => wpY_greatest (fun r' => r' = r ∧ i_Rel (k + 4) u' v) v v1 v2) u v1 v2 := by
  obtain ⟨xs, a, o, I, rfl, A⟩ := I
  have hl := rr_I_len I
  refine rr_x_greatest I (fun S => ?_) (fun x y e1 e2 hxy hy r hr u' I' => ?_)
  · exact rr_y_greatest hl (fun _ => ⟨rfl, rr_rel I rfl A⟩) (fun x y e1 e2 h1 h2 => absurd ⟨x, y, e1, e2, by omega, h2⟩ S) (fun x y e1 e2 h1 h2 => absurd ⟨x, y, e1, e2, by omega, h2⟩ S)
  · have lm := rr_md_len xs (a := x) hy
    refine rr_y_greatest hl (fun S => absurd ⟨x, y, e1, e2, hxy, hy⟩ S) (fun x' y' f1 f2 g1 g2 => ?_) (fun x' y' f1 f2 g1 g2 s h1 h2 => ?_)
    · have ex : x = x' := rr_inj (by omega) (by omega) (e1.symm.trans f1)
      have ey : y = y' := rr_inj (by omega) (by omega) (e2.symm.trans f2)
      subst ex ey
      refine ⟨?_, rr_rel I' rfl A⟩
      rcases hr with hr | ⟨⟨p, hp, _⟩, _⟩
      · exact hr.2.symm
      · have := List.length_pos_of_mem hp
        omega
    · have ex : x = x' := rr_inj (by omega) (by omega) (e1.symm.trans f1)
      have ey : y = y' := rr_inj (by omega) (by omega) (e2.symm.trans f2)
      subst ex ey
      refine ⟨?_, rr_rel I' rfl A⟩
      rcases hr with hr | ⟨⟨p, hp, ep⟩, hm⟩
      · rw [hr.1, List.length_nil] at lm; omega
      · obtain ⟨q, q1, q2, eq⟩ := rr_md_mem A hy hp
        obtain ⟨t, t1, t2, et⟩ := h1
        obtain ⟨p2, hp2, ep2⟩ := rr_md_at A hy t1 t2
        have a1 := hm p2 hp2
        have a2 := h2 q q1 q2
        rw [ep2, ← et] at a1
        rw [← eq, ep] at a2
        exact Int32.toInt_inj.mp (by omega)
theorem i_vc_smallest {k : Nat} {u : SX} {v : SY} (I : i_Rel k u v) (hk : k + 4 ≤ 2048) (v1 : Int32) (v2 : Int32) : wpX_smallest (fun r u' => wpY_smallest (fun r' => r' = r ∧ i_Rel (k + 4) u' v) v v1 v2) u v1 v2 := by
  obtain ⟨xs, a, o, I, rfl, A⟩ := I
  have hl := rr_I_len I
  refine rr_x_smallest I (fun S => ?_) (fun x y e1 e2 hxy hy r hr u' I' => ?_)
  · exact rr_y_smallest hl (fun _ => ⟨rfl, rr_rel I rfl A⟩) (fun x y e1 e2 h1 h2 => absurd ⟨x, y, e1, e2, by omega, h2⟩ S) (fun x y e1 e2 h1 h2 => absurd ⟨x, y, e1, e2, by omega, h2⟩ S)
  · have lm := rr_md_len xs (a := x) hy
    refine rr_y_smallest hl (fun S => absurd ⟨x, y, e1, e2, hxy, hy⟩ S) (fun x' y' f1 f2 g1 g2 => ?_) (fun x' y' f1 f2 g1 g2 s h1 h2 => ?_)
    · have ex : x = x' := rr_inj (by omega) (by omega) (e1.symm.trans f1)
      have ey : y = y' := rr_inj (by omega) (by omega) (e2.symm.trans f2)
      subst ex ey
      refine ⟨?_, rr_rel I' rfl A⟩
      rcases hr with hr | ⟨⟨p, hp, _⟩, _⟩
      · exact hr.2.symm
      · have := List.length_pos_of_mem hp
        omega
    · have ex : x = x' := rr_inj (by omega) (by omega) (e1.symm.trans f1)
      have ey : y = y' := rr_inj (by omega) (by omega) (e2.symm.trans f2)
      subst ex ey
      refine ⟨?_, rr_rel I' rfl A⟩
      rcases hr with hr | ⟨⟨p, hp, ep⟩, hm⟩
      · rw [hr.1, List.length_nil] at lm; omega
      · obtain ⟨q, q1, q2, eq⟩ := rr_md_mem A hy hp
        obtain ⟨t, t1, t2, et⟩ := h1
        obtain ⟨p2, hp2, ep2⟩ := rr_md_at A hy t1 t2
        have a1 := hm p2 hp2
        have a2 := h2 q q1 q2
        rw [ep2, ← et] at a1
        rw [← eq, ep] at a2
        exact Int32.toInt_inj.mp (by omega)
theorem i_vc_firstAtLeast {k : Nat} {u : SX} {v : SY} (I : i_Rel k u v) (hk : k + 4 ≤ 2048) (v1 : Int32) (v2 : Int32) : wpX_firstAtLeast (fun r u' => wpY_firstAtLeast (fun r' => r' = r ∧ i_Rel (k + 4) u' v) v v1 v2) u v1 v2 := by
  obtain ⟨xs, a, o, I, rfl, A⟩ := I
  have hl := rr_I_len I
  have Z : ∀ f, (v1 = nI f ∨ (v1 < 0 ∧ f = 0)) → f ≤ xs.length → ∀ t, t < f → nI t < v1 := by
    intro f ef hf t ht
    rcases ef with e | e
    · rw [e]; exact nI_lt ht (by omega)
    · omega
  have Z2 : ∀ f, (v1 = nI f ∨ (v1 < 0 ∧ f = 0)) → f ≤ xs.length → ∀ t, f ≤ t → t ≤ 40 → ¬ nI t < v1 := by
    intro f ef hf t ht h40
    rcases ef with e | e
    · rw [e]; exact nI_nlt ht (by omega)
    · intro c
      have c1 := Int32.lt_iff_toInt_lt.mp c
      have c2 := Int32.lt_iff_toInt_lt.mp e.1
      rw [nI_toInt (show t < 2 ^ 31 by omega)] at c1
      rw [Int32.toInt_zero] at c2
      omega
  refine rr_x_firstAtLeast I (fun c => ?_) (fun f ef hf g u' I' => ?_) (fun f ef hf g u' I' => ?_)
  · refine rr_y_none hl (fun t ht => Or.inl ?_) ⟨rfl, rr_rel I rfl A⟩
    have c1 := Int32.le_iff_toInt_le.mp c
    rw [nI_toInt (show xs.length < 2 ^ 31 by omega)] at c1
    rw [Int32.lt_iff_toInt_lt, nI_toInt (show t < 2 ^ 31 by omega)]
    omega
  · have fl := rr_fi_lt g
    rw [List.length_drop] at fl
    obtain ⟨⟨p, g1, g2⟩, g3⟩ := rr_fi_spec g
    rw [List.getElem?_drop] at g1
    refine rr_y_first hl (g := f + rr_fi v2 (xs.drop f)) (by omega) (fun t ht => ?_) (Z2 f ef hf _ (by omega) (by omega)) ?_ ⟨rfl, rr_rel I' rfl A⟩
    · by_cases c : t < f
      · exact Or.inl (Z f ef hf t c)
      · right
        have ht' : t < xs.length := by omega
        have e : xs[t]? = some xs[t] := List.getElem?_eq_getElem ht'
        have w := g3 (t - f) (by omega) xs[t] (by rw [List.getElem?_drop, show f + (t - f) = t by omega]; exact e)
        rw [rr_pg A e] at w
        exact Int32.not_le.mp w
    · rw [← rr_pg A g1]
      exact Int32.not_lt.mpr g2
  · refine rr_y_none hl (fun t ht => ?_) ⟨rfl, rr_rel I' rfl A⟩
    by_cases c : t < f
    · exact Or.inl (Z f ef hf t c)
    · right
      have e : xs[t]? = some xs[t] := List.getElem?_eq_getElem ht
      refine Int32.not_le.mp fun w => g ⟨xs[t], ?_, ?_⟩
      · refine List.mem_of_getElem? (i := t - f) ?_
        rw [List.getElem?_drop, show f + (t - f) = t by omega]
        exact e
      · rw [rr_pg A e]; exact w
theorem i_vc_clear {k : Nat} {u : SX} {v : SY} (I : i_Rel k u v) (hk : k + 4 ≤ 2048) : wpX_clear (fun r u' => wpY_clear (fun r' v' => r' = r ∧ i_Rel (k + 4) u' v') v) u := by
  obtain ⟨xs, a, o, I, rfl, A⟩ := I
  refine rr_x_clear I fun u' I' => ?_
  exact ⟨rfl, rr_rel (c := 0) I' rfl (fun k hk => absurd hk (by show ¬ k < 0; omega))⟩
end
