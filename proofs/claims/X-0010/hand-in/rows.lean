section
theorem pk_us {f : Nat → Int32} {k : Nat} {x : Int32} : upd f k x k = x := if_pos rfl
theorem pk_un {f : Nat → Int32} {k j : Nat} {x : Int32} (h : j ≠ k) : upd f k x j = f j := if_neg h
theorem pk_sub {a b : Nat} (h : b ≤ a) : nI a - nI b = nI (a - b) := by
  obtain ⟨c, rfl⟩ : ∃ c, a = c + b := ⟨a - b, by omega⟩
  rw [← nI_add, Int32.add_sub_cancel, Nat.add_sub_cancel]
theorem pk_mul (a b : Nat) : nI a * nI b = nI (a * b) := (Int32.ofNat_mul a b).symm
theorem pk_div {a d : Nat} (ha : a < 2 ^ 31) (h0 : 0 < d) (hd : d < 2 ^ 31) : nI a / nI d = nI (a / d) := by
  apply Int32.toInt_inj.mp
  rw [lg_idiv_nonneg (by rw [nI_toInt ha]; omega) (by rw [nI_toInt hd]; omega), nI_toInt ha, nI_toInt hd, nI_toInt (Nat.lt_of_le_of_lt (Nat.div_le_self a d) ha)]
  first | rfl | exact (Int.natCast_ediv _ _).symm
theorem pk_rem {a d : Nat} (ha : a < 2 ^ 31) (h0 : 0 < d) (hd : d < 2 ^ 31) : nI a - nI a / nI d * nI d = nI (a % d) := by
  rw [pk_div ha h0 hd, pk_mul, pk_sub (Nat.div_mul_le_self a d)]
  exact congrArg nI (by have := Nat.div_add_mod' a d; omega)
theorem pk_ix (x : Int32) {n : Nat} (hn : n < 2 ^ 31) : x < 0 ∨ nI n ≤ x ∨ ∃ j : Nat, j < n ∧ x = nI j := by
  by_cases h : x < 0
  · exact Or.inl h
  · obtain ⟨j, hj, rfl⟩ := nI_of h
    by_cases h2 : j < n
    · exact Or.inr (Or.inr ⟨j, h2, rfl⟩)
    · exact Or.inr (Or.inl (nI_le (by omega) hj))
theorem pk_le {x y : Int32} {A B : Prop} (a b : Nat) (f : a ≤ b → A) (g : b < a → B) (hx : x = nI a := by rfl) (hy : y = nI b := by rfl) (ha : a < 2 ^ 31 := by omega) (hb : b < 2 ^ 31 := by omega) : (x ≤ y → A) ∧ (¬ x ≤ y → B) := by
  subst hx hy
  rw [nI_leI ha hb]
  exact ⟨f, fun z => g (by omega)⟩
theorem pk_lt {x y : Int32} {A B : Prop} (a b : Nat) (f : a < b → A) (g : b ≤ a → B) (hx : x = nI a := by rfl) (hy : y = nI b := by rfl) (ha : a < 2 ^ 31 := by omega) (hb : b < 2 ^ 31 := by omega) : (x < y → A) ∧ (¬ x < y → B) := by
  subst hx hy
  rw [nI_ltI ha hb]
  exact ⟨f, fun z => g (by omega)⟩
theorem pk_eq {x y : Int32} {A B : Prop} (a b : Nat) (f : a = b → A) (g : a ≠ b → B) (hx : x = nI a := by rfl) (hy : y = nI b := by rfl) (ha : a < 2 ^ 31 := by omega) (hb : b < 2 ^ 31 := by omega) : (x = y → A) ∧ (¬ x = y → B) := by
  subst hx hy
  rw [nI_eq ha hb]
  exact ⟨f, g⟩
theorem pk_in {x : Int32} (n N : Nat) (h : n < N) (hx : x = nI n := by rfl) (hN : N < 2 ^ 31 := by omega) : vp_in x N := by
  subst hx
  exact vp_in_nI h hN
theorem pk_cl {x : Int32} (n : Nat) (hx : x = nI n := by rfl) (h : n < 2 ^ 31 := by omega) : x.toNatClampNeg = n := by
  subst hx
  exact nI_clamp h
end
section
/-! numbers, the core of the relation -/
def hl_I (f : Nat → Nat) : Nat → Int32 := fun j => nI (f j)
def hl_u (f : Nat → Nat) (k x : Nat) : Nat → Nat := fun j => if j = k then x else f j
theorem hl_us {f : Nat → Nat} {k x : Nat} : hl_u f k x k = x := if_pos rfl
theorem hl_un {f : Nat → Nat} {k j x : Nat} (h : j ≠ k) : hl_u f k x j = f j := if_neg h
theorem hl_upd (f : Nat → Nat) (k x : Nat) : upd (hl_I f) k (nI x) = hl_I (hl_u f k x) := by
  funext j
  show (if j = k then nI x else nI (f j)) = nI (if j = k then x else f j)
  by_cases h : j = k
  · rw [if_pos h, if_pos h]
  · rw [if_neg h, if_neg h]
theorem hl_at (f : Nat → Nat) (j : Nat) : hl_I f j = nI (f j) := rfl
theorem hl_updn {f : Nat → Int32} {k : Nat} {x : Int32} (h : f k = x) : upd f k x = f := by
  funext j
  show (if j = k then x else f j) = f j
  by_cases hj : j = k
  · rw [if_pos hj, hj, h]
  · rw [if_neg hj]
def hl_b (b : Bool) : Int32 := if b = true then 1 else 0
theorem hl_bt : hl_b true = 1 := rfl
theorem hl_bf : hl_b false = 0 := rfl
theorem hl_br {b : Bool} {A B : Prop} (f : b = false → A) (t : b = true → B) : (hl_b b = 0 → A) ∧ (¬ hl_b b = 0 → B) := by
  cases b
  · exact ⟨fun _ => f rfl, fun h => absurd rfl h⟩
  · exact ⟨fun h => absurd h (by decide), fun _ => t rfl⟩
theorem hl_bn (b : Bool) : narrow .boolean (.int (hl_b b)) = .int (hl_b b) := by cases b <;> rfl
theorem hl_bv (b : Bool) : vp_nar .boolean (hl_b b) = hl_b b := by cases b <;> rfl
theorem hl_v1 : vp_nar .boolean 1 = 1 := rfl
theorem hl_b01 {x : Int32} (h : x = 0 ∨ x = 1) : narrow .boolean (.int x) = .int x := by rcases h with rfl | rfl <;> rfl
theorem hl_bor (b : Bool) : hl_b b = 0 ∨ hl_b b = 1 := by cases b <;> decide
theorem hl_b0 {b : Bool} (h : hl_b b = 0) : b = false := by
  cases b
  · rfl
  · exact absurd h (by decide)
def hl_x (e : Nat) : Nat := if e % 2 = 0 then e + 1 else e - 1
def hl_o (e : Nat) : Nat := if e % 2 = 1 then e + 1 else e - 1
theorem hl_x6 : ∀ e, e < 6 → hl_x e < 6 := by decide +kernel
theorem hl_xx : ∀ e, e < 6 → hl_x (hl_x e) = e := by decide +kernel
theorem hl_x2 : ∀ e, e < 6 → hl_x e / 2 = e / 2 := by decide +kernel
theorem hl_xn : ∀ e, e < 6 → hl_x e ≠ e := by decide +kernel
theorem hl_xp : ∀ e, e < 6 → ∀ s, s < 6 → s / 2 = e / 2 → s ≠ e → s = hl_x e := by decide +kernel
theorem hl_o6 : ∀ e, e < 6 → 1 ≤ e → e ≤ 4 → hl_o e < 6 := by decide +kernel
theorem hl_od : ∀ e, e < 6 → 1 ≤ e → e ≤ 4 → hl_o e / 2 ≠ e / 2 := by decide +kernel
theorem hl_ex : ∀ e, e < 6 → nI e ^^^ 1 = nI (hl_x e) := by decide +kernel
theorem hl_e2 : ∀ e, e < 6 → nI e / 2 = nI (e / 2) := by decide +kernel
theorem hl_ep : ∀ e, e < 6 → (nI e + 1) / 2 = nI ((e + 1) / 2) := by decide +kernel
theorem hl_em : ∀ e, e < 6 → nI e - nI e / 2 * 2 = nI (e % 2) := by decide +kernel
theorem hl_em' : ∀ e, e < 6 → nI e - nI (e / 2) * 2 = nI (e % 2) := by decide +kernel
theorem hl_e0 : ∀ e, e < 6 → ¬ nI e < 0 := by decide +kernel
theorem hl_e5 : ∀ e, e < 6 → ¬ (5 : Int32) < nI e := by decide +kernel
theorem hl_e5' : ∀ e, e < 6 → nI e ≤ 5 := by decide +kernel
theorem hl_i0 : ∀ e, e < 8 → ¬ nI e < 0 := by decide +kernel
theorem hl_i7 : ∀ e, e < 8 → ¬ (7 : Int32) < nI e := by decide +kernel
theorem hl_i7' : ∀ e, e < 8 → nI e ≤ 7 := by decide +kernel
theorem hl_rng (v M : Int32) (n : Nat) (hM : M = nI n) (hn : n < 2 ^ 30) : v < 0 ∨ (¬ v < 0 ∧ M < v ∧ ¬ v ≤ M) ∨ ∃ e, e < n + 1 ∧ v = nI e ∧ ¬ v < 0 ∧ ¬ M < v ∧ v ≤ M := by
  by_cases h : v < 0
  · exact Or.inl h
  · obtain ⟨j, hj, rfl⟩ := nI_of h
    subst hM
    by_cases h2 : j < n + 1
    · exact Or.inr (Or.inr ⟨j, h2, rfl, h, nI_nlt (by omega) (by omega), nI_le (by omega) (by omega)⟩)
    · exact Or.inr (Or.inl ⟨h, nI_lt (by omega) hj, nI_ge (by omega) hj⟩)
theorem hl_ix (c w i : Nat) : nI c * nI w + nI i = nI (c * w + i) := by rw [pk_mul, nI_add]
theorem hl_i8 (c i : Nat) : nI c * 8 + nI i = nI (c * 8 + i) := hl_ix c 8 i
theorem hl_i9 (c i : Nat) : nI c * 9 + nI i = nI (c * 9 + i) := hl_ix c 9 i
theorem hl_i16 (c i : Nat) : nI c * 16 + nI i = nI (c * 16 + i) := hl_ix c 16 i
theorem hl_2i (i : Nat) : 2 * nI i = nI (2 * i) := pk_mul 2 i
theorem hl_i2 (i : Nat) : nI i * 2 = nI (i * 2) := pk_mul i 2
theorem hl_2n : ¬ (2 : Int32) = 0 := by decide
theorem hl_8n : ¬ (8 : Int32) = 0 := by decide
/-- the update at place p of end s's list is in commitment q of end e -/
def hl_c (np nq : Nat → Nat) (s p e q : Nat) : Bool := decide (p < if s = e then np (e * 16 + q) else nq (e * 16 + q))
def hl_st (nl np nq : Nat → Nat) (s p : Nat) : Bool := hl_c np nq s p s (nl s) && hl_c np nq s p (hl_x s) (nl (hl_x s))
def hl_ad (no na np nq : Nat → Nat) (t e q : Nat) : Bool := hl_c np nq (no t) (na t) e q
def hl_rv (no nr np nq : Nat → Nat) (rm : Nat → Int32) (t e q : Nat) : Bool := decide (rm t ≠ 0) && hl_c np nq (hl_x (no t)) (nr t) e q
def hl_as (no na nl np nq : Nat → Nat) (t : Nat) : Bool := hl_st nl np nq (no t) (na t)
def hl_rs (no nr nl np nq : Nat → Nat) (rm : Nat → Int32) (t : Nat) : Bool := decide (rm t ≠ 0) && hl_st nl np nq (hl_x (no t)) (nr t)
theorem hl_stc (nl np nq : Nat → Nat) (s p c : Nat) (h : s / 2 = c) : hl_st nl np nq s p = (hl_c np nq s p (2 * c) (nl (2 * c)) && hl_c np nq s p (2 * c + 1) (nl (2 * c + 1))) := by
  have hs : s = 2 * c ∨ s = 2 * c + 1 := by omega
  unfold hl_st
  rcases hs with hs | hs
  · have hx : hl_x s = 2 * c + 1 := by unfold hl_x; rw [if_pos (by omega)]; omega
    rw [hx, hs]
  · have hx : hl_x s = 2 * c := by unfold hl_x; rw [if_neg (by omega)]; omega
    rw [hx, hs, Bool.and_comm]
def hl_C1 (nc no nh na nr ns np nq : Nat → Nat) : Prop := ∀ j, nc j ≤ 8 ∧ no j < 6 ∧ nh j < 8 ∧ na j ≤ 2563 ∧ nr j ≤ 2563 ∧ ns j ≤ 2563 ∧ np j ≤ 2563 ∧ nq j ≤ 2563
def hl_C2 (nl nw : Nat → Nat) : Prop := ∀ j, nl j ≤ nw j ∧ nw j ≤ 15
def hl_C3 (rm hd : Nat → Int32) : Prop := ∀ j, (rm j = 0 ∨ rm j = 1 ∨ rm j = 2) ∧ (hd j = 0 ∨ hd j = 1)
def hl_C4 (nc no na nr ns : Nat → Nat) (rm : Nat → Int32) : Prop := ∀ c i, c < 3 → i < nc c → no (c * 8 + i) / 2 = c ∧ na (c * 8 + i) < ns (no (c * 8 + i)) ∧ (rm (c * 8 + i) ≠ 0 → nr (c * 8 + i) < ns (hl_x (no (c * 8 + i))))
def hl_C5 (nc : Nat → Nat) (rm : Nat → Int32) : Prop := ∀ c i, c < 3 → nc c ≤ i → i < 8 → rm (c * 8 + i) = 0
def hl_C6 (ns nw np nq : Nat → Nat) : Prop := ∀ e q, e < 6 → q ≤ nw e → np (e * 16 + q) ≤ ns e ∧ nq (e * 16 + q) ≤ ns (hl_x e)
/-- every place of a list holds an update -/
def hl_C7 (nc no na nr ns : Nat → Nat) (rm : Nat → Int32) : Prop := ∀ e p, e < 6 → p < ns e → ∃ i, i < nc (e / 2) ∧ ((no (e / 2 * 8 + i) = e ∧ na (e / 2 * 8 + i) = p) ∨ (no (e / 2 * 8 + i) ≠ e ∧ rm (e / 2 * 8 + i) ≠ 0 ∧ nr (e / 2 * 8 + i) = p))
def hl_C8 (nc no na nr nw np nq : Nat → Nat) (rm hd : Nat → Int32) : Prop := ∀ e q i, e < 6 → q ≤ nw e → i < 8 → hd ((e * 16 + q) * 16 + 2 * i) = hl_b (decide (i < nc (e / 2)) && hl_ad no na np nq (e / 2 * 8 + i) e q) ∧ hd ((e * 16 + q) * 16 + (2 * i + 1)) = hl_b (decide (i < nc (e / 2)) && hl_rv no nr np nq rm (e / 2 * 8 + i) e q)
/-- t isn't passed on, or to transfer j of the next channel, with the same hash -/
def hl_P (nc no nh : Nat → Nat) (pt : Nat → Int32) (t : Nat) : Prop := pt t = 8 ∨ ∃ j, pt t = nI j ∧ 1 ≤ hl_x (no t) ∧ hl_x (no t) ≤ 4 ∧ j < nc (hl_o (hl_x (no t)) / 2) ∧ nh (hl_o (hl_x (no t)) / 2 * 8 + j) = nh t
def hl_C9 (nc no nh : Nat → Nat) (pt : Nat → Int32) : Prop := ∀ c i, c < 3 → i < nc c → hl_P nc no nh pt (c * 8 + i)
def hl_C (nc no nh na nr ns nl nw np nq : Nat → Nat) (rm pt hd : Nat → Int32) : Prop :=
  hl_C1 nc no nh na nr ns np nq ∧ hl_C2 nl nw ∧ hl_C3 rm hd ∧ hl_C4 nc no na nr ns rm ∧ hl_C5 nc rm ∧ hl_C6 ns nw np nq ∧ hl_C7 nc no na nr ns rm ∧ hl_C8 nc no na nr nw np nq rm hd ∧ hl_C9 nc no nh pt
section
variable {dep dly grd hgt : Int32} {wal kn am ex rm pt cl pb ca ou hd cd ce cb : Nat → Int32} {nc no nh na nr ns nl nw np nq : Nat → Nat}
theorem hl_k1 (C : hl_C nc no nh na nr ns nl nw np nq rm pt hd) : hl_C1 nc no nh na nr ns np nq := C.1
theorem hl_k2 (C : hl_C nc no nh na nr ns nl nw np nq rm pt hd) : hl_C2 nl nw := C.2.1
theorem hl_k3 (C : hl_C nc no nh na nr ns nl nw np nq rm pt hd) : hl_C3 rm hd := C.2.2.1
theorem hl_k4 (C : hl_C nc no nh na nr ns nl nw np nq rm pt hd) : hl_C4 nc no na nr ns rm := C.2.2.2.1
theorem hl_k5 (C : hl_C nc no nh na nr ns nl nw np nq rm pt hd) : hl_C5 nc rm := C.2.2.2.2.1
theorem hl_k6 (C : hl_C nc no nh na nr ns nl nw np nq rm pt hd) : hl_C6 ns nw np nq := C.2.2.2.2.2.1
theorem hl_k7 (C : hl_C nc no nh na nr ns nl nw np nq rm pt hd) : hl_C7 nc no na nr ns rm := C.2.2.2.2.2.2.1
theorem hl_k8 (C : hl_C nc no nh na nr ns nl nw np nq rm pt hd) : hl_C8 nc no na nr nw np nq rm hd := C.2.2.2.2.2.2.2.1
theorem hl_k9 (C : hl_C nc no nh na nr ns nl nw np nq rm pt hd) : hl_C9 nc no nh pt := C.2.2.2.2.2.2.2.2
end
/-- the channels' closings -/
def hl_D (cl ca cd ce cb : Nat → Int32) : Prop := ∀ c, c < 3 → (cd c = 0 ∧ cl c = -1 ∧ ca c = -1) ∨ (cd c = 1 ∧ ∃ x, x / 2 = c ∧ cl c = nI x ∧ ce c = nI x ∧ ca c = cb c)
def hl_K (kn : Nat → Int32) : Prop := ∀ j, kn j = 0 ∨ kn j = 1
end
section
/-! the small methods of both sides, each over a general post -/
section
variable {dep dly grd hgt : Int32} {wal kn am ex rm pt cl pb ca ou hd cd ce cb : Nat → Int32} {nc no nh na nr ns nl nw np nq : Nat → Nat}
variable {post : Int32 → Prop}
theorem hl_xcont (C : hl_C nc no nh na nr ns nl nw np nq rm pt hd) {s p e q : Nat} (hs : s < 6) (hp : p ≤ 2563) (he : e < 6) (hq : q < 16) (h : post (hl_b (hl_c np nq s p e q))) : wpX_contained post (dep, dly, grd, hgt, wal, kn, (hl_I nc), (hl_I no), (hl_I nh), am, ex, rm, (hl_I na), (hl_I nr), pt, (hl_I ns), (hl_I nl), (hl_I nw), (hl_I np), (hl_I nq), cl, pb, ca, ou) (nI s) (nI p) (nI e) (nI q) := by
  have B := hl_k1 C (e * 16 + q)
  have hin : vp_in (nI (e * 16 + q)) 96 := vp_in_nI (by omega) (by decide)
  have hcl : (nI (e * 16 + q)).toNatClampNeg = e * 16 + q := nI_clamp (by omega)
  unfold wpX_contained
  dsimp only
  rw [hl_i16, hcl]
  unfold hl_c at h
  by_cases hse : s = e
  · rw [if_pos hse] at h
    refine br_t (congrArg nI hse) ⟨hin, ?_⟩
    unfold wX_contained_32
    refine pk_le (np (e * 16 + q)) p (fun hc => ?_) (fun hc => ?_)
    · rw [decide_eq_false (by omega), hl_bf] at h; exact h
    · rw [decide_eq_true (by omega), hl_bt] at h; exact h
  · rw [if_neg hse] at h
    refine br_f (fun z => hse ((nI_eq (by omega) (by omega)).mp z)) ⟨hin, ?_⟩
    unfold wX_contained_32
    refine pk_le (nq (e * 16 + q)) p (fun hc => ?_) (fun hc => ?_)
    · rw [decide_eq_false (by omega), hl_bf] at h; exact h
    · rw [decide_eq_true (by omega), hl_bt] at h; exact h
theorem hl_xset (C : hl_C nc no nh na nr ns nl nw np nq rm pt hd) {s p : Nat} (hs : s < 6) (hp : p ≤ 2563) (h : post (hl_b (hl_st nl np nq s p))) : wpX_settled post (dep, dly, grd, hgt, wal, kn, (hl_I nc), (hl_I no), (hl_I nh), am, ex, rm, (hl_I na), (hl_I nr), pt, (hl_I ns), (hl_I nl), (hl_I nw), (hl_I np), (hl_I nq), cl, pb, ca, ou) (nI s) (nI p) := by
  have L1 := hl_k2 C s
  have L2 := hl_k2 C (hl_x s)
  have hx := hl_x6 s hs
  unfold wpX_settled
  dsimp only
  rw [hl_ex s hs]
  refine nm_e ⟨vp_in_nI hs (by decide), ?_⟩
  rw [nI_clamp (n := s) (by omega), nI_clamp (n := hl_x s) (by omega)]
  unfold hl_st at h
  refine hl_xcont C hs hp hs (q := nl s) (by omega) ?_
  refine hl_br (fun h1 => ?_) (fun h1 => ⟨vp_in_nI hx (by decide), ?_⟩)
  · rw [h1, Bool.false_and, hl_bf] at h; exact h
  · refine hl_xcont C hs hp hx (q := nl (hl_x s)) (by omega) ?_
    rw [h1, Bool.true_and] at h
    refine hl_br (fun h2 => ?_) (fun h2 => ?_)
    · rw [h2, hl_bf] at h; exact h
    · rw [h2, hl_bt] at h; exact h
theorem hl_xas (C : hl_C nc no nh na nr ns nl nw np nq rm pt hd) {t : Nat} (ht : t < 24) (h : post (hl_b (hl_as no na nl np nq t))) : wpX_isAddSettled post (dep, dly, grd, hgt, wal, kn, (hl_I nc), (hl_I no), (hl_I nh), am, ex, rm, (hl_I na), (hl_I nr), pt, (hl_I ns), (hl_I nl), (hl_I nw), (hl_I np), (hl_I nq), cl, pb, ca, ou) (nI t) := by
  have B := hl_k1 C t
  unfold wpX_isAddSettled
  dsimp only
  rw [nI_clamp (n := t) (by omega)]
  refine ⟨vp_in_nI ht (by decide), vp_in_nI ht (by decide), ?_⟩
  exact hl_xset C (s := no t) (p := na t) (by omega) (by omega) ⟨hl_bn _, h⟩
theorem hl_xrs (C : hl_C nc no nh na nr ns nl nw np nq rm pt hd) {t : Nat} (ht : t < 24) (h : post (hl_b (hl_rs no nr nl np nq rm t))) : wpX_isRemovalSettled post (dep, dly, grd, hgt, wal, kn, (hl_I nc), (hl_I no), (hl_I nh), am, ex, rm, (hl_I na), (hl_I nr), pt, (hl_I ns), (hl_I nl), (hl_I nw), (hl_I np), (hl_I nq), cl, pb, ca, ou) (nI t) := by
  have B := hl_k1 C t
  have hx := hl_x6 (no t) (by omega)
  have hin : vp_in (nI t) 24 := vp_in_nI ht (by decide)
  unfold wpX_isRemovalSettled
  dsimp only
  rw [nI_clamp (n := t) (by omega), hl_at, hl_ex (no t) (by omega)]
  unfold hl_rs at h
  refine ⟨hin, br_c (fun h0 => ?_) (fun h0 => ⟨hin, hin, ?_⟩)⟩
  · rw [decide_eq_false (fun z => z h0), Bool.false_and, hl_bf] at h; exact h
  · rw [decide_eq_true h0, Bool.true_and] at h
    refine hl_xset C (s := hl_x (no t)) (p := nr t) hx (by omega) (hl_br (fun h2 => ?_) (fun h2 => ?_))
    · rw [h2, hl_bf] at h; exact h
    · rw [h2, hl_bt] at h; exact h
theorem hl_xad (C : hl_C nc no nh na nr ns nl nw np nq rm pt hd) {t e q : Nat} (ht : t < 24) (he : e < 6) (hq : q < 16) (h : post (hl_b (hl_ad no na np nq t e q))) : wpX_isAddIn post (dep, dly, grd, hgt, wal, kn, (hl_I nc), (hl_I no), (hl_I nh), am, ex, rm, (hl_I na), (hl_I nr), pt, (hl_I ns), (hl_I nl), (hl_I nw), (hl_I np), (hl_I nq), cl, pb, ca, ou) (nI t) (nI e) (nI q) := by
  have B := hl_k1 C t
  unfold wpX_isAddIn
  dsimp only
  rw [nI_clamp (n := t) (by omega)]
  refine ⟨vp_in_nI ht (by decide), vp_in_nI ht (by decide), ?_⟩
  exact hl_xcont C (s := no t) (p := na t) (by omega) (by omega) he hq ⟨hl_bn _, h⟩
theorem hl_xrv (C : hl_C nc no nh na nr ns nl nw np nq rm pt hd) {t e q : Nat} (ht : t < 24) (he : e < 6) (hq : q < 16) (h : post (hl_b (hl_rv no nr np nq rm t e q))) : wpX_isRemovalIn post (dep, dly, grd, hgt, wal, kn, (hl_I nc), (hl_I no), (hl_I nh), am, ex, rm, (hl_I na), (hl_I nr), pt, (hl_I ns), (hl_I nl), (hl_I nw), (hl_I np), (hl_I nq), cl, pb, ca, ou) (nI t) (nI e) (nI q) := by
  have B := hl_k1 C t
  have hx := hl_x6 (no t) (by omega)
  have hin : vp_in (nI t) 24 := vp_in_nI ht (by decide)
  unfold wpX_isRemovalIn
  dsimp only
  rw [nI_clamp (n := t) (by omega), hl_at, hl_ex (no t) (by omega)]
  unfold hl_rv at h
  refine ⟨hin, br_c (fun h0 => ?_) (fun h0 => ⟨hin, hin, ?_⟩)⟩
  · rw [decide_eq_false (fun z => z h0), Bool.false_and, hl_bf] at h; exact h
  · rw [decide_eq_true h0, Bool.true_and] at h
    refine hl_xcont C (s := hl_x (no t)) (p := nr t) hx (by omega) he hq (hl_br (fun h2 => ?_) (fun h2 => ?_))
    · rw [h2, hl_bf] at h; exact h
    · rw [h2, hl_bt] at h; exact h
theorem hl_xkn (C : hl_C nc no nh na nr ns nl nw np nq rm pt hd) (K : hl_K kn) {e t : Nat} (he : e < 6) (ht : t < 24) (h : post (kn ((e + 1) / 2 * 8 + nh t))) : wpX_endKnows post (dep, dly, grd, hgt, wal, kn, (hl_I nc), (hl_I no), (hl_I nh), am, ex, rm, (hl_I na), (hl_I nr), pt, (hl_I ns), (hl_I nl), (hl_I nw), (hl_I np), (hl_I nq), cl, pb, ca, ou) (nI e) (nI t) := by
  have B := hl_k1 C t
  unfold wpX_endKnows
  dsimp only
  unfold wpX_partyOf
  dsimp only
  rw [nI_clamp (n := t) (by omega), hl_ep e he, hl_at, hl_i8, nI_clamp (n := (e + 1) / 2 * 8 + nh t) (by omega)]
  exact ⟨hl_2n, vp_in_nI ht (by decide), vp_in_nI (by omega) (by decide), hl_b01 (K _), h⟩
def hl_g (grd : Int32) (p : Nat) : Int32 := if ((grd >>> (nI p &&& 31)) &&& 1) = 1 then 1 else 0
theorem hl_g01 (grd : Int32) (p : Nat) : hl_g grd p = 0 ∨ hl_g grd p = 1 := by
  unfold hl_g
  by_cases h : ((grd >>> (nI p &&& 31)) &&& 1) = 1
  · rw [if_pos h]; exact Or.inr rfl
  · rw [if_neg h]; exact Or.inl rfl
theorem hl_xg {p : Nat} (h : post (hl_g grd p)) : wpX_isGuarded post (dep, dly, grd, hgt, wal, kn, (hl_I nc), (hl_I no), (hl_I nh), am, ex, rm, (hl_I na), (hl_I nr), pt, (hl_I ns), (hl_I nl), (hl_I nw), (hl_I np), (hl_I nq), cl, pb, ca, ou) (nI p) := by
  unfold hl_g at h
  refine br_c (fun h0 => ?_) (fun h0 => ?_)
  · rw [if_pos h0] at h; exact h
  · rw [if_neg h0] at h; exact h
theorem hl_xge {e : Nat} (he : e < 6) (h : post (hl_g grd ((e + 1) / 2))) : wpX_isGuardedEnd post (dep, dly, grd, hgt, wal, kn, (hl_I nc), (hl_I no), (hl_I nh), am, ex, rm, (hl_I na), (hl_I nr), pt, (hl_I ns), (hl_I nl), (hl_I nw), (hl_I np), (hl_I nq), cl, pb, ca, ou) (nI e) := by
  unfold wpX_isGuardedEnd
  dsimp only
  unfold wpX_partyOf
  dsimp only
  rw [hl_ep e he]
  exact ⟨hl_2n, hl_xg ⟨hl_b01 (hl_g01 _ _), h⟩⟩
theorem hl_yg {p : Nat} (h : post (hl_g grd p)) : wpY_guarded post (dep, dly, grd, hgt, wal, kn, (hl_I nc), (hl_I no), (hl_I nh), am, ex, rm, pt, hd, (hl_I nl), (hl_I nw), cd, ce, pb, cb, ou) (nI p) := by
  unfold hl_g at h
  refine br_c (fun h0 => ?_) (fun h0 => ?_)
  · rw [if_pos h0] at h; exact h
  · rw [if_neg h0] at h; exact h
theorem hl_yhas (C : hl_C nc no nh na nr ns nl nw np nq rm pt hd) {e q u : Nat} (he : e < 6) (hq : q < 16) (hu : u < 16) (h : post (hd ((e * 16 + q) * 16 + u))) : wpY_has post (dep, dly, grd, hgt, wal, kn, (hl_I nc), (hl_I no), (hl_I nh), am, ex, rm, pt, hd, (hl_I nl), (hl_I nw), cd, ce, pb, cb, ou) (nI e) (nI q) (nI u) := by
  unfold wpY_has
  dsimp only
  rw [hl_i16, hl_i16, nI_clamp (n := (e * 16 + q) * 16 + u) (by omega)]
  exact ⟨vp_in_nI (by omega) (by decide), hl_b01 (hl_k3 C _).2, h⟩
theorem hl_yset2 (C : hl_C nc no nh na nr ns nl nw np nq rm pt hd) {c u : Nat} {a b : Bool} (hc : c < 3) (hu : u < 16) (ha : hd ((2 * c * 16 + nl (2 * c)) * 16 + u) = hl_b a) (hb : hd (((2 * c + 1) * 16 + nl (2 * c + 1)) * 16 + u) = hl_b b) (h : post (hl_b (a && b))) : wpY_settled post (dep, dly, grd, hgt, wal, kn, (hl_I nc), (hl_I no), (hl_I nh), am, ex, rm, pt, hd, (hl_I nl), (hl_I nw), cd, ce, pb, cb, ou) (nI c) (nI u) := by
  have L1 := hl_k2 C (2 * c)
  have L2 := hl_k2 C (2 * c + 1)
  unfold wpY_settled
  dsimp only
  rw [hl_2i, nI_1, nI_clamp (n := 2 * c) (by omega), nI_clamp (n := 2 * c + 1) (by omega)]
  refine ⟨vp_in_nI (by omega) (by decide), hl_yhas C (q := nl (2 * c)) (by omega) (by omega) hu ?_⟩
  rw [ha]
  refine hl_br (fun h1 => ?_) (fun h1 => ⟨vp_in_nI (by omega) (by decide), hl_yhas C (q := nl (2 * c + 1)) (by omega) (by omega) hu ?_⟩)
  · rw [h1, Bool.false_and, hl_bf] at h; exact h
  · rw [hb]
    rw [h1, Bool.true_and] at h
    refine hl_br (fun h2 => ?_) (fun h2 => ?_)
    · rw [h2, hl_bf] at h; exact h
    · rw [h2, hl_bt] at h; exact h
theorem hl_ysA (C : hl_C nc no nh na nr ns nl nw np nq rm pt hd) {c i : Nat} (hc : c < 3) (hi : i < nc c) (h : post (hl_b (hl_as no na nl np nq (c * 8 + i)))) : wpY_settled post (dep, dly, grd, hgt, wal, kn, (hl_I nc), (hl_I no), (hl_I nh), am, ex, rm, pt, hd, (hl_I nl), (hl_I nw), cd, ce, pb, cb, ou) (nI c) (nI (2 * i)) := by
  have B := (hl_k1 C c).1
  have a := (hl_k8 C (2 * c) (nl (2 * c)) i (by omega) (hl_k2 C _).1 (by omega)).1
  have b := (hl_k8 C (2 * c + 1) (nl (2 * c + 1)) i (by omega) (hl_k2 C _).1 (by omega)).1
  rw [show 2 * c / 2 = c by omega, decide_eq_true hi, Bool.true_and] at a
  rw [show (2 * c + 1) / 2 = c by omega, decide_eq_true hi, Bool.true_and] at b
  refine hl_yset2 C hc (by omega) a b ?_
  unfold hl_as at h
  rw [hl_stc nl np nq _ _ c (hl_k4 C c i hc hi).1] at h
  exact h
theorem hl_ysR (C : hl_C nc no nh na nr ns nl nw np nq rm pt hd) {c i : Nat} (hc : c < 3) (hi : i < nc c) (h : post (hl_b (hl_rs no nr nl np nq rm (c * 8 + i)))) : wpY_settled post (dep, dly, grd, hgt, wal, kn, (hl_I nc), (hl_I no), (hl_I nh), am, ex, rm, pt, hd, (hl_I nl), (hl_I nw), cd, ce, pb, cb, ou) (nI c) (nI (2 * i + 1)) := by
  have B := (hl_k1 C c).1
  have B2 := hl_k1 C (c * 8 + i)
  have a := (hl_k8 C (2 * c) (nl (2 * c)) i (by omega) (hl_k2 C _).1 (by omega)).2
  have b := (hl_k8 C (2 * c + 1) (nl (2 * c + 1)) i (by omega) (hl_k2 C _).1 (by omega)).2
  rw [show 2 * c / 2 = c by omega, decide_eq_true hi, Bool.true_and] at a
  rw [show (2 * c + 1) / 2 = c by omega, decide_eq_true hi, Bool.true_and] at b
  refine hl_yset2 C hc (by omega) a b ?_
  have k4 := (hl_k4 C c i hc hi).1
  unfold hl_rs at h
  rw [hl_stc nl np nq _ _ c (by rw [hl_x2 _ B2.2.1]; exact k4)] at h
  unfold hl_rv
  by_cases h0 : rm (c * 8 + i) = 0
  · rw [decide_eq_false (fun z => z h0)] at h ⊢
    exact h
  · rw [decide_eq_true h0] at h ⊢
    exact h
theorem hl_yaw (C : hl_C nc no nh na nr ns nl nw np nq rm pt hd) (K : hl_K kn) {e t : Nat} (he : e < 6) (ht : t < 24) (h : post (kn ((e + 1) / 2 * 8 + nh t))) : wpY_aware post (dep, dly, grd, hgt, wal, kn, (hl_I nc), (hl_I no), (hl_I nh), am, ex, rm, pt, hd, (hl_I nl), (hl_I nw), cd, ce, pb, cb, ou) (nI e) (nI t) := by
  have B := hl_k1 C t
  unfold wpY_aware
  dsimp only
  rw [nI_clamp (n := t) (by omega), hl_ep e he, hl_at, hl_i8, nI_clamp (n := (e + 1) / 2 * 8 + nh t) (by omega)]
  exact ⟨hl_2n, vp_in_nI ht (by decide), vp_in_nI (by omega) (by decide), hl_b01 (K _), h⟩
theorem hl_ypeer {e : Nat} (he : e < 6) (h : post (nI (hl_x e))) : wpY_peer post (dep, dly, grd, hgt, wal, kn, (hl_I nc), (hl_I no), (hl_I nh), am, ex, rm, pt, hd, (hl_I nl), (hl_I nw), cd, ce, pb, cb, ou) (nI e) := by
  unfold wpY_peer
  dsimp only
  rw [hl_em e he]
  unfold hl_x at h
  refine ⟨hl_2n, pk_eq (e % 2) 0 (fun h0 => ?_) (fun h0 => ?_)⟩
  · rw [if_pos h0] at h; rw [nI_1]; exact h
  · rw [if_neg h0] at h
    have e1 : nI e - 1 = nI (e - 1) := pk_sub (b := 1) (by omega)
    rw [e1]; exact h
theorem hl_xother {e : Nat} (he : e < 6) (h1 : 1 ≤ e) (h : post (nI (hl_o e))) : wpX_otherEnd post (dep, dly, grd, hgt, wal, kn, (hl_I nc), (hl_I no), (hl_I nh), am, ex, rm, (hl_I na), (hl_I nr), pt, (hl_I ns), (hl_I nl), (hl_I nw), (hl_I np), (hl_I nq), cl, pb, ca, ou) (nI e) := by
  unfold wpX_otherEnd
  dsimp only
  rw [hl_em e he]
  unfold hl_o at h
  refine ⟨hl_2n, pk_eq (e % 2) 1 (fun h0 => ?_) (fun h0 => ?_)⟩
  · rw [if_pos h0] at h; rw [nI_1]; exact h
  · rw [if_neg h0] at h
    have e1 : nI e - 1 = nI (e - 1) := pk_sub (b := 1) (by omega)
    rw [e1]; exact h
end
end
section
/-! balances, what may be spent, pending amounts: both sides give one answer -/
def hl_pl (rv : Bool) (r a s : Int32) : Int32 := if rv = true ∧ r = 1 then s + a else s
def hl_mi (ad rv : Bool) (r a s : Int32) : Int32 := if ad = true ∧ ¬ (rv = true ∧ r = 2) then s - a else s
section
variable {dep dly grd hgt : Int32} {wal kn am ex rm pt cl pb ca ou hd cd ce cb : Nat → Int32} {nc no nh na nr ns nl nw np nq : Nat → Nat}
variable {post : Int32 → Prop}
theorem hl_y135 {J : Int32 → Int32 → Prop} {y x2 x3 s : Int32} {i t : Nat} {rv : Bool} (ht : t < 24) (h1 : nI (no t) = y → J s (nI (i + 1))) (h2 : ¬ nI (no t) = y → J (hl_pl rv (rm t) (am t) s) (nI (i + 1))) : wY_coins_135 post J y x2 x3 s (nI i) (nI t) (hl_b rv) dep dly grd hgt wal kn (hl_I nc) (hl_I no) (hl_I nh) am ex rm pt hd (hl_I nl) (hl_I nw) cd ce pb cb ou := by
  have hin : vp_in (nI t) 24 := vp_in_nI ht (by decide)
  unfold wY_coins_135
  rw [nI_clamp (n := t) (by omega), nI_1]
  refine ⟨hin, br_c (fun h0 => nm_e (h1 h0)) (fun h0 => ?_)⟩
  have h3 := h2 h0
  unfold hl_pl at h3
  refine hl_br (fun hr => nm_e ?_) (fun hr => ⟨hin, br_c (fun h4 => ⟨hin, nm_e (nm_e ?_)⟩) (fun h4 => nm_e ?_)⟩)
  · rw [if_neg (fun z => by rw [hr] at z; exact absurd z.1 (by decide))] at h3; exact h3
  · rw [if_pos ⟨hr, h4⟩] at h3; exact h3
  · rw [if_neg (fun z => h4 z.2)] at h3; exact h3
theorem hl_y123 {J : Int32 → Int32 → Prop} {y x2 x3 s : Int32} {i t : Nat} {rv : Bool} (ht : t < 24) (hy : nI (no t) = y) (h1 : J (s - am t) (nI (i + 1))) : wY_coins_123 post J y x2 x3 s (nI i) (nI t) (hl_b rv) dep dly grd hgt wal kn (hl_I nc) (hl_I no) (hl_I nh) am ex rm pt hd (hl_I nl) (hl_I nw) cd ce pb cb ou := by
  unfold wY_coins_123
  rw [nI_clamp (n := t) (by omega)]
  exact ⟨vp_in_nI ht (by decide), nm_e (hl_y135 ht (fun _ => h1) (fun z => absurd hy z))⟩
theorem hl_y89 {J : Int32 → Int32 → Prop} {y x2 x3 s : Int32} {i t : Nat} (ad rv : Bool) (ht : t < 24) (h1 : nI (no t) = y → J (hl_mi ad rv (rm t) (am t) s) (nI (i + 1))) (h2 : ¬ nI (no t) = y → J (hl_pl rv (rm t) (am t) s) (nI (i + 1))) : wY_coins_89 post J y x2 x3 s (nI i) (nI t) (hl_b ad) (hl_b rv) dep dly grd hgt wal kn (hl_I nc) (hl_I no) (hl_I nh) am ex rm pt hd (hl_I nl) (hl_I nw) cd ce pb cb ou := by
  have hin : vp_in (nI t) 24 := vp_in_nI ht (by decide)
  unfold wY_coins_89
  rw [nI_clamp (n := t) (by omega)]
  refine ⟨hin, br_c (fun h0 => ?_) (fun h0 => hl_y135 ht (fun z => absurd z h0) h2)⟩
  have h3 := h1 h0
  unfold hl_mi at h3
  refine hl_br (fun ha => hl_y135 ht (fun _ => ?_) h2) (fun ha => hl_br (fun hr => hl_y123 ht h0 ?_) (fun hr => ⟨hin, br_c (fun h4 => hl_y135 ht (fun _ => ?_) h2) (fun h4 => hl_y123 ht h0 ?_)⟩))
  · rw [if_neg (fun z => by rw [ha] at z; exact absurd z.1 (by decide))] at h3; exact h3
  · rw [if_pos ⟨ha, fun z => by rw [hr] at z; exact absurd z.1 (by decide)⟩] at h3; exact h3
  · rw [if_neg (fun z => z.2 ⟨hr, h4⟩)] at h3; exact h3
  · rw [if_pos ⟨ha, fun z => h4 z.2⟩] at h3; exact h3
theorem hl_y55 (C : hl_C nc no nh na nr ns nl nw np nq rm pt hd) {J : Int32 → Int32 → Prop} {y s : Int32} {e q i : Nat} (ad : Bool) (he : e < 6) (hq : q ≤ nw e) (hi : i < nc (e / 2)) (h : wY_coins_89 post J y (nI e) (nI q) s (nI i) (nI (e / 2 * 8 + i)) (hl_b ad) (hl_b (hl_rv no nr np nq rm (e / 2 * 8 + i) e q)) dep dly grd hgt wal kn (hl_I nc) (hl_I no) (hl_I nh) am ex rm pt hd (hl_I nl) (hl_I nw) cd ce pb cb ou) : wY_coins_55 post J y (nI e) (nI q) s (nI i) (nI (e / 2 * 8 + i)) (hl_b ad) dep dly grd hgt wal kn (hl_I nc) (hl_I no) (hl_I nh) am ex rm pt hd (hl_I nl) (hl_I nw) cd ce pb cb ou := by
  have L := hl_k2 C e
  have B := (hl_k1 C (e / 2)).1
  have k8 := (hl_k8 C e q i he hq (by omega)).2
  rw [decide_eq_true hi, Bool.true_and] at k8
  unfold wY_coins_55
  rw [hl_2i, nI_1]
  refine br_t (nI_pos' (by omega)) (hl_yhas C he (by omega) (by omega) ?_)
  rw [k8]
  exact h
theorem hl_bal (C : hl_C nc no nh na nr ns nl nw np nq rm pt hd) {e q : Nat} (he : e < 6) (hq : q ≤ nw e) (y : Int32) : ∀ (d i : Nat) (s : Int32), i + d = nc (e / 2) → ∃ r : Int32, (∀ post : Int32 → Prop, post r → wX_balance_14 post y (nI e) (nI q) (nI (e / 2)) dep dly grd hgt wal kn (hl_I nc) (hl_I no) (hl_I nh) am ex rm (hl_I na) (hl_I nr) pt (hl_I ns) (hl_I nl) (hl_I nw) (hl_I np) (hl_I nq) cl pb ca ou (d + 1) s (nI i)) ∧ (∀ post : Int32 → Prop, post r → wY_coins_9 post y (nI e) (nI q) dep dly grd hgt wal kn (hl_I nc) (hl_I no) (hl_I nh) am ex rm pt hd (hl_I nl) (hl_I nw) cd ce pb cb ou (d + 1) s (nI i)) := by
  have L := hl_k2 C e
  have B := (hl_k1 C (e / 2)).1
  have hc : vp_in (nI (e / 2)) 3 := vp_in_nI (by omega) (by decide)
  intro d
  induction d with
  | zero =>
    intro i s hi
    refine ⟨s, fun post hp => ?_, fun post hp => ?_⟩
    · rw [wX_balance_14]
      dsimp only
      rw [nI_clamp (n := e / 2) (by omega)]
      exact ⟨hc, pk_le (nc (e / 2)) i (fun _ => hp) (fun z => absurd z (by omega))⟩
    · rw [wY_coins_9]
      dsimp only
      rw [hl_e2 e he, nI_clamp (n := e / 2) (by omega)]
      exact ⟨hl_2n, hc, pk_le (nc (e / 2)) i (fun _ => hp) (fun z => absurd z (by omega))⟩
  | succ d ih =>
    intro i s hi
    have ht : e / 2 * 8 + i < 24 := by omega
    have hin : vp_in (nI (e / 2 * 8 + i)) 24 := vp_in_nI ht (by decide)
    have k8 := (hl_k8 C e q i he hq (by omega)).1
    rw [decide_eq_true (show i < nc (e / 2) by omega), Bool.true_and] at k8
    obtain ⟨r, hX, hY⟩ := ih (i + 1) (if nI (no (e / 2 * 8 + i)) = y then hl_mi (hl_ad no na np nq (e / 2 * 8 + i) e q) (hl_rv no nr np nq rm (e / 2 * 8 + i) e q) (rm (e / 2 * 8 + i)) (am (e / 2 * 8 + i)) s else hl_pl (hl_rv no nr np nq rm (e / 2 * 8 + i) e q) (rm (e / 2 * 8 + i)) (am (e / 2 * 8 + i)) s) (by omega)
    refine ⟨r, fun post hp => ?_, fun post hp => ?_⟩
    · have h := hX post hp
      rw [wX_balance_14]
      dsimp only
      rw [nI_clamp (n := e / 2) (by omega), hl_i8]
      refine ⟨hc, br_f (nI_ge (by omega) (by omega)) (nm_e (hl_xrv C ht he (by omega) ?_))⟩
      rw [nI_clamp (n := e / 2 * 8 + i) (by omega), nI_1]
      refine ⟨hin, br_c (fun h0 => ?_) (fun h0 => ?_)⟩
      · rw [if_pos (show nI (no (e / 2 * 8 + i)) = y from h0)] at h
        unfold hl_mi at h
        refine hl_xad C ht he (by omega) (hl_br (fun ha => nm_e ?_) (fun ha => hl_br (fun hr => ?_) (fun hr => ⟨hin, br_c (fun h4 => nm_e ?_) (fun h4 => ?_)⟩)))
        · rw [if_neg (fun z => by rw [ha] at z; exact absurd z.1 (by decide))] at h; exact h
        · rw [if_pos ⟨ha, fun z => by rw [hr] at z; exact absurd z.1 (by decide)⟩] at h
          unfold wX_balance_119
          rw [nI_clamp (n := e / 2 * 8 + i) (by omega), nI_1]
          exact ⟨hin, nm_e (nm_e h)⟩
        · rw [if_neg (fun z => z.2 ⟨hr, h4⟩)] at h; exact h
        · rw [if_pos ⟨ha, fun z => h4 z.2⟩] at h
          unfold wX_balance_119
          rw [nI_clamp (n := e / 2 * 8 + i) (by omega), nI_1]
          exact ⟨hin, nm_e (nm_e h)⟩
      · rw [if_neg (show ¬ nI (no (e / 2 * 8 + i)) = y from h0)] at h
        unfold hl_pl at h
        refine hl_br (fun hr => nm_r (Int32.add_zero s) (nm_e ?_)) (fun hr => ⟨hin, br_c (fun h4 => ⟨hin, nm_e (nm_e ?_)⟩) (fun h4 => nm_r (Int32.add_zero s) (nm_e ?_))⟩)
        · rw [if_neg (fun z => by rw [hr] at z; exact absurd z.1 (by decide))] at h; exact h
        · rw [if_pos ⟨hr, h4⟩] at h; exact h
        · rw [if_neg (fun z => h4 z.2)] at h; exact h
    · have h := hY post hp
      rw [wY_coins_9]
      dsimp only
      rw [hl_e2 e he, nI_clamp (n := e / 2) (by omega), hl_i8, hl_2i]
      refine ⟨hl_2n, hc, br_f (nI_ge (by omega) (by omega)) ⟨hl_2n, nm_e (br_f (nI_pos (by omega)) (hl_yhas C he (by omega) (by omega) ?_))⟩⟩
      rw [k8]
      have hh : ∀ ad : Bool, ad = hl_ad no na np nq (e / 2 * 8 + i) e q → wY_coins_55 post (wY_coins_9 post y (nI e) (nI q) dep dly grd hgt wal kn (hl_I nc) (hl_I no) (hl_I nh) am ex rm pt hd (hl_I nl) (hl_I nw) cd ce pb cb ou (d + 1)) y (nI e) (nI q) s (nI i) (nI (e / 2 * 8 + i)) (hl_b ad) dep dly grd hgt wal kn (hl_I nc) (hl_I no) (hl_I nh) am ex rm pt hd (hl_I nl) (hl_I nw) cd ce pb cb ou := by
        intro ad ha
        refine hl_y55 C ad he hq (by omega) (hl_y89 ad _ ht (fun h0 => ?_) (fun h0 => ?_))
        · rw [if_pos h0, ← ha] at h; exact h
        · rw [if_neg h0] at h; exact h
      exact hl_br (fun ha => hh false ha.symm) (fun ha => hh true ha.symm)
theorem hl_spe (C : hl_C nc no nh na nr ns nl nw np nq rm pt hd) {e : Nat} (he : e < 6) : ∀ (d i : Nat) (s : Int32), i + d = nc (e / 2) → ∃ r : Int32, (∀ post : Int32 → Prop, post r → wX_spendable_12 post (nI e) (nI (e / 2)) dep dly grd hgt wal kn (hl_I nc) (hl_I no) (hl_I nh) am ex rm (hl_I na) (hl_I nr) pt (hl_I ns) (hl_I nl) (hl_I nw) (hl_I np) (hl_I nq) cl pb ca ou (d + 1) s (nI i)) ∧ (∀ post : Int32 → Prop, post r → wY_coins_9 post (nI e) (nI e) (-1) dep dly grd hgt wal kn (hl_I nc) (hl_I no) (hl_I nh) am ex rm pt hd (hl_I nl) (hl_I nw) cd ce pb cb ou (d + 1) s (nI i)) := by
  have B := (hl_k1 C (e / 2)).1
  have hc : vp_in (nI (e / 2)) 3 := vp_in_nI (by omega) (by decide)
  intro d
  induction d with
  | zero =>
    intro i s hi
    refine ⟨s, fun post hp => ?_, fun post hp => ?_⟩
    · rw [wX_spendable_12]
      dsimp only
      rw [nI_clamp (n := e / 2) (by omega)]
      exact ⟨hc, pk_le (nc (e / 2)) i (fun _ => hp) (fun z => absurd z (by omega))⟩
    · rw [wY_coins_9]
      dsimp only
      rw [hl_e2 e he, nI_clamp (n := e / 2) (by omega)]
      exact ⟨hl_2n, hc, pk_le (nc (e / 2)) i (fun _ => hp) (fun z => absurd z (by omega))⟩
  | succ d ih =>
    intro i s hi
    have ht : e / 2 * 8 + i < 24 := by omega
    have hin : vp_in (nI (e / 2 * 8 + i)) 24 := vp_in_nI ht (by decide)
    obtain ⟨r, hX, hY⟩ := ih (i + 1) (if nI (no (e / 2 * 8 + i)) = nI e then hl_mi true (hl_rs no nr nl np nq rm (e / 2 * 8 + i)) (rm (e / 2 * 8 + i)) (am (e / 2 * 8 + i)) s else hl_pl (hl_rs no nr nl np nq rm (e / 2 * 8 + i)) (rm (e / 2 * 8 + i)) (am (e / 2 * 8 + i)) s) (by omega)
    refine ⟨r, fun post hp => ?_, fun post hp => ?_⟩
    · have h := hX post hp
      rw [wX_spendable_12]
      dsimp only
      rw [nI_clamp (n := e / 2) (by omega), hl_i8]
      refine ⟨hc, br_f (nI_ge (by omega) (by omega)) (nm_e (hl_xrs C ht ?_))⟩
      rw [nI_clamp (n := e / 2 * 8 + i) (by omega), nI_1]
      refine ⟨hin, br_c (fun h0 => ?_) (fun h0 => ?_)⟩
      · rw [if_pos (show nI (no (e / 2 * 8 + i)) = nI e from h0)] at h
        unfold hl_mi at h
        refine hl_br (fun hr => ?_) (fun hr => ⟨hin, br_c (fun h4 => nm_e ?_) (fun h4 => ?_)⟩)
        · rw [if_pos ⟨rfl, fun z => by rw [hr] at z; exact absurd z.1 (by decide)⟩] at h
          unfold wX_spendable_100
          rw [nI_clamp (n := e / 2 * 8 + i) (by omega), nI_1]
          exact ⟨hin, nm_e (nm_e h)⟩
        · rw [if_neg (fun z => z.2 ⟨hr, h4⟩)] at h; exact h
        · rw [if_pos ⟨rfl, fun z => h4 z.2⟩] at h
          unfold wX_spendable_100
          rw [nI_clamp (n := e / 2 * 8 + i) (by omega), nI_1]
          exact ⟨hin, nm_e (nm_e h)⟩
      · rw [if_neg (show ¬ nI (no (e / 2 * 8 + i)) = nI e from h0)] at h
        unfold hl_pl at h
        refine hl_br (fun hr => nm_r (Int32.add_zero s) (nm_e ?_)) (fun hr => ⟨hin, br_c (fun h4 => ⟨hin, nm_e (nm_e ?_)⟩) (fun h4 => nm_r (Int32.add_zero s) (nm_e ?_))⟩)
        · rw [if_neg (fun z => by rw [hr] at z; exact absurd z.1 (by decide))] at h; exact h
        · rw [if_pos ⟨hr, h4⟩] at h; exact h
        · rw [if_neg (fun z => h4 z.2)] at h; exact h
    · have h := hY post hp
      rw [wY_coins_9]
      dsimp only
      rw [hl_e2 e he, nI_clamp (n := e / 2) (by omega), hl_i8]
      refine ⟨hl_2n, hc, br_f (nI_ge (by omega) (by omega)) ⟨hl_2n, nm_e (br_t (by decide) ?_)⟩⟩
      unfold wY_coins_50 wY_coins_55
      rw [hl_e2 e he, hl_2i, nI_1]
      refine br_f (by decide) ⟨hl_2n, hl_ysR C (by omega) (by omega) ?_⟩
      refine hl_y89 true _ ht (fun h0 => ?_) (fun h0 => ?_)
      · rw [if_pos h0] at h; exact h
      · rw [if_neg h0] at h; exact h
theorem hl_balW (C : hl_C nc no nh na nr ns nl nw np nq rm pt hd) {e q : Nat} (he : e < 6) (hq : q ≤ nw e) (y : Int32) : ∃ r : Int32, (∀ post : Int32 → Prop, post r → wpX_balance post (dep, dly, grd, hgt, wal, kn, (hl_I nc), (hl_I no), (hl_I nh), am, ex, rm, (hl_I na), (hl_I nr), pt, (hl_I ns), (hl_I nl), (hl_I nw), (hl_I np), (hl_I nq), cl, pb, ca, ou) y (nI e) (nI q)) ∧ (∀ post : Int32 → Prop, post r → wpY_coins post (dep, dly, grd, hgt, wal, kn, (hl_I nc), (hl_I no), (hl_I nh), am, ex, rm, pt, hd, (hl_I nl), (hl_I nw), cd, ce, pb, cb, ou) y (nI e) (nI q)) := by
  obtain ⟨r, hX, hY⟩ := hl_bal (dep := dep) (dly := dly) (grd := grd) (hgt := hgt) (wal := wal) (kn := kn) (am := am) (ex := ex) (cl := cl) (pb := pb) (ca := ca) (ou := ou) (cd := cd) (ce := ce) (cb := cb) C he hq y (nc (e / 2)) 0 dep (by omega)
  refine ⟨r, fun post hp => ?_, fun post hp => ⟨_, hY post hp⟩⟩
  unfold wpX_balance
  dsimp only
  rw [hl_e2 e he]
  exact ⟨hl_2n, nm_e ⟨_, hX post hp⟩⟩
theorem hl_spW (C : hl_C nc no nh na nr ns nl nw np nq rm pt hd) {e : Nat} (he : e < 6) : ∃ r : Int32, (∀ post : Int32 → Prop, post r → wpX_spendable post (dep, dly, grd, hgt, wal, kn, (hl_I nc), (hl_I no), (hl_I nh), am, ex, rm, (hl_I na), (hl_I nr), pt, (hl_I ns), (hl_I nl), (hl_I nw), (hl_I np), (hl_I nq), cl, pb, ca, ou) (nI e)) ∧ (∀ post : Int32 → Prop, post r → wpY_coins post (dep, dly, grd, hgt, wal, kn, (hl_I nc), (hl_I no), (hl_I nh), am, ex, rm, pt, hd, (hl_I nl), (hl_I nw), cd, ce, pb, cb, ou) (nI e) (nI e) (-1)) := by
  obtain ⟨r, hX, hY⟩ := hl_spe (dep := dep) (dly := dly) (grd := grd) (hgt := hgt) (wal := wal) (kn := kn) (am := am) (ex := ex) (cl := cl) (pb := pb) (ca := ca) (ou := ou) (cd := cd) (ce := ce) (cb := cb) C he (nc (e / 2)) 0 dep (by omega)
  refine ⟨r, fun post hp => ?_, fun post hp => ⟨_, hY post hp⟩⟩
  unfold wpX_spendable
  dsimp only
  rw [hl_e2 e he]
  exact ⟨hl_2n, nm_e ⟨_, hX post hp⟩⟩
end
end
section
/-! pending amounts, stages, dead, due: both sides give one answer -/
theorem hl_1n : ¬ (1 : Int32) = 0 := by decide
theorem hl_00 : (0 : Int32) = 0 := rfl
def hl_pd (nc no na nr np nq : Nat → Nat) (rm am : Nat → Int32) (e q i : Nat) : Int32 := if i < nc (e / 2) ∧ hl_ad no na np nq (e / 2 * 8 + i) e q = true ∧ hl_rv no nr np nq rm (e / 2 * 8 + i) e q = false then am (e / 2 * 8 + i) else 0
def hl_rb (nc no na nl np nq : Nat → Nat) (rm : Nat → Int32) (e i : Nat) : Bool := decide (i < nc (e / 2)) && (decide (no (e / 2 * 8 + i) ≠ e) && (decide (rm (e / 2 * 8 + i) = 0) && hl_as no na nl np nq (e / 2 * 8 + i)))
section
variable {dep dly grd hgt : Int32} {wal kn am ex rm pt cl pb ca ou hd cd ce cb : Nat → Int32} {nc no nh na nr ns nl nw np nq : Nat → Nat}
variable {post : Int32 → Prop}
theorem hl_xpd (C : hl_C nc no nh na nr ns nl nw np nq rm pt hd) {e q i : Nat} (he : e < 6) (hq : q < 16) (hi : i < 8) (h : post (hl_pd nc no na nr np nq rm am e q i)) : wpX_pendingAmount post (dep, dly, grd, hgt, wal, kn, (hl_I nc), (hl_I no), (hl_I nh), am, ex, rm, (hl_I na), (hl_I nr), pt, (hl_I ns), (hl_I nl), (hl_I nw), (hl_I np), (hl_I nq), cl, pb, ca, ou) (nI i) (nI e) (nI q) := by
  have B := (hl_k1 C (e / 2)).1
  have hc : vp_in (nI (e / 2)) 3 := vp_in_nI (by omega) (by decide)
  have ht : e / 2 * 8 + i < 24 := by omega
  unfold wpX_pendingAmount
  dsimp only
  rw [hl_e2 e he]
  refine ⟨hl_2n, nm_e ?_⟩
  rw [nI_clamp (n := e / 2) (by omega), hl_i8]
  unfold hl_pd at h
  refine ⟨hc, pk_lt i (nc (e / 2)) (fun h0 => nm_e ?_) (fun h0 => ?_)⟩
  · rw [nI_clamp (n := e / 2 * 8 + i) (by omega)]
    refine hl_xad C ht he hq (hl_br (fun ha => ?_) (fun ha => hl_xrv C ht he hq (hl_br (fun hr => ?_) (fun hr => ?_))))
    · rw [if_neg (fun z => by rw [ha] at z; exact absurd z.2.1 (by decide))] at h; exact h
    · rw [if_pos ⟨h0, ha, hr⟩] at h; exact ⟨vp_in_nI ht (by decide), h⟩
    · rw [if_neg (fun z => by rw [hr] at z; exact absurd z.2.2 (by decide))] at h; exact h
  · rw [if_neg (fun z => absurd z.1 (by omega))] at h; exact h
theorem hl_yv {e q x : Nat} (C : hl_C nc no nh na nr ns nl nw np nq rm pt hd) (he : e < 6) (hq : q ≤ nw e) (hx : x ≤ 9) (h1 : x = 8 → wY_view_50 post (nI e) (nI q) (nI x) (nI e) dep dly grd hgt wal kn (hl_I nc) (hl_I no) (hl_I nh) am ex rm pt hd (hl_I nl) (hl_I nw) cd ce pb cb ou) (h2 : x ≠ 8 → wY_view_50 post (nI e) (nI q) (nI x) (nI (hl_x e)) dep dly grd hgt wal kn (hl_I nc) (hl_I no) (hl_I nh) am ex rm pt hd (hl_I nl) (hl_I nw) cd ce pb cb ou) : wpY_view post (dep, dly, grd, hgt, wal, kn, (hl_I nc), (hl_I no), (hl_I nh), am, ex, rm, pt, hd, (hl_I nl), (hl_I nw), cd, ce, pb, cb, ou) (nI e) (nI q) (nI x) := by
  have L := hl_k2 C e
  unfold wpY_view
  dsimp only
  rw [nI_clamp (n := e) (by omega)]
  refine br_f (hl_e0 e he) (br_f (hl_e5 e he) (br_f (nI_pos (by omega)) (br_f (nI_pos (by omega)) (br_f (nI_nlt (a := 9) (by omega) (by omega)) ⟨vp_in_nI he (by decide), br_t (nI_le hq (by omega)) ?_⟩))))
  exact pk_eq x 8 (fun h0 => h1 h0) (fun h0 => hl_ypeer he (h2 h0))
theorem hl_ypd (C : hl_C nc no nh na nr ns nl nw np nq rm pt hd) {e q i : Nat} (he : e < 6) (hq : q ≤ nw e) (hi : i < 8) (h : post (hl_pd nc no na nr np nq rm am e q i)) : wpY_view post (dep, dly, grd, hgt, wal, kn, (hl_I nc), (hl_I no), (hl_I nh), am, ex, rm, pt, hd, (hl_I nl), (hl_I nw), cd, ce, pb, cb, ou) (nI e) (nI q) (nI i) := by
  have L := hl_k2 C e
  have B := (hl_k1 C (e / 2)).1
  have ht : e / 2 * 8 + i < 24 := by omega
  have k8 := hl_k8 C e q i he hq hi
  refine hl_yv C he hq (by omega) (fun z => absurd z (by omega)) (fun _ => ?_)
  unfold wY_view_50
  rw [hl_2i, nI_1, hl_e2 e he, hl_i8, nI_clamp (n := e / 2 * 8 + i) (by omega)]
  unfold hl_pd at h
  refine br_t (nI_lt (b := 8) hi (by decide)) (hl_yhas C he (by omega) (by omega) ?_)
  rw [k8.1]
  refine hl_br (fun ha => ?_) (fun ha => hl_yhas C he (by omega) (by omega) ?_)
  · rw [if_neg (fun z => by rw [z.2.1, decide_eq_true z.1] at ha; exact absurd ha (by decide))] at h; exact h
  · rw [k8.2]
    have ha2 := (Bool.and_eq_true _ _).mp ha
    refine hl_br (fun hr => ⟨hl_2n, vp_in_nI ht (by decide), ?_⟩) (fun hr => ?_)
    · rw [ha2.1, Bool.true_and] at hr
      rw [if_pos ⟨of_decide_eq_true ha2.1, ha2.2, hr⟩] at h; exact h
    · rw [ha2.1, Bool.true_and] at hr
      rw [if_neg (fun z => by rw [hr] at z; exact absurd z.2.2 (by decide))] at h; exact h
theorem hl_yv8 (C : hl_C nc no nh na nr ns nl nw np nq rm pt hd) {e q : Nat} (he : e < 6) (hq : q ≤ nw e) (h : wpY_coins post (dep, dly, grd, hgt, wal, kn, (hl_I nc), (hl_I no), (hl_I nh), am, ex, rm, pt, hd, (hl_I nl), (hl_I nw), cd, ce, pb, cb, ou) (nI e) (nI e) (nI q)) : wpY_view post (dep, dly, grd, hgt, wal, kn, (hl_I nc), (hl_I no), (hl_I nh), am, ex, rm, pt, hd, (hl_I nl), (hl_I nw), cd, ce, pb, cb, ou) (nI e) (nI q) (nI 8) := by
  refine hl_yv C he hq (by omega) (fun _ => ?_) (fun z => absurd rfl z)
  exact br_f (nI_nlt (b := 8) (by omega) (by decide)) h
theorem hl_yv9 (C : hl_C nc no nh na nr ns nl nw np nq rm pt hd) {e q : Nat} (he : e < 6) (hq : q ≤ nw e) (h : wpY_coins post (dep, dly, grd, hgt, wal, kn, (hl_I nc), (hl_I no), (hl_I nh), am, ex, rm, pt, hd, (hl_I nl), (hl_I nw), cd, ce, pb, cb, ou) (nI (hl_x e)) (nI e) (nI q)) : wpY_view post (dep, dly, grd, hgt, wal, kn, (hl_I nc), (hl_I no), (hl_I nh), am, ex, rm, pt, hd, (hl_I nl), (hl_I nw), cd, ce, pb, cb, ou) (nI e) (nI q) (nI 9) := by
  refine hl_yv C he hq (by omega) (fun z => absurd z (by decide)) (fun _ => ?_)
  exact br_f (nI_nlt (b := 8) (by omega) (by decide)) h
theorem hl_xrm (C : hl_C nc no nh na nr ns nl nw np nq rm pt hd) {e i : Nat} (he : e < 6) (hi : i < 8) (h : post (hl_b (hl_rb nc no na nl np nq rm e i))) : wpX_isRemovable post (dep, dly, grd, hgt, wal, kn, (hl_I nc), (hl_I no), (hl_I nh), am, ex, rm, (hl_I na), (hl_I nr), pt, (hl_I ns), (hl_I nl), (hl_I nw), (hl_I np), (hl_I nq), cl, pb, ca, ou) (nI e) (nI i) := by
  have B := (hl_k1 C (e / 2)).1
  have B2 := hl_k1 C (e / 2 * 8 + i)
  have hc : vp_in (nI (e / 2)) 3 := vp_in_nI (by omega) (by decide)
  have ht : e / 2 * 8 + i < 24 := by omega
  have hin : vp_in (nI (e / 2 * 8 + i)) 24 := vp_in_nI ht (by decide)
  unfold wpX_isRemovable
  dsimp only
  rw [hl_e2 e he]
  refine ⟨hl_2n, nm_e ?_⟩
  rw [nI_clamp (n := e / 2) (by omega), hl_i8]
  unfold hl_rb at h
  refine ⟨hc, pk_lt i (nc (e / 2)) (fun h0 => nm_e ?_) (fun h0 => ?_)⟩
  · rw [nI_clamp (n := e / 2 * 8 + i) (by omega)]
    rw [decide_eq_true h0, Bool.true_and] at h
    refine ⟨hin, pk_eq (no (e / 2 * 8 + i)) e (fun h1 => ?_) (fun h1 => ⟨hin, br_c (fun h2 => hl_xas C ht (hl_br (fun h3 => ?_) (fun h3 => ?_))) (fun h2 => ?_)⟩)⟩
    · rw [decide_eq_false (fun z => z h1), Bool.false_and] at h; exact h
    · rw [decide_eq_true h1, decide_eq_true h2, h3] at h; exact h
    · rw [decide_eq_true h1, decide_eq_true h2, h3] at h; exact h
    · rw [decide_eq_true h1, decide_eq_false h2] at h; exact h
  · rw [decide_eq_false (by omega), Bool.false_and] at h; exact h
theorem hl_yst (C : hl_C nc no nh na nr ns nl nw np nq rm pt hd) {e i : Nat} (he : e < 6) (hi : i < 8) (hcd : cd (e / 2) = 0) (h : post (if hl_rb nc no na nl np nq rm e i = true then 0 else -4)) : wpY_stage post (dep, dly, grd, hgt, wal, kn, (hl_I nc), (hl_I no), (hl_I nh), am, ex, rm, pt, hd, (hl_I nl), (hl_I nw), cd, ce, pb, cb, ou) (nI e) (nI i) := by
  have B := (hl_k1 C (e / 2)).1
  have B2 := hl_k1 C (e / 2 * 8 + i)
  have hc : vp_in (nI (e / 2)) 3 := vp_in_nI (by omega) (by decide)
  have ht : e / 2 * 8 + i < 24 := by omega
  have hin : vp_in (nI (e / 2 * 8 + i)) 24 := vp_in_nI ht (by decide)
  unfold wpY_stage
  dsimp only
  rw [hl_e2 e he, nI_clamp (n := e / 2) (by omega), hl_i8, hl_2i]
  unfold hl_rb at h
  refine br_f (hl_e0 e he) (br_f (hl_e5 e he) (br_f (hl_i0 i hi) (br_t (hl_i7' i hi) ⟨hl_2n, hc, br_t hcd ⟨hl_2n, nm_e ?_⟩⟩)))
  rw [nI_clamp (n := e / 2 * 8 + i) (by omega)]
  refine ⟨hl_2n, hc, pk_le (nc (e / 2)) i (fun h0 => ?_) (fun h0 => ?_)⟩
  · rw [decide_eq_false (by omega), Bool.false_and, if_neg (by decide)] at h; exact h
  · rw [decide_eq_true h0, Bool.true_and] at h
    refine ⟨hin, pk_eq (no (e / 2 * 8 + i)) e (fun h1 => ?_) (fun h1 => ⟨hl_2n, hl_ysA C (by omega) h0 (hl_br (fun h3 => ?_) (fun h3 => ⟨hin, br_c (fun h2 => ?_) (fun h2 => ?_)⟩))⟩)⟩
    · rw [decide_eq_false (fun z => z h1), Bool.false_and, if_neg (by decide)] at h; exact h
    · rw [h3, Bool.and_false, Bool.and_false, if_neg (by decide)] at h; exact h
    · rw [decide_eq_true h1, decide_eq_true h2, h3, if_pos (by decide)] at h; exact h
    · rw [decide_eq_true h1, decide_eq_false h2, Bool.false_and, if_neg (by decide)] at h; exact h
theorem hl_xo1 {c : Nat} (hc : c < 3) (h0 : cl c = -1) (h : post 1) : wpX_isOpen post (dep, dly, grd, hgt, wal, kn, (hl_I nc), (hl_I no), (hl_I nh), am, ex, rm, (hl_I na), (hl_I nr), pt, (hl_I ns), (hl_I nl), (hl_I nw), (hl_I np), (hl_I nq), cl, pb, ca, ou) (nI c) := by
  unfold wpX_isOpen
  dsimp only
  rw [nI_clamp (n := c) (by omega), h0]
  exact ⟨vp_in_nI hc (by decide), br_f (by decide) h⟩
theorem hl_xo0 {c x : Nat} (hc : c < 3) (hx : x / 2 = c) (h0 : cl c = nI x) (h : post 0) : wpX_isOpen post (dep, dly, grd, hgt, wal, kn, (hl_I nc), (hl_I no), (hl_I nh), am, ex, rm, (hl_I na), (hl_I nr), pt, (hl_I ns), (hl_I nl), (hl_I nw), (hl_I np), (hl_I nq), cl, pb, ca, ou) (nI c) := by
  unfold wpX_isOpen
  dsimp only
  rw [nI_clamp (n := c) (by omega), h0]
  exact ⟨vp_in_nI hc (by decide), br_t (nI_pos' (by omega)) h⟩
theorem hl_dead (C : hl_C nc no nh na nr ns nl nw np nq rm pt hd) (D : hl_D cl ca cd ce cb) (K : hl_K kn) {e t j d : Nat} (he : e < 6) (h1 : 1 ≤ e) (h4 : e ≤ 4) (ht : t < 24) (hdd : hl_o e / 2 = d) (hp : pt t = nI j) (hj : j < nc d) (hh : nh (d * 8 + j) = nh t) : ∃ r : Int32, (∀ post : Int32 → Prop, post r → wpX_isOnwardDead post (dep, dly, grd, hgt, wal, kn, (hl_I nc), (hl_I no), (hl_I nh), am, ex, rm, (hl_I na), (hl_I nr), pt, (hl_I ns), (hl_I nl), (hl_I nw), (hl_I np), (hl_I nq), cl, pb, ca, ou) (nI e) (nI t)) ∧ (∀ post : Int32 → Prop, post r → wpY_dead post (dep, dly, grd, hgt, wal, kn, (hl_I nc), (hl_I no), (hl_I nh), am, ex, rm, pt, hd, (hl_I nl), (hl_I nw), cd, ce, pb, cb, ou) (nI e) (nI (d * 8 + j))) := by
  have ho := hl_o6 e he h1 h4
  have B := (hl_k1 C d).1
  have hd3 : d < 3 := by omega
  have ht' : d * 8 + j < 24 := by omega
  have hin : vp_in (nI t) 24 := vp_in_nI ht (by decide)
  have hind : vp_in (nI d) 3 := vp_in_nI hd3 (by decide)
  have hin' : vp_in (nI (d * 8 + j)) 24 := vp_in_nI ht' (by decide)
  have hin9 : vp_in (nI (d * 9 + j)) 27 := vp_in_nI (by omega) (by decide)
  have n1 := hl_1n
  have n8 := hl_8n
  have q8 : nI (d * 8 + j) / 8 = nI d := (pk_div (d := 8) (by omega) (by decide) (by decide)).trans (congrArg nI (by omega))
  have r8 : nI (d * 8 + j) - nI d * 8 = nI j := by
    have z := pk_rem (a := d * 8 + j) (d := 8) (by omega) (by decide) (by decide)
    have z2 : (d * 8 + j) % 8 = j := by omega
    rw [z2] at z
    rw [← q8]; exact z
  rcases D d hd3 with ⟨o1, o2, o3⟩ | ⟨o1, x, ox, o2, o3, o4⟩
  · by_cases h2 : rm (d * 8 + j) = 2
    · refine ⟨hl_b (hl_rs no nr nl np nq rm (d * 8 + j)), fun post hp' => ?_, fun post hp' => ?_⟩
      · (unfold wpX_isOnwardDead; dsimp only; refine hl_xother he h1 ⟨hl_2n, ?_⟩; rw [hl_e2 _ ho, hdd]; refine nm_e ⟨hin, ?_⟩; rw [nI_clamp (n := t) (by omega), hp]; refine nm_e ?_)
        refine hl_xo1 hd3 o2 (br_f n1 ?_)
        rw [hl_i8, nI_clamp (n := d * 8 + j) (by omega)]
        refine ⟨hin', br_t h2 (hl_xrs C ht' (hl_br (fun a => ?_) (fun a => ?_)))⟩
        · rw [a, hl_bf] at hp'; exact hp'
        · rw [a, hl_bt] at hp'; exact hp'
      · (unfold wpY_dead; dsimp only; rw [q8, r8, hl_i2, nI_1, hl_i9, nI_clamp (n := d) (by omega), nI_clamp (n := d * 8 + j) (by omega), nI_clamp (n := d * 9 + j) (by omega), Nat.mul_comm j 2])
        refine ⟨n8, hind, br_t o1 ⟨hin', br_t h2 ⟨n8, n8, hl_ysR C hd3 hj (hl_br (fun a => ?_) (fun a => ?_))⟩⟩⟩
        · rw [a, hl_bf] at hp'; exact hp'
        · rw [a, hl_bt] at hp'; exact hp'
    · refine ⟨0, fun post hp' => ?_, fun post hp' => ?_⟩
      · (unfold wpX_isOnwardDead; dsimp only; refine hl_xother he h1 ⟨hl_2n, ?_⟩; rw [hl_e2 _ ho, hdd]; refine nm_e ⟨hin, ?_⟩; rw [nI_clamp (n := t) (by omega), hp]; refine nm_e ?_)
        refine hl_xo1 hd3 o2 (br_f n1 ?_)
        rw [hl_i8, nI_clamp (n := d * 8 + j) (by omega)]
        exact ⟨hin', br_f h2 hp'⟩
      · (unfold wpY_dead; dsimp only; rw [q8, r8, hl_i2, nI_1, hl_i9, nI_clamp (n := d) (by omega), nI_clamp (n := d * 8 + j) (by omega), nI_clamp (n := d * 9 + j) (by omega), Nat.mul_comm j 2])
        exact ⟨n8, hind, br_t o1 ⟨hin', br_f h2 hp'⟩⟩
  · have cn0 : ¬ cd d = 0 := by rw [o1]; decide
    by_cases h2 : ou (d * 9 + j) = 0
    · refine ⟨if kn ((e + 1) / 2 * 8 + nh t) = 0 then 1 else 0, fun post hp' => ?_, fun post hp' => ?_⟩
      · (unfold wpX_isOnwardDead; dsimp only; refine hl_xother he h1 ⟨hl_2n, ?_⟩; rw [hl_e2 _ ho, hdd]; refine nm_e ⟨hin, ?_⟩; rw [nI_clamp (n := t) (by omega), hp]; refine nm_e ?_)
        refine hl_xo0 hd3 ox o2 (br_t rfl ?_)
        rw [hl_i9, nI_clamp (n := d * 9 + j) (by omega)]
        refine ⟨hin9, br_t h2 (hl_xkn C K he ht (br_c (fun a => ?_) (fun a => ?_)))⟩
        · rw [if_pos a] at hp'; exact hp'
        · rw [if_neg a] at hp'; exact hp'
      · (unfold wpY_dead; dsimp only; rw [q8, r8, hl_i2, nI_1, hl_i9, nI_clamp (n := d) (by omega), nI_clamp (n := d * 8 + j) (by omega), nI_clamp (n := d * 9 + j) (by omega), Nat.mul_comm j 2])
        refine ⟨n8, hind, br_f cn0 ⟨n8, n8, hin9, br_t h2 (hl_yaw C K he ht' ?_)⟩⟩
        rw [hh]
        refine br_c (fun a => ?_) (fun a => ?_)
        · rw [if_pos a] at hp'; exact hp'
        · rw [if_neg a] at hp'; exact hp'
    · refine ⟨0, fun post hp' => ?_, fun post hp' => ?_⟩
      · (unfold wpX_isOnwardDead; dsimp only; refine hl_xother he h1 ⟨hl_2n, ?_⟩; rw [hl_e2 _ ho, hdd]; refine nm_e ⟨hin, ?_⟩; rw [nI_clamp (n := t) (by omega), hp]; refine nm_e ?_)
        refine hl_xo0 hd3 ox o2 (br_t rfl ?_)
        rw [hl_i9, nI_clamp (n := d * 9 + j) (by omega)]
        exact ⟨hin9, br_f h2 hp'⟩
      · (unfold wpY_dead; dsimp only; rw [q8, r8, hl_i2, nI_1, hl_i9, nI_clamp (n := d) (by omega), nI_clamp (n := d * 8 + j) (by omega), nI_clamp (n := d * 9 + j) (by omega), Nat.mul_comm j 2])
        exact ⟨n8, hind, br_f cn0 ⟨n8, n8, hin9, br_f h2 hp'⟩⟩
end
end
section
/-! the relation; the methods that only read -/
def i_Rel (k : Nat) (u : SX) (v : SY) : Prop := ∃ (dep dly grd hgt : Int32) (wal kn am ex rm pt cl pb ca ou hd cd ce cb : Nat → Int32) (nc no nh na nr ns nl nw np nq : Nat → Nat), u = (dep, dly, grd, hgt, wal, kn, (hl_I nc), (hl_I no), (hl_I nh), am, ex, rm, (hl_I na), (hl_I nr), pt, (hl_I ns), (hl_I nl), (hl_I nw), (hl_I np), (hl_I nq), cl, pb, ca, ou) ∧ v = (dep, dly, grd, hgt, wal, kn, (hl_I nc), (hl_I no), (hl_I nh), am, ex, rm, pt, hd, (hl_I nl), (hl_I nw), cd, ce, pb, cb, ou) ∧ hl_C nc no nh na nr ns nl nw np nq rm pt hd ∧ hl_D cl ca cd ce cb ∧ hl_K kn ∧ ∀ j, ns j ≤ k
theorem hl_el {k : Nat} {P : SX → SY → Prop} (h : ∀ (dep dly grd hgt : Int32) (wal kn am ex rm pt cl pb ca ou hd cd ce cb : Nat → Int32) (nc no nh na nr ns nl nw np nq : Nat → Nat), hl_C nc no nh na nr ns nl nw np nq rm pt hd → hl_D cl ca cd ce cb → hl_K kn → (∀ j, ns j ≤ k) → P (dep, dly, grd, hgt, wal, kn, (hl_I nc), (hl_I no), (hl_I nh), am, ex, rm, (hl_I na), (hl_I nr), pt, (hl_I ns), (hl_I nl), (hl_I nw), (hl_I np), (hl_I nq), cl, pb, ca, ou) (dep, dly, grd, hgt, wal, kn, (hl_I nc), (hl_I no), (hl_I nh), am, ex, rm, pt, hd, (hl_I nl), (hl_I nw), cd, ce, pb, cb, ou)) {u : SX} {v : SY} (I : i_Rel k u v) : P u v :=
  Exists.elim I fun dep I => Exists.elim I fun dly I => Exists.elim I fun grd I => Exists.elim I fun hgt I => Exists.elim I fun wal I => Exists.elim I fun kn I => Exists.elim I fun am I => Exists.elim I fun ex I => Exists.elim I fun rm I => Exists.elim I fun pt I => Exists.elim I fun cl I => Exists.elim I fun pb I => Exists.elim I fun ca I => Exists.elim I fun ou I => Exists.elim I fun hd I => Exists.elim I fun cd I => Exists.elim I fun ce I => Exists.elim I fun cb I => Exists.elim I fun nc I => Exists.elim I fun no I => Exists.elim I fun nh I => Exists.elim I fun na I => Exists.elim I fun nr I => Exists.elim I fun ns I => Exists.elim I fun nl I => Exists.elim I fun nw I => Exists.elim I fun np I => Exists.elim I fun nq I => by
    rw [I.1, I.2.1]
    exact h dep dly grd hgt wal kn am ex rm pt cl pb ca ou hd cd ce cb nc no nh na nr ns nl nw np nq I.2.2.1 I.2.2.2.1 I.2.2.2.2.1 I.2.2.2.2.2
def hl_ans (WX WY : (Int32 → Prop) → Prop) : Prop := ∃ r : Int32, (∀ post : Int32 → Prop, post r → WX post) ∧ (∀ post : Int32 → Prop, post r → WY post)
theorem hl_am {WX WY : (Int32 → Prop) → Prop} (r : Int32) (hX : ∀ post : Int32 → Prop, post r → WX post) (hY : ∀ post : Int32 → Prop, post r → WY post) : hl_ans WX WY := ⟨r, hX, hY⟩
def hl_out (k : Nat) (WX : (Int32 → SX → Prop) → Prop) (WY : (Int32 → SY → Prop) → Prop) : Prop := ∃ (r : Int32) (u : SX) (v : SY), i_Rel k u v ∧ (∀ post : Int32 → SX → Prop, post r u → WX post) ∧ (∀ post : Int32 → SY → Prop, post r v → WY post)
theorem hl_mk {k : Nat} {WX : (Int32 → SX → Prop) → Prop} {WY : (Int32 → SY → Prop) → Prop} (r : Int32) {u : SX} {v : SY} (hR : i_Rel k u v) (hX : ∀ post : Int32 → SX → Prop, post r u → WX post) (hY : ∀ post : Int32 → SY → Prop, post r v → WY post) : hl_out k WX WY := ⟨r, u, v, hR, hX, hY⟩
section
variable {dep dly grd hgt : Int32} {wal kn am ex rm pt cl pb ca ou hd cd ce cb : Nat → Int32} {nc no nh na nr ns nl nw np nq : Nat → Nat}
theorem hl_in {k : Nat} (C : hl_C nc no nh na nr ns nl nw np nq rm pt hd) (D : hl_D cl ca cd ce cb) (K : hl_K kn) (hn : ∀ j, ns j ≤ k) : i_Rel k (dep, dly, grd, hgt, wal, kn, (hl_I nc), (hl_I no), (hl_I nh), am, ex, rm, (hl_I na), (hl_I nr), pt, (hl_I ns), (hl_I nl), (hl_I nw), (hl_I np), (hl_I nq), cl, pb, ca, ou) (dep, dly, grd, hgt, wal, kn, (hl_I nc), (hl_I no), (hl_I nh), am, ex, rm, pt, hd, (hl_I nl), (hl_I nw), cd, ce, pb, cb, ou) := ⟨dep, dly, grd, hgt, wal, kn, am, ex, rm, pt, cl, pb, ca, ou, hd, cd, ce, cb, nc, no, nh, na, nr, ns, nl, nw, np, nq, rfl, rfl, C, D, K, hn⟩
end
theorem hl_mono {k k' : Nat} (hk : k ≤ k') {u : SX} {v : SY} (I : i_Rel k u v) : i_Rel k' u v := by
  refine hl_el (P := fun u v => i_Rel k' u v) ?_ I
  intro dep dly grd hgt wal kn am ex rm pt cl pb ca ou hd cd ce cb nc no nh na nr ns nl nw np nq C D K hn
  exact hl_in C D K (fun j => Nat.le_trans (hn j) hk)
theorem i_up {k : Nat} {u : SX} {v : SY} (h : i_Rel k u v) : i_Rel (k + 5) u v := hl_mono (Nat.le_add_right k 5) h
section
variable {dep dly grd hgt : Int32} {wal kn am ex rm pt cl pb ca ou hd cd ce cb : Nat → Int32} {nc no nh na nr ns nl nw np nq : Nat → Nat}
theorem hl_view (C : hl_C nc no nh na nr ns nl nw np nq rm pt hd) (v1 v2 v3 : Int32) : hl_ans (fun post => wpX_view post (dep, dly, grd, hgt, wal, kn, (hl_I nc), (hl_I no), (hl_I nh), am, ex, rm, (hl_I na), (hl_I nr), pt, (hl_I ns), (hl_I nl), (hl_I nw), (hl_I np), (hl_I nq), cl, pb, ca, ou) v1 v2 v3) (fun post => wpY_view post (dep, dly, grd, hgt, wal, kn, (hl_I nc), (hl_I no), (hl_I nh), am, ex, rm, pt, hd, (hl_I nl), (hl_I nw), cd, ce, pb, cb, ou) v1 v2 v3) := by
  have n1 := hl_1n
  rcases hl_rng v1 5 5 rfl (by decide) with h1 | ⟨h1, h1', -⟩ | ⟨e, he, rfl, h1, h1', -⟩
  · exact hl_am (-1) (fun post hp => br_t h1 (br_t rfl hp)) (fun post hp => br_t h1 hp)
  · exact hl_am (-1) (fun post hp => br_f h1 (br_t h1' (br_t rfl hp))) (fun post hp => br_f h1 (br_t h1' hp))
  rcases hl_rng v3 9 9 rfl (by decide) with h3 | ⟨h3, h3', -⟩ | ⟨x, hx, rfl, h3, h3', -⟩
  · exact hl_am (-1) (fun post hp => br_f h1 (br_f h1' (br_f n1 (br_t h3 (br_t rfl hp))))) (fun post hp => br_f h1 (br_f h1' (br_c (fun _ => hp) (fun _ => br_t h3 hp))))
  · exact hl_am (-1) (fun post hp => br_f h1 (br_f h1' (br_f n1 (br_f h3 (br_t h3' (br_t rfl hp)))))) (fun post hp => br_f h1 (br_f h1' (br_c (fun _ => hp) (fun _ => br_f h3 (br_t h3' hp)))))
  have L := hl_k2 C e
  have he6 : vp_in (nI e) 6 := vp_in_nI he (by decide)
  have hcl : (nI e).toNatClampNeg = e := nI_clamp (by omega)
  rcases hl_rng v2 (nI (nw e)) (nw e) rfl (by omega) with h2 | ⟨h2, h2', h2''⟩ | ⟨q, hq, rfl, h2, h2', -⟩
  · refine hl_am (-1) (fun post hp => ?_) (fun post hp => br_f h1 (br_f h1' (br_t h2 hp)))
    unfold wpX_view; dsimp only; rw [hcl]
    exact br_f h1 (br_f h1' (br_f n1 (br_f h3 (br_f h3' (br_f n1 ⟨he6, br_t h2 (br_t rfl hp)⟩)))))
  · refine hl_am (-1) (fun post hp => ?_) (fun post hp => ?_)
    · unfold wpX_view; dsimp only; rw [hcl]
      exact br_f h1 (br_f h1' (br_f n1 (br_f h3 (br_f h3' (br_f n1 ⟨he6, br_f h2 (br_t h2' (br_t rfl hp))⟩)))))
    · unfold wpY_view; dsimp only; rw [hcl]
      exact br_f h1 (br_f h1' (br_f h2 (br_f h3 (br_f h3' ⟨he6, br_f h2'' hp⟩))))
  have hq' : q ≤ nw e := by omega
  have pX : ∀ post : Int32 → Prop, (nI x = 8 → wpX_balance post (dep, dly, grd, hgt, wal, kn, (hl_I nc), (hl_I no), (hl_I nh), am, ex, rm, (hl_I na), (hl_I nr), pt, (hl_I ns), (hl_I nl), (hl_I nw), (hl_I np), (hl_I nq), cl, pb, ca, ou) (nI e) (nI e) (nI q)) → (¬ nI x = 8 → nI x = 9 → wpX_balance post (dep, dly, grd, hgt, wal, kn, (hl_I nc), (hl_I no), (hl_I nh), am, ex, rm, (hl_I na), (hl_I nr), pt, (hl_I ns), (hl_I nl), (hl_I nw), (hl_I np), (hl_I nq), cl, pb, ca, ou) (nI (hl_x e)) (nI e) (nI q)) → (¬ nI x = 8 → ¬ nI x = 9 → wpX_pendingAmount post (dep, dly, grd, hgt, wal, kn, (hl_I nc), (hl_I no), (hl_I nh), am, ex, rm, (hl_I na), (hl_I nr), pt, (hl_I ns), (hl_I nl), (hl_I nw), (hl_I np), (hl_I nq), cl, pb, ca, ou) (nI x) (nI e) (nI q)) → wpX_view post (dep, dly, grd, hgt, wal, kn, (hl_I nc), (hl_I no), (hl_I nh), am, ex, rm, (hl_I na), (hl_I nr), pt, (hl_I ns), (hl_I nl), (hl_I nw), (hl_I np), (hl_I nq), cl, pb, ca, ou) (nI e) (nI q) (nI x) := by
    intro post g1 g2 g3
    unfold wpX_view; dsimp only; rw [hcl, hl_ex e he]
    exact br_f h1 (br_f h1' (br_f n1 (br_f h3 (br_f h3' (br_f n1 ⟨he6, br_f h2 (br_f h2' (br_f n1 (br_c g1 (fun z => br_c (g2 z) (g3 z)))))⟩)))))
  by_cases x8 : x = 8
  · subst x8
    obtain ⟨r, hX, hY⟩ := hl_balW (dep := dep) (dly := dly) (grd := grd) (hgt := hgt) (wal := wal) (kn := kn) (am := am) (ex := ex) (cl := cl) (pb := pb) (ca := ca) (ou := ou) (cd := cd) (ce := ce) (cb := cb) C he hq' (nI e)
    exact hl_am r (fun post hp => pX post (fun _ => hX post hp) (fun z => absurd rfl z) (fun z => absurd rfl z)) (fun post hp => hl_yv8 C he hq' (hY post hp))
  · by_cases x9 : x = 9
    · subst x9
      obtain ⟨r, hX, hY⟩ := hl_balW (dep := dep) (dly := dly) (grd := grd) (hgt := hgt) (wal := wal) (kn := kn) (am := am) (ex := ex) (cl := cl) (pb := pb) (ca := ca) (ou := ou) (cd := cd) (ce := ce) (cb := cb) C he hq' (nI (hl_x e))
      exact hl_am r (fun post hp => pX post (fun z => absurd z (by decide)) (fun _ _ => hX post hp) (fun _ z => absurd rfl z)) (fun post hp => hl_yv9 C he hq' (hY post hp))
    · have hx8 : x < 8 := by omega
      exact hl_am (hl_pd nc no na nr np nq rm am e q x) (fun post hp => pX post (fun z => absurd ((nI_eq (b := 8) (by omega) (by decide)).mp z) x8) (fun _ z => absurd ((nI_eq (b := 9) (by omega) (by decide)).mp z) x9) (fun _ _ => hl_xpd C he (by omega) hx8 hp)) (fun post hp => hl_ypd C he hq' hx8 hp)
theorem hl_output (v1 v2 : Int32) : hl_ans (fun post => wpX_output post (dep, dly, grd, hgt, wal, kn, (hl_I nc), (hl_I no), (hl_I nh), am, ex, rm, (hl_I na), (hl_I nr), pt, (hl_I ns), (hl_I nl), (hl_I nw), (hl_I np), (hl_I nq), cl, pb, ca, ou) v1 v2) (fun post => wpY_output post (dep, dly, grd, hgt, wal, kn, (hl_I nc), (hl_I no), (hl_I nh), am, ex, rm, pt, hd, (hl_I nl), (hl_I nw), cd, ce, pb, cb, ou) v1 v2) := by
  have n1 := hl_1n
  rcases hl_rng v1 2 2 rfl (by decide) with h1 | ⟨h1, h1', -⟩ | ⟨c, hc, rfl, h1, h1', -⟩
  · exact hl_am (-1) (fun post hp => br_t h1 (br_t rfl hp)) (fun post hp => br_t h1 hp)
  · exact hl_am (-1) (fun post hp => br_f h1 (br_t h1' (br_t rfl hp))) (fun post hp => br_f h1 (br_t h1' hp))
  rcases hl_rng v2 8 8 rfl (by decide) with h2 | ⟨h2, h2', h2''⟩ | ⟨i, hi, rfl, h2, h2', h2''⟩
  · exact hl_am (-1) (fun post hp => br_f h1 (br_f h1' (br_f n1 (br_t h2 (br_t rfl hp))))) (fun post hp => br_f h1 (br_f h1' (br_t h2 hp)))
  · exact hl_am (-1) (fun post hp => br_f h1 (br_f h1' (br_f n1 (br_f h2 (br_t h2' (br_t rfl hp)))))) (fun post hp => br_f h1 (br_f h1' (br_f h2 (br_f h2'' hp))))
  have hin : vp_in (nI c * 9 + nI i) 27 := by rw [hl_i9]; exact vp_in_nI (by omega) (by decide)
  exact hl_am _ (fun post hp => br_f h1 (br_f h1' (br_f n1 (br_f h2 (br_f h2' (br_f n1 ⟨hin, hp⟩)))))) (fun post hp => br_f h1 (br_f h1' (br_f h2 (br_t h2'' ⟨hin, hp⟩))))
theorem hl_wallet (v1 : Int32) : hl_ans (fun post => wpX_wallet post (dep, dly, grd, hgt, wal, kn, (hl_I nc), (hl_I no), (hl_I nh), am, ex, rm, (hl_I na), (hl_I nr), pt, (hl_I ns), (hl_I nl), (hl_I nw), (hl_I np), (hl_I nq), cl, pb, ca, ou) v1) (fun post => wpY_wallet post (dep, dly, grd, hgt, wal, kn, (hl_I nc), (hl_I no), (hl_I nh), am, ex, rm, pt, hd, (hl_I nl), (hl_I nw), cd, ce, pb, cb, ou) v1) := by
  have n1 := hl_1n
  rcases hl_rng v1 3 3 rfl (by decide) with h1 | ⟨h1, h1', h1''⟩ | ⟨c, hc, rfl, h1, h1', h1''⟩
  · exact hl_am (-1) (fun post hp => br_t h1 (br_t rfl hp)) (fun post hp => br_t h1 hp)
  · exact hl_am (-1) (fun post hp => br_f h1 (br_t h1' (br_t rfl hp))) (fun post hp => br_f h1 (br_f h1'' hp))
  have hin : vp_in (nI c) 4 := vp_in_nI hc (by decide)
  exact hl_am _ (fun post hp => br_f h1 (br_f h1' (br_f n1 ⟨hin, hp⟩))) (fun post hp => br_f h1 (br_t h1'' ⟨hin, hp⟩))
theorem hl_knows (v1 v2 : Int32) : hl_ans (fun post => wpX_knows post (dep, dly, grd, hgt, wal, kn, (hl_I nc), (hl_I no), (hl_I nh), am, ex, rm, (hl_I na), (hl_I nr), pt, (hl_I ns), (hl_I nl), (hl_I nw), (hl_I np), (hl_I nq), cl, pb, ca, ou) v1 v2) (fun post => wpY_knows post (dep, dly, grd, hgt, wal, kn, (hl_I nc), (hl_I no), (hl_I nh), am, ex, rm, pt, hd, (hl_I nl), (hl_I nw), cd, ce, pb, cb, ou) v1 v2) := by
  have n1 := hl_1n
  have p4 : ∀ v : Int32, (3 : Int32) < v → (4 : Int32) ≤ v := by
    intro v h
    rw [Int32.lt_iff_toInt_lt] at h
    rw [Int32.le_iff_toInt_le]
    have a : (3 : Int32).toInt = 3 := by decide
    have b : (4 : Int32).toInt = 4 := by decide
    omega
  have p8 : ∀ v : Int32, (7 : Int32) < v → (8 : Int32) ≤ v := by
    intro v h
    rw [Int32.lt_iff_toInt_lt] at h
    rw [Int32.le_iff_toInt_le]
    have a : (7 : Int32).toInt = 7 := by decide
    have b : (8 : Int32).toInt = 8 := by decide
    omega
  rcases hl_rng v1 3 3 rfl (by decide) with h1 | ⟨h1, h1', h1''⟩ | ⟨c, hc, rfl, h1, h1', h1''⟩
  · exact hl_am 0 (fun post hp => br_t h1 (br_t rfl hp)) (fun post hp => br_t h1 hp)
  · exact hl_am 0 (fun post hp => br_f h1 (br_t h1' (br_t rfl hp))) (fun post hp => br_f h1 (br_t (p4 _ h1') hp))
  have c4 : ¬ (4 : Int32) ≤ nI c := nI_ge (b := 4) (by omega) (by decide)
  rcases hl_rng v2 7 7 rfl (by decide) with h2 | ⟨h2, h2', h2''⟩ | ⟨i, hi, rfl, h2, h2', h2''⟩
  · exact hl_am 0 (fun post hp => br_f h1 (br_f h1' (br_f n1 (br_t h2 (br_t rfl hp))))) (fun post hp => br_f h1 (br_f c4 (br_t h2 hp)))
  · exact hl_am 0 (fun post hp => br_f h1 (br_f h1' (br_f n1 (br_f h2 (br_t h2' (br_t rfl hp)))))) (fun post hp => br_f h1 (br_f c4 (br_f h2 (br_t (p8 _ h2') hp))))
  have i8 : ¬ (8 : Int32) ≤ nI i := nI_ge (b := 8) (by omega) (by decide)
  have hin : vp_in (nI c * 8 + nI i) 32 := by rw [hl_i8]; exact vp_in_nI (by omega) (by decide)
  by_cases h : kn (nI c * 8 + nI i).toNatClampNeg = 0
  · exact hl_am 0 (fun post hp => br_f h1 (br_f h1' (br_f n1 (br_f h2 (br_f h2' (br_f n1 ⟨hin, br_t h hp⟩)))))) (fun post hp => br_f h1 (br_f c4 (br_f h2 (br_f i8 ⟨hin, br_t h hp⟩))))
  · exact hl_am 1 (fun post hp => br_f h1 (br_f h1' (br_f n1 (br_f h2 (br_f h2' (br_f n1 ⟨hin, br_f h hp⟩)))))) (fun post hp => br_f h1 (br_f c4 (br_f h2 (br_f i8 ⟨hin, br_f h hp⟩))))
end
end
section
/-! transfer, side, due -/
section
variable {dep dly grd hgt : Int32} {wal kn am ex rm pt cl pb ca ou hd cd ce cb : Nat → Int32} {nc no nh na nr ns nl nw np nq : Nat → Nat}
theorem hl_ytr (C : hl_C nc no nh na nr ns nl nw np nq rm pt hd) {post : Int32 → Prop} {c i x : Nat} (hc : c < 3) (hi : i < nc c) (hx : x < 7) (h : wY_transfer_82 post (nI x) (nI (c * 8 + i)) (if hl_as no na nl np nq (c * 8 + i) = true then (if hl_rs no nr nl np nq rm (c * 8 + i) = true then 2 else 1) else 0) dep dly grd hgt wal kn (hl_I nc) (hl_I no) (hl_I nh) am ex rm pt hd (hl_I nl) (hl_I nw) cd ce pb cb ou) : wpY_transfer post (dep, dly, grd, hgt, wal, kn, (hl_I nc), (hl_I no), (hl_I nh), am, ex, rm, pt, hd, (hl_I nl), (hl_I nw), cd, ce, pb, cb, ou) (nI c) (nI i) (nI x) := by
  have B := (hl_k1 C c).1
  unfold wpY_transfer
  dsimp only
  rw [nI_clamp (n := c) (by omega), hl_i8, hl_2i, nI_1]
  refine br_f (nI_pos (by omega)) (br_f (nI_nlt (a := 2) (by omega) (by decide)) (br_f (nI_pos (by omega)) (br_f (nI_nlt (a := 7) (by omega) (by decide)) (br_f (nI_pos (by omega)) (br_f (nI_nlt (a := 6) (by omega) (by decide)) ⟨vp_in_nI hc (by decide), br_t (nI_lt hi (by omega)) (nm_e ?_)⟩)))))
  refine hl_ysA C hc hi (hl_br (fun a => ?_) (fun a => hl_ysR C hc hi (hl_br (fun b => ?_) (fun b => ?_))))
  · rw [a, if_neg (by decide)] at h; exact h
  · rw [a, b, if_pos rfl, if_neg (by decide)] at h; exact h
  · rw [a, b, if_pos rfl, if_pos rfl] at h; exact h
theorem hl_transfer (C : hl_C nc no nh na nr ns nl nw np nq rm pt hd) (v1 v2 v3 : Int32) : hl_ans (fun post => wpX_transfer post (dep, dly, grd, hgt, wal, kn, (hl_I nc), (hl_I no), (hl_I nh), am, ex, rm, (hl_I na), (hl_I nr), pt, (hl_I ns), (hl_I nl), (hl_I nw), (hl_I np), (hl_I nq), cl, pb, ca, ou) v1 v2 v3) (fun post => wpY_transfer post (dep, dly, grd, hgt, wal, kn, (hl_I nc), (hl_I no), (hl_I nh), am, ex, rm, pt, hd, (hl_I nl), (hl_I nw), cd, ce, pb, cb, ou) v1 v2 v3) := by
  have n1 := hl_1n
  rcases hl_rng v1 2 2 rfl (by decide) with h1 | ⟨h1, h1', -⟩ | ⟨c, hc, rfl, h1, h1', -⟩
  · exact hl_am (-1) (fun post hp => br_t h1 (br_t rfl hp)) (fun post hp => br_t h1 hp)
  · exact hl_am (-1) (fun post hp => br_f h1 (br_t h1' (br_t rfl hp))) (fun post hp => br_f h1 (br_t h1' hp))
  rcases hl_rng v2 7 7 rfl (by decide) with h2 | ⟨h2, h2', -⟩ | ⟨i, hi, rfl, h2, h2', -⟩
  · exact hl_am (-1) (fun post hp => br_f h1 (br_f h1' (br_f n1 (br_t h2 (br_t rfl hp))))) (fun post hp => br_f h1 (br_f h1' (br_t h2 hp)))
  · exact hl_am (-1) (fun post hp => br_f h1 (br_f h1' (br_f n1 (br_f h2 (br_t h2' (br_t rfl hp)))))) (fun post hp => br_f h1 (br_f h1' (br_f h2 (br_t h2' hp))))
  rcases hl_rng v3 6 6 rfl (by decide) with h3 | ⟨h3, h3', -⟩ | ⟨x, hx, rfl, h3, h3', -⟩
  · exact hl_am (-1) (fun post hp => br_f h1 (br_f h1' (br_f n1 (br_f h2 (br_f h2' (br_f n1 (br_t h3 (br_t rfl hp)))))))) (fun post hp => br_f h1 (br_f h1' (br_f h2 (br_f h2' (br_t h3 hp)))))
  · exact hl_am (-1) (fun post hp => br_f h1 (br_f h1' (br_f n1 (br_f h2 (br_f h2' (br_f n1 (br_f h3 (br_t h3' (br_t rfl hp))))))))) (fun post hp => br_f h1 (br_f h1' (br_f h2 (br_f h2' (br_f h3 (br_t h3' hp))))))
  have B := (hl_k1 C c).1
  have hc3 : vp_in (nI c) 3 := vp_in_nI hc (by decide)
  have hcl : (nI c).toNatClampNeg = c := nI_clamp (by omega)
  have hct : (nI (c * 8 + i)).toNatClampNeg = c * 8 + i := nI_clamp (by omega)
  have ht : c * 8 + i < 24 := by omega
  have hin : vp_in (nI (c * 8 + i)) 24 := vp_in_nI ht (by decide)
  by_cases hi' : i < nc c
  · have hlt : nI i < hl_I nc c := nI_lt hi' (by omega)
    obtain rfl | rfl | rfl | rfl | rfl | rfl | rfl : x = 0 ∨ x = 1 ∨ x = 2 ∨ x = 3 ∨ x = 4 ∨ x = 5 ∨ x = 6 := by omega
    · refine hl_am (hl_I no (c * 8 + i)) (fun post hp => ?_) (fun post hp => ?_)
      · (unfold wpX_transfer; dsimp only; rw [hcl, hl_i8]; refine br_f h1 (br_f h1' (br_f n1 (br_f h2 (br_f h2' (br_f n1 (br_f h3 (br_f h3' (br_f n1 ⟨hc3, br_t hlt (nm_e ?_)⟩)))))))); rw [hct])
        exact br_f (by decide) (br_f (by decide) (br_t rfl ⟨hin, hp⟩))
      · (refine hl_ytr C hc hi' (by omega) ?_; unfold wY_transfer_82; rw [hct])
        exact br_f (by decide) (br_t rfl ⟨hin, hp⟩)
    · refine hl_am (hl_I nh (c * 8 + i)) (fun post hp => ?_) (fun post hp => ?_)
      · (unfold wpX_transfer; dsimp only; rw [hcl, hl_i8]; refine br_f h1 (br_f h1' (br_f n1 (br_f h2 (br_f h2' (br_f n1 (br_f h3 (br_f h3' (br_f n1 ⟨hc3, br_t hlt (nm_e ?_)⟩)))))))); rw [hct])
        exact br_f (by decide) (br_f (by decide) (br_f (by decide) (br_t rfl ⟨hin, hp⟩)))
      · (refine hl_ytr C hc hi' (by omega) ?_; unfold wY_transfer_82; rw [hct])
        exact br_f (by decide) (br_f (by decide) (br_t rfl ⟨hin, hp⟩))
    · refine hl_am (am (c * 8 + i)) (fun post hp => ?_) (fun post hp => ?_)
      · (unfold wpX_transfer; dsimp only; rw [hcl, hl_i8]; refine br_f h1 (br_f h1' (br_f n1 (br_f h2 (br_f h2' (br_f n1 (br_f h3 (br_f h3' (br_f n1 ⟨hc3, br_t hlt (nm_e ?_)⟩)))))))); rw [hct])
        exact br_f (by decide) (br_f (by decide) (br_f (by decide) (br_f (by decide) (br_t rfl ⟨hin, hp⟩))))
      · (refine hl_ytr C hc hi' (by omega) ?_; unfold wY_transfer_82; rw [hct])
        exact br_f (by decide) (br_f (by decide) (br_f (by decide) (br_t rfl ⟨hin, hp⟩)))
    · refine hl_am (ex (c * 8 + i)) (fun post hp => ?_) (fun post hp => ?_)
      · (unfold wpX_transfer; dsimp only; rw [hcl, hl_i8]; refine br_f h1 (br_f h1' (br_f n1 (br_f h2 (br_f h2' (br_f n1 (br_f h3 (br_f h3' (br_f n1 ⟨hc3, br_t hlt (nm_e ?_)⟩)))))))); rw [hct])
        exact br_f (by decide) (br_f (by decide) (br_f (by decide) (br_f (by decide) (br_f (by decide) (br_t rfl ⟨hin, hp⟩)))))
      · (refine hl_ytr C hc hi' (by omega) ?_; unfold wY_transfer_82; rw [hct])
        exact br_f (by decide) (br_f (by decide) (br_f (by decide) (br_f (by decide) ⟨hin, hp⟩)))
    · refine hl_am (rm (c * 8 + i)) (fun post hp => ?_) (fun post hp => ?_)
      · (unfold wpX_transfer; dsimp only; rw [hcl, hl_i8]; refine br_f h1 (br_f h1' (br_f n1 (br_f h2 (br_f h2' (br_f n1 (br_f h3 (br_f h3' (br_f n1 ⟨hc3, br_t hlt (nm_e ?_)⟩)))))))); rw [hct])
        exact br_f (by decide) (br_f (by decide) (br_f (by decide) (br_f (by decide) (br_f (by decide) (br_f (by decide) (br_t rfl ⟨hin, hp⟩))))))
      · (refine hl_ytr C hc hi' (by omega) ?_; unfold wY_transfer_82; rw [hct])
        exact br_t (by decide) (br_t rfl ⟨hin, hp⟩)
    · refine hl_am (if hl_as no na nl np nq (c * 8 + i) = true then (if hl_rs no nr nl np nq rm (c * 8 + i) = true then 2 else 1) else 0) (fun post hp => ?_) (fun post hp => ?_)
      · (unfold wpX_transfer; dsimp only; rw [hcl, hl_i8]; refine br_f h1 (br_f h1' (br_f n1 (br_f h2 (br_f h2' (br_f n1 (br_f h3 (br_f h3' (br_f n1 ⟨hc3, br_t hlt (nm_e ?_)⟩)))))))); rw [hct])
        refine br_f (by decide) (br_f (by decide) (br_f (by decide) (br_f (by decide) (br_f (by decide) (br_f (by decide) (br_f (by decide) (br_t rfl ?_)))))))
        unfold wpX_stage
        dsimp only
        refine hl_xas C ht (hl_br (fun a => ?_) (fun a => hl_xrs C ht (hl_br (fun b => ?_) (fun b => ?_))))
        · rw [a, if_neg (by decide)] at hp; exact hp
        · rw [a, b, if_pos rfl, if_neg (by decide)] at hp; exact hp
        · rw [a, b, if_pos rfl, if_pos rfl] at hp; exact hp
      · (refine hl_ytr C hc hi' (by omega) ?_; unfold wY_transfer_82; rw [hct])
        exact br_t (by decide) (br_f (by decide) (br_t rfl hp))
    · refine hl_am (pt (c * 8 + i)) (fun post hp => ?_) (fun post hp => ?_)
      · (unfold wpX_transfer; dsimp only; rw [hcl, hl_i8]; refine br_f h1 (br_f h1' (br_f n1 (br_f h2 (br_f h2' (br_f n1 (br_f h3 (br_f h3' (br_f n1 ⟨hc3, br_t hlt (nm_e ?_)⟩)))))))); rw [hct])
        exact br_f (by decide) (br_t (by decide) ⟨hin, hp⟩)
      · (refine hl_ytr C hc hi' (by omega) ?_; unfold wY_transfer_82; rw [hct])
        exact br_t (by decide) (br_f (by decide) (br_f (by decide) ⟨hin, hp⟩))
  · have hlt : ¬ nI i < hl_I nc c := nI_nlt (by omega) (by omega)
    refine hl_am (-1) (fun post hp => ?_) (fun post hp => ?_)
    · unfold wpX_transfer; dsimp only; rw [hcl]
      exact br_f h1 (br_f h1' (br_f n1 (br_f h2 (br_f h2' (br_f n1 (br_f h3 (br_f h3' (br_f n1 ⟨hc3, br_f hlt hp⟩))))))))
    · unfold wpY_transfer; dsimp only; rw [hcl]
      exact br_f h1 (br_f h1' (br_f h2 (br_f h2' (br_f h3 (br_f h3' ⟨hc3, br_f hlt hp⟩)))))
theorem hl_side (C : hl_C nc no nh na nr ns nl nw np nq rm pt hd) (D : hl_D cl ca cd ce cb) (v1 v2 : Int32) : hl_ans (fun post => wpX_side post (dep, dly, grd, hgt, wal, kn, (hl_I nc), (hl_I no), (hl_I nh), am, ex, rm, (hl_I na), (hl_I nr), pt, (hl_I ns), (hl_I nl), (hl_I nw), (hl_I np), (hl_I nq), cl, pb, ca, ou) v1 v2) (fun post => wpY_side post (dep, dly, grd, hgt, wal, kn, (hl_I nc), (hl_I no), (hl_I nh), am, ex, rm, pt, hd, (hl_I nl), (hl_I nw), cd, ce, pb, cb, ou) v1 v2) := by
  have n1 := hl_1n
  have n2 := hl_2n
  rcases hl_rng v1 5 5 rfl (by decide) with h1 | ⟨h1, h1', -⟩ | ⟨e, he, rfl, h1, h1', -⟩
  · exact hl_am (-1) (fun post hp => br_t h1 (br_t rfl hp)) (fun post hp => br_t h1 hp)
  · exact hl_am (-1) (fun post hp => br_f h1 (br_t h1' (br_t rfl hp))) (fun post hp => br_f h1 (br_t h1' hp))
  rcases hl_rng v2 4 4 rfl (by decide) with h2 | ⟨h2, h2', h2''⟩ | ⟨x, hx, rfl, h2, h2', h2''⟩
  · exact hl_am (-1) (fun post hp => br_f h1 (br_f h1' (br_f n1 (br_t h2 (br_t rfl hp))))) (fun post hp => br_f h1 (br_f h1' (br_t h2 hp)))
  · exact hl_am (-1) (fun post hp => br_f h1 (br_f h1' (br_f n1 (br_f h2 (br_t h2' (br_t rfl hp)))))) (fun post hp => br_f h1 (br_f h1' (br_f h2 (br_f h2'' hp))))
  have hin : vp_in (nI e) 6 := vp_in_nI he (by decide)
  have hc3 : vp_in (nI (e / 2)) 3 := vp_in_nI (by omega) (by decide)
  have hcl : (nI (e / 2)).toNatClampNeg = e / 2 := nI_clamp (by omega)
  have hce : (nI e).toNatClampNeg = e := nI_clamp (by omega)
  obtain rfl | rfl | rfl | rfl | rfl : x = 0 ∨ x = 1 ∨ x = 2 ∨ x = 3 ∨ x = 4 := by omega
  · refine hl_am (hl_I nl e) (fun post hp => ?_) (fun post hp => ?_)
    · (unfold wpX_side; dsimp only; rw [hl_e2 e he, hcl, hce]; refine br_f h1 (br_f h1' (br_f n1 (br_f h2 (br_f h2' (br_f n1 ?_))))))
      exact br_f (by decide) (br_f (by decide) (br_t rfl ⟨hin, hp⟩))
    · (unfold wpY_side; dsimp only; rw [hl_e2 e he, hcl, hce]; refine br_f h1 (br_f h1' (br_f h2 (br_t h2'' ?_))))
      exact br_f (by decide) (br_t rfl ⟨hin, hp⟩)
  · refine hl_am (hl_I nw e) (fun post hp => ?_) (fun post hp => ?_)
    · (unfold wpX_side; dsimp only; rw [hl_e2 e he, hcl, hce]; refine br_f h1 (br_f h1' (br_f n1 (br_f h2 (br_f h2' (br_f n1 ?_))))))
      exact br_f (by decide) (br_f (by decide) (br_f (by decide) (br_t rfl ⟨hin, hp⟩)))
    · (unfold wpY_side; dsimp only; rw [hl_e2 e he, hcl, hce]; refine br_f h1 (br_f h1' (br_f h2 (br_t h2'' ?_))))
      exact br_f (by decide) (br_f (by decide) (br_t rfl ⟨hin, hp⟩))
  · obtain ⟨r, hX, hY⟩ := hl_spW (dep := dep) (dly := dly) (grd := grd) (hgt := hgt) (wal := wal) (kn := kn) (am := am) (ex := ex) (cl := cl) (pb := pb) (ca := ca) (ou := ou) (cd := cd) (ce := ce) (cb := cb) C he
    refine hl_am r (fun post hp => ?_) (fun post hp => ?_)
    · (unfold wpX_side; dsimp only; rw [hl_e2 e he, hcl, hce]; refine br_f h1 (br_f h1' (br_f n1 (br_f h2 (br_f h2' (br_f n1 ?_))))))
      exact br_f (by decide) (br_f (by decide) (br_f (by decide) (br_f (by decide) (br_t rfl (hX post hp)))))
    · (unfold wpY_side; dsimp only; rw [hl_e2 e he, hcl, hce]; refine br_f h1 (br_f h1' (br_f h2 (br_t h2'' ?_))))
      exact br_f (by decide) (br_f (by decide) (br_f (by decide) (hY post hp)))
  · rcases D (e / 2) (by omega) with ⟨o1, o2, o3⟩ | ⟨o1, x, ox, o2, o3, o4⟩
    · have q : ¬ cl (e / 2) = nI e := by
        rw [o2]; intro z
        exact absurd (show nI e < 0 by rw [← z]; decide) h1
      refine hl_am (-1) (fun post hp => ?_) (fun post hp => ?_)
      · (unfold wpX_side; dsimp only; rw [hl_e2 e he, hcl, hce]; refine br_f h1 (br_f h1' (br_f n1 (br_f h2 (br_f h2' (br_f n1 ?_))))))
        exact br_f (by decide) (br_f (by decide) (br_f (by decide) (br_f (by decide) (br_f (by decide) (br_t rfl ⟨n2, hc3, br_f q hp⟩)))))
      · (unfold wpY_side; dsimp only; rw [hl_e2 e he, hcl, hce]; refine br_f h1 (br_f h1' (br_f h2 (br_t h2'' ?_))))
        exact br_t (by decide) (br_t rfl ⟨n2, hc3, br_t o1 hp⟩)
    · have c0 : ¬ cd (e / 2) = 0 := by rw [o1]; decide
      by_cases q : x = e
      · have q1 : cl (e / 2) = nI e := by rw [o2, q]
        have q2 : ce (e / 2) = nI e := by rw [o3, q]
        refine hl_am (pb (e / 2)) (fun post hp => ?_) (fun post hp => ?_)
        · (unfold wpX_side; dsimp only; rw [hl_e2 e he, hcl, hce]; refine br_f h1 (br_f h1' (br_f n1 (br_f h2 (br_f h2' (br_f n1 ?_))))))
          exact br_f (by decide) (br_f (by decide) (br_f (by decide) (br_f (by decide) (br_f (by decide) (br_t rfl ⟨n2, hc3, br_t q1 ⟨n2, hc3, hp⟩⟩)))))
        · (unfold wpY_side; dsimp only; rw [hl_e2 e he, hcl, hce]; refine br_f h1 (br_f h1' (br_f h2 (br_t h2'' ?_))))
          exact br_t (by decide) (br_t rfl ⟨n2, hc3, br_f c0 ⟨n2, hc3, br_t q2 ⟨n2, hc3, hp⟩⟩⟩)
      · have q1 : ¬ cl (e / 2) = nI e := by rw [o2]; exact fun z => q ((nI_eq (by omega) (by omega)).mp z)
        have q2 : ¬ ce (e / 2) = nI e := by rw [o3]; exact fun z => q ((nI_eq (by omega) (by omega)).mp z)
        refine hl_am (-1) (fun post hp => ?_) (fun post hp => ?_)
        · (unfold wpX_side; dsimp only; rw [hl_e2 e he, hcl, hce]; refine br_f h1 (br_f h1' (br_f n1 (br_f h2 (br_f h2' (br_f n1 ?_))))))
          exact br_f (by decide) (br_f (by decide) (br_f (by decide) (br_f (by decide) (br_f (by decide) (br_t rfl ⟨n2, hc3, br_f q1 hp⟩)))))
        · (unfold wpY_side; dsimp only; rw [hl_e2 e he, hcl, hce]; refine br_f h1 (br_f h1' (br_f h2 (br_t h2'' ?_))))
          exact br_t (by decide) (br_t rfl ⟨n2, hc3, br_f c0 ⟨n2, hc3, br_f q2 hp⟩⟩)
  · rcases D (e / 2) (by omega) with ⟨o1, o2, o3⟩ | ⟨o1, x, ox, o2, o3, o4⟩
    · refine hl_am (ca (e / 2)) (fun post hp => ?_) (fun post hp => ?_)
      · (unfold wpX_side; dsimp only; rw [hl_e2 e he, hcl, hce]; refine br_f h1 (br_f h1' (br_f n1 (br_f h2 (br_f h2' (br_f n1 ?_))))))
        exact br_f (by decide) (br_t (by decide) ⟨n2, hc3, hp⟩)
      · (unfold wpY_side; dsimp only; rw [hl_e2 e he, hcl, hce]; refine br_f h1 (br_f h1' (br_f h2 (br_t h2'' ?_))))
        rw [o3] at hp
        exact br_t (by decide) (br_f (by decide) ⟨n2, hc3, br_t o1 hp⟩)
    · have c0 : ¬ cd (e / 2) = 0 := by rw [o1]; decide
      refine hl_am (ca (e / 2)) (fun post hp => ?_) (fun post hp => ?_)
      · (unfold wpX_side; dsimp only; rw [hl_e2 e he, hcl, hce]; refine br_f h1 (br_f h1' (br_f n1 (br_f h2 (br_f h2' (br_f n1 ?_))))))
        exact br_f (by decide) (br_t (by decide) ⟨n2, hc3, hp⟩)
      · (unfold wpY_side; dsimp only; rw [hl_e2 e he, hcl, hce]; refine br_f h1 (br_f h1' (br_f h2 (br_t h2'' ?_))))
        rw [o4] at hp
        exact br_t (by decide) (br_f (by decide) ⟨n2, hc3, br_f c0 ⟨n2, hc3, hp⟩⟩)
end
end
section
/-! the pure laws: what each change of the state keeps -/
theorem hl_ule (f : Nat → Nat) (e j : Nat) : f j ≤ hl_u f e (f e + 1) j := by
  unfold hl_u
  split
  · next h => rw [h]; omega
  · omega
section
variable {dep dly grd hgt : Int32} {wal kn am ex rm pt cl pb ca ou hd cd ce cb : Nat → Int32} {nc no nh na nr ns nl nw np nq : Nat → Nat}
theorem hl_cf (C : hl_C nc no nh na nr ns nl nw np nq rm pt hd) {e e' q : Nat} (he : e < 6) (he' : e' < 6) (h2 : e' / 2 = e / 2) (hq : q ≤ nw e') : hl_c np nq e (ns e) e' q = false := by
  have k6 := hl_k6 C e' q he' hq
  unfold hl_c
  by_cases h : e = e'
  · subst h
    rw [if_pos rfl]
    exact decide_eq_false (by omega)
  · rw [if_neg h]
    have hx := hl_xp e' he' e he (by omega) h
    rw [← hx] at k6
    exact decide_eq_false (by omega)
theorem hl_M1 (C : hl_C nc no nh na nr ns nl nw np nq rm pt hd) {e h c m t : Nat} (he : e < 6) (hh : h < 8) (hce : e / 2 = c) (hm : nc c = m) (hT : c * 8 + m = t) (hm8 : m < 8) (hs : ns e + 1 ≤ 2563) : hl_C (hl_u nc c (m + 1)) (hl_u no t e) (hl_u nh t h) (hl_u na t (ns e)) nr (hl_u ns e (ns e + 1)) nl nw np nq rm (upd pt t 8) hd := by
  have hc3 : c < 3 := by omega
  have nle : ∀ j, nc j ≤ hl_u nc c (m + 1) j := by intro j; rw [← hm]; exact hl_ule nc c j
  have hold : ∀ c' i', c' < 3 → i' < hl_u nc c (m + 1) c' → c' * 8 + i' ≠ t → i' < nc c' := by
    intro c' i' h1 h2 h3
    unfold hl_u at h2
    by_cases z : c' = c
    · rw [if_pos z] at h2
      rw [z, hm]
      rw [z] at h3
      omega
    · rw [if_neg z] at h2; exact h2
  have hlt8 : ∀ c' i', i' < hl_u nc c (m + 1) c' → i' < 8 := by
    intro c' i' h2
    have B := (hl_k1 C c').1
    unfold hl_u at h2
    by_cases z : c' = c
    · rw [if_pos z] at h2; omega
    · rw [if_neg z] at h2; omega
  have rT : rm t = 0 := by rw [← hT]; exact hl_k5 C c m hc3 (by omega) hm8
  refine ⟨fun j => ?_, hl_k2 C, hl_k3 C, fun c' i' h1 h2 => ?_, fun c' i' h1 h2 h3 => hl_k5 C c' i' h1 (Nat.le_trans (nle c') h2) h3, fun e' q h1 h2 => ?_, fun e' p h1 h2 => ?_, fun e' q i h1 h2 h3 => ?_, fun c' i' h1 h2 => ?_⟩
  · have B := hl_k1 C j
    refine ⟨?_, ?_, ?_, ?_, B.2.2.2.2.1, ?_, B.2.2.2.2.2.2.1, B.2.2.2.2.2.2.2⟩ <;> unfold hl_u <;> split <;> omega
  · by_cases hx : c' * 8 + i' = t
    · have h8 := hlt8 c' i' h2
      have hcc : c' = c := by omega
      rw [hx, hl_us, hl_us, hl_us]
      exact ⟨by omega, by omega, fun z => absurd rT z⟩
    · have k4 := hl_k4 C c' i' h1 (hold c' i' h1 h2 hx)
      rw [hl_un hx, hl_un hx]
      exact ⟨k4.1, Nat.lt_of_lt_of_le k4.2.1 (hl_ule ns e _), fun z => Nat.lt_of_lt_of_le (k4.2.2 z) (hl_ule ns e _)⟩
  · have k6 := hl_k6 C e' q h1 h2
    exact ⟨Nat.le_trans k6.1 (hl_ule ns e _), Nat.le_trans k6.2 (hl_ule ns e _)⟩
  · by_cases hnew : e' = e ∧ p = ns e
    · refine ⟨m, ?_, Or.inl ⟨?_, ?_⟩⟩
      · rw [hnew.1, hce, hl_us]; omega
      · rw [hnew.1, hce, hT, hl_us]
      · rw [hnew.1, hce, hT, hl_us, hnew.2]
    · have hp : p < ns e' := by
        by_cases z : e' = e
        · rw [z, hl_us] at h2
          rw [z]
          have : p ≠ ns e := fun y => hnew ⟨z, y⟩
          omega
        · rw [hl_un z] at h2; exact h2
      obtain ⟨i, hi, h4⟩ := hl_k7 C e' p h1 hp
      have hne : e' / 2 * 8 + i ≠ t := by
        have B := (hl_k1 C (e' / 2)).1
        intro z
        have : e' / 2 = c := by omega
        rw [this, hm] at hi
        omega
      refine ⟨i, Nat.lt_of_lt_of_le hi (nle _), ?_⟩
      rw [hl_un hne, hl_un hne]
      exact h4
  · have k8 := hl_k8 C e' q i h1 h2 h3
    by_cases hx : e' / 2 * 8 + i = t
    · have h4 : e' / 2 = c := by omega
      have h5 : i = m := by omega
      rw [h4, hm, h5, decide_eq_false (Nat.lt_irrefl m), Bool.false_and, Bool.false_and] at k8
      unfold hl_ad hl_rv
      rw [h5, h4, hT, hl_us, hl_us, hl_us, hl_cf C he h1 (by omega) h2, decide_eq_false (show ¬ rm t ≠ 0 from fun z => z rT), Bool.and_false, Bool.false_and, Bool.and_false]
      exact k8
    · have h4 : decide (i < hl_u nc c (m + 1) (e' / 2)) = decide (i < nc (e' / 2)) := by
        by_cases z : i < nc (e' / 2)
        · rw [decide_eq_true z, decide_eq_true (Nat.lt_of_lt_of_le z (nle _))]
        · rw [decide_eq_false z, decide_eq_false (fun y => z (hold _ _ (by omega) y hx))]
      unfold hl_ad hl_rv
      rw [h4, hl_un hx, hl_un hx]
      exact k8
  · unfold hl_P
    by_cases hx : c' * 8 + i' = t
    · rw [hx]; exact Or.inl pk_us
    · rw [pk_un hx, hl_un hx, hl_un hx]
      have B0 := hl_k1 C (c' * 8 + i')
      rcases hl_k9 C c' i' h1 (hold c' i' h1 h2 hx) with h4 | ⟨j, h4, h5, h6, h7, h8⟩
      · exact Or.inl h4
      · have B := (hl_k1 C (hl_o (hl_x (no (c' * 8 + i'))) / 2)).1
        have hne : hl_o (hl_x (no (c' * 8 + i'))) / 2 * 8 + j ≠ t := by
          intro z
          have y : hl_o (hl_x (no (c' * 8 + i'))) / 2 = c := by omega
          rw [y, hm] at h7
          omega
        exact Or.inr ⟨j, h4, h5, h6, Nat.lt_of_lt_of_le h7 (nle _), by rw [hl_un hne]; exact h8⟩
theorem hl_M2 (C : hl_C nc no nh na nr ns nl nw np nq rm pt hd) {t j : Nat} (h1 : 1 ≤ hl_x (no t)) (h2 : hl_x (no t) ≤ 4) (h3 : j < nc (hl_o (hl_x (no t)) / 2)) (h4 : nh (hl_o (hl_x (no t)) / 2 * 8 + j) = nh t) : hl_C nc no nh na nr ns nl nw np nq rm (upd pt t (nI j)) hd := by
  refine ⟨hl_k1 C, hl_k2 C, hl_k3 C, hl_k4 C, hl_k5 C, hl_k6 C, hl_k7 C, hl_k8 C, fun c' i' g1 g2 => ?_⟩
  unfold hl_P
  by_cases hx : c' * 8 + i' = t
  · rw [hx, pk_us]
    exact Or.inr ⟨j, rfl, h1, h2, h3, h4⟩
  · rw [pk_un hx]
    exact hl_k9 C c' i' g1 g2
theorem hl_M3 (C : hl_C nc no nh na nr ns nl nw np nq rm pt hd) {e i c t : Nat} (he : e < 6) (hce : e / 2 = c) (hT : c * 8 + i = t) (hi : i < nc c) (hno : no t ≠ e) (hr : rm t = 0) (kd : Int32) (hk : kd = 1 ∨ kd = 2) (hs : ns e + 1 ≤ 2563) : hl_C nc no nh na (hl_u nr t (ns e)) (hl_u ns e (ns e + 1)) nl nw np nq (upd rm t kd) pt hd := by
  have hc3 : c < 3 := by omega
  have B0 := (hl_k1 C c).1
  have Bt := hl_k1 C t
  have hkd : kd ≠ 0 := by rcases hk with rfl | rfl <;> decide
  have k40 := (hl_k4 C c i hc3 hi).1
  rw [hT] at k40
  have hx : hl_x (no t) = e := by rw [hl_xp e he (no t) Bt.2.1 (by omega) hno]; exact hl_xx e he
  refine ⟨fun j => ?_, hl_k2 C, fun j => ⟨?_, (hl_k3 C j).2⟩, fun c' i' h1 h2 => ?_, fun c' i' h1 h2 h3 => ?_, fun e' q h1 h2 => ?_, fun e' p h1 h2 => ?_, fun e' q i' h1 h2 h3 => ?_, hl_k9 C⟩
  · have B := hl_k1 C j
    refine ⟨B.1, B.2.1, B.2.2.1, B.2.2.2.1, ?_, ?_, B.2.2.2.2.2.2.1, B.2.2.2.2.2.2.2⟩ <;> unfold hl_u <;> split <;> omega
  · by_cases z : j = t
    · rw [z, pk_us]; exact Or.inr hk
    · rw [pk_un z]; exact (hl_k3 C j).1
  · have k4 := hl_k4 C c' i' h1 h2
    refine ⟨k4.1, Nat.lt_of_lt_of_le k4.2.1 (hl_ule ns e _), fun z => ?_⟩
    by_cases y : c' * 8 + i' = t
    · rw [y, hl_us, hx, hl_us]; omega
    · rw [pk_un y] at z
      rw [hl_un y]
      exact Nat.lt_of_lt_of_le (k4.2.2 z) (hl_ule ns e _)
  · have y : c' * 8 + i' ≠ t := by
      intro z
      have : c' = c := by omega
      rw [this] at h2
      omega
    rw [pk_un y]
    exact hl_k5 C c' i' h1 h2 h3
  · have k6 := hl_k6 C e' q h1 h2
    exact ⟨Nat.le_trans k6.1 (hl_ule ns e _), Nat.le_trans k6.2 (hl_ule ns e _)⟩
  · by_cases hnew : e' = e ∧ p = ns e
    · refine ⟨i, ?_, Or.inr ?_⟩
      · rw [hnew.1, hce]; exact hi
      · rw [hnew.1, hce, hT, pk_us, hl_us, hnew.2]
        exact ⟨hno, hkd, rfl⟩
    · have hp : p < ns e' := by
        by_cases z : e' = e
        · rw [z, hl_us] at h2
          rw [z]
          have : p ≠ ns e := fun y => hnew ⟨z, y⟩
          omega
        · rw [hl_un z] at h2; exact h2
      obtain ⟨i', hi', h4⟩ := hl_k7 C e' p h1 hp
      refine ⟨i', hi', ?_⟩
      rcases h4 with h4 | ⟨h4, h5, h6⟩
      · exact Or.inl h4
      · have y : e' / 2 * 8 + i' ≠ t := fun z => h5 (by rw [z]; exact hr)
        rw [pk_un y, hl_un y]
        exact Or.inr ⟨h4, h5, h6⟩
  · have k8 := hl_k8 C e' q i' h1 h2 h3
    refine ⟨k8.1, ?_⟩
    have k82 := k8.2
    unfold hl_rv at k82 ⊢
    by_cases y : e' / 2 * 8 + i' = t
    · have hee : e' / 2 = e / 2 := by omega
      rw [y, decide_eq_false (show ¬ rm t ≠ 0 from fun z => z hr), Bool.false_and, Bool.and_false] at k82
      rw [y, pk_us, hl_us, hx, hl_cf C he h1 hee h2, Bool.and_false, Bool.and_false]
      exact k82
    · rw [pk_un y, hl_un y]
      exact k82
theorem hl_M5 (C : hl_C nc no nh na nr ns nl nw np nq rm pt hd) {e : Nat} (h : nl e ≠ nw e) : hl_C nc no nh na nr ns (hl_u nl e (nl e + 1)) nw np nq rm pt hd := by
  refine ⟨hl_k1 C, fun j => ?_, hl_k3 C, hl_k4 C, hl_k5 C, hl_k6 C, hl_k7 C, hl_k8 C, hl_k9 C⟩
  have L := hl_k2 C j
  refine ⟨?_, L.2⟩
  unfold hl_u
  by_cases z : j = e
  · rw [if_pos z, z]; rw [z] at L; omega
  · rw [if_neg z]; exact L.1
end
end
section
/-! commit: what a signature contains; prefixes against sets -/
def hl_va (nc no na : Nat → Nat) (P Q t i : Nat) : Bool := decide (i < nc (t / 2)) && decide (na (t / 2 * 8 + i) < if no (t / 2 * 8 + i) = t then P else Q)
def hl_vr (nc no nr : Nat → Nat) (rm : Nat → Int32) (P Q t i : Nat) : Bool := decide (i < nc (t / 2)) && (decide (rm (t / 2 * 8 + i) ≠ 0) && decide (nr (t / 2 * 8 + i) < if hl_x (no (t / 2 * 8 + i)) = t then P else Q))
def hl_sA (nc no na nl np nq : Nat → Nat) (e i : Nat) : Bool := (decide (i < nc (e / 2)) && decide (no (e / 2 * 8 + i) = e)) || (decide (i < nc (e / 2)) && hl_ad no na np nq (e / 2 * 8 + i) e (nl e))
def hl_sR (nc no nr nl np nq : Nat → Nat) (rm : Nat → Int32) (e i : Nat) : Bool := (decide (rm (e / 2 * 8 + i) ≠ 0) && !(decide (i < nc (e / 2)) && decide (no (e / 2 * 8 + i) = e))) || (decide (i < nc (e / 2)) && hl_rv no nr np nq rm (e / 2 * 8 + i) e (nl e))
def hl_sg (nc no na nr nl np nq : Nat → Nat) (rm : Nat → Int32) (e u : Nat) : Bool := if u % 2 = 0 then hl_sA nc no na nl np nq e (u / 2) else hl_sR nc no nr nl np nq rm e (u / 2)
/-- what commitment (P, Q) of end t holds, as an update -/
def hl_vv (nc no na nr : Nat → Nat) (rm : Nat → Int32) (P Q t u : Nat) : Bool := if u % 2 = 0 then hl_va nc no na P Q t (u / 2) else hl_vr nc no nr rm P Q t (u / 2)
theorem hl_vv0 (nc no na nr : Nat → Nat) (rm : Nat → Int32) (P Q t i : Nat) : hl_vv nc no na nr rm P Q t (2 * i) = hl_va nc no na P Q t i := by
  unfold hl_vv
  rw [if_pos (by omega), show 2 * i / 2 = i by omega]
theorem hl_vv1 (nc no na nr : Nat → Nat) (rm : Nat → Int32) (P Q t i : Nat) : hl_vv nc no na nr rm P Q t (2 * i + 1) = hl_vr nc no nr rm P Q t i := by
  unfold hl_vv
  rw [if_neg (by omega), show (2 * i + 1) / 2 = i by omega]
section
variable {dep dly grd hgt : Int32} {wal kn am ex rm pt cl pb ca ou hd cd ce cb : Nat → Int32} {nc no nh na nr ns nl nw np nq : Nat → Nat}
theorem hl_sgA (C : hl_C nc no nh na nr ns nl nw np nq rm pt hd) {e t i : Nat} (he : e < 6) (ht : hl_x e = t) (hi : i < 8) : hl_sA nc no na nl np nq e i = hl_va nc no na (nq (e * 16 + nl e)) (ns e) t i := by
  have t2 : t / 2 = e / 2 := by rw [← ht]; exact hl_x2 e he
  have tn : t ≠ e := by rw [← ht]; exact hl_xn e he
  unfold hl_sA hl_va hl_ad hl_c
  rw [t2]
  by_cases h : i < nc (e / 2)
  · have k4 := hl_k4 C (e / 2) i (by omega) h
    have B := hl_k1 C (e / 2 * 8 + i)
    rw [decide_eq_true h, Bool.true_and, Bool.true_and, Bool.true_and]
    by_cases z : no (e / 2 * 8 + i) = e
    · rw [decide_eq_true z, Bool.true_or, z, if_neg (fun y => tn y.symm)]
      rw [z] at k4
      exact (decide_eq_true k4.2.1).symm
    · have y : no (e / 2 * 8 + i) = t := by rw [← ht]; exact hl_xp e he _ B.2.1 k4.1 z
      rw [decide_eq_false z, Bool.false_or, if_neg z, if_pos y]
  · rw [decide_eq_false h]; rfl
theorem hl_sgR (C : hl_C nc no nh na nr ns nl nw np nq rm pt hd) {e t i : Nat} (he : e < 6) (ht : hl_x e = t) (hi : i < 8) : hl_sR nc no nr nl np nq rm e i = hl_vr nc no nr rm (nq (e * 16 + nl e)) (ns e) t i := by
  have t2 : t / 2 = e / 2 := by rw [← ht]; exact hl_x2 e he
  have tn : t ≠ e := by rw [← ht]; exact hl_xn e he
  have xt : hl_x t = e := by rw [← ht]; exact hl_xx e he
  unfold hl_sR hl_vr hl_rv hl_c
  rw [t2]
  by_cases h : i < nc (e / 2)
  · have k4 := hl_k4 C (e / 2) i (by omega) h
    have B := hl_k1 C (e / 2 * 8 + i)
    rw [decide_eq_true h, Bool.true_and, Bool.true_and, Bool.true_and]
    by_cases z : no (e / 2 * 8 + i) = e
    · rw [decide_eq_true z, Bool.not_true, Bool.and_false, Bool.false_or, z, ht, if_neg tn, if_pos rfl]
    · have y : no (e / 2 * 8 + i) = t := by rw [← ht]; exact hl_xp e he _ B.2.1 k4.1 z
      rw [decide_eq_false z, Bool.not_false, Bool.and_true, y, xt, if_pos rfl, if_neg (fun w => tn w.symm)]
      rw [y, xt] at k4
      by_cases r0 : rm (e / 2 * 8 + i) = 0
      · rw [decide_eq_false (show ¬ rm (e / 2 * 8 + i) ≠ 0 from fun w => w r0)]; rfl
      · rw [decide_eq_true (show rm (e / 2 * 8 + i) ≠ 0 from r0), Bool.true_or, Bool.true_and]
        exact (decide_eq_true (k4.2.2 r0)).symm
  · have r0 := hl_k5 C (e / 2) i (by omega) (by omega) hi
    rw [decide_eq_false h, decide_eq_false (show ¬ rm (e / 2 * 8 + i) ≠ 0 from fun w => w r0)]; rfl
theorem hl_sgv (C : hl_C nc no nh na nr ns nl nw np nq rm pt hd) {e t u : Nat} (he : e < 6) (ht : hl_x e = t) (hu : u < 16) : hl_sg nc no na nr nl np nq rm e u = hl_vv nc no na nr rm (nq (e * 16 + nl e)) (ns e) t u := by
  unfold hl_sg hl_vv
  rw [hl_sgA C he ht (by omega), hl_sgR C he ht (by omega)]
/-- held, by the pair of parts -/
theorem hl_hv (C : hl_C nc no nh na nr ns nl nw np nq rm pt hd) {t q u : Nat} (ht : t < 6) (hq : q ≤ nw t) (hu : u < 16) : hd ((t * 16 + q) * 16 + u) = hl_b (hl_vv nc no na nr rm (np (t * 16 + q)) (nq (t * 16 + q)) t u) := by
  have k8 := hl_k8 C t q (u / 2) ht hq (by omega)
  unfold hl_vv
  by_cases z : u % 2 = 0
  · rw [if_pos z]
    have y : 2 * (u / 2) = u := by omega
    rw [y] at k8
    exact k8.1
  · rw [if_neg z]
    have y : 2 * (u / 2) + 1 = u := by omega
    rw [y] at k8
    exact k8.2
theorem hl_vlt (C : hl_C nc no nh na nr ns nl nw np nq rm pt hd) {t P Q P' Q' : Nat} (ht : t < 6) (hP : P' ≤ ns t) (h : ∀ u, u < 16 → hl_vv nc no na nr rm P Q t u = hl_vv nc no na nr rm P' Q' t u) : ¬ P < P' := by
  intro hlt
  obtain ⟨i, hi, hor⟩ := hl_k7 C t P ht (by omega)
  have B := (hl_k1 C (t / 2)).1
  have k4 := hl_k4 C (t / 2) i (by omega) hi
  have B2 := hl_k1 C (t / 2 * 8 + i)
  rcases hor with ⟨h1, h2⟩ | ⟨h1, h2, h3⟩
  · have z := h (2 * i) (by omega)
    rw [hl_vv0, hl_vv0] at z
    unfold hl_va at z
    rw [if_pos h1, if_pos h1, h2, decide_eq_true hi, decide_eq_false (Nat.lt_irrefl P), decide_eq_true hlt] at z
    exact absurd z (by decide)
  · have y : hl_x (no (t / 2 * 8 + i)) = t := by rw [hl_xp t ht _ B2.2.1 k4.1 h1]; exact hl_xx t ht
    have z := h (2 * i + 1) (by omega)
    rw [hl_vv1, hl_vv1] at z
    unfold hl_vr at z
    rw [if_pos y, if_pos y, h3, decide_eq_true hi, decide_eq_false (Nat.lt_irrefl P), decide_eq_true hlt, decide_eq_true h2] at z
    exact absurd z (by decide)
theorem hl_vlt2 (C : hl_C nc no nh na nr ns nl nw np nq rm pt hd) {t P Q P' Q' : Nat} (ht : t < 6) (hP : Q' ≤ ns (hl_x t)) (h : ∀ u, u < 16 → hl_vv nc no na nr rm P Q t u = hl_vv nc no na nr rm P' Q' t u) : ¬ Q < Q' := by
  intro hlt
  have hx := hl_x6 t ht
  have hx2 := hl_x2 t ht
  have hxn := hl_xn t ht
  obtain ⟨i, hi, hor⟩ := hl_k7 C (hl_x t) Q hx (by omega)
  rw [hx2] at hi hor
  have B := (hl_k1 C (t / 2)).1
  have k4 := hl_k4 C (t / 2) i (by omega) hi
  have B2 := hl_k1 C (t / 2 * 8 + i)
  rcases hor with ⟨h1, h2⟩ | ⟨h1, h2, h3⟩
  · have y : ¬ no (t / 2 * 8 + i) = t := by rw [h1]; exact hxn
    have z := h (2 * i) (by omega)
    rw [hl_vv0, hl_vv0] at z
    unfold hl_va at z
    rw [if_neg y, if_neg y, h2, decide_eq_true hi, decide_eq_false (Nat.lt_irrefl Q), decide_eq_true hlt] at z
    exact absurd z (by decide)
  · have y : ¬ hl_x (no (t / 2 * 8 + i)) = t := by
      rw [hl_xp (hl_x t) hx _ B2.2.1 (by omega) h1, hl_xx t ht]; exact hxn
    have z := h (2 * i + 1) (by omega)
    rw [hl_vv1, hl_vv1] at z
    unfold hl_vr at z
    rw [if_neg y, if_neg y, h3, decide_eq_true hi, decide_eq_false (Nat.lt_irrefl Q), decide_eq_true hlt, decide_eq_true h2] at z
    exact absurd z (by decide)
/-- the sets are equal only if the prefixes are -/
theorem hl_vinj (C : hl_C nc no nh na nr ns nl nw np nq rm pt hd) {t P Q P' Q' : Nat} (ht : t < 6) (h1 : P ≤ ns t) (h2 : P' ≤ ns t) (h3 : Q ≤ ns (hl_x t)) (h4 : Q' ≤ ns (hl_x t)) (h : ∀ u, u < 16 → hl_vv nc no na nr rm P Q t u = hl_vv nc no na nr rm P' Q' t u) : P = P' ∧ Q = Q' := by
  have a := hl_vlt C ht h2 h
  have b := hl_vlt C ht h1 (fun u hu => (h u hu).symm)
  have c := hl_vlt2 C ht h4 h
  have d := hl_vlt2 C ht h3 (fun u hu => (h u hu).symm)
  omega
theorem hl_M4 (C : hl_C nc no nh na nr ns nl nw np nq rm pt hd) {e t j : Nat} {hd' : Nat → Int32} (he : e < 6) (ht : hl_x e = t) (hj : t * 16 + (nw t + 1) = j) (hw : nw t + 1 ≤ 15) (h01 : ∀ a, hd' a = 0 ∨ hd' a = 1) (hout : ∀ a, (a < j * 16 ∨ j * 16 + 16 ≤ a) → hd' a = hd a) (hrow : ∀ u, u < 16 → hd' (j * 16 + u) = hl_b (hl_sg nc no na nr nl np nq rm e u)) : hl_C nc no nh na nr ns nl (hl_u nw t (nw t + 1)) (hl_u np j (nq (e * 16 + nl e))) (hl_u nq j (ns e)) rm pt hd' := by
  have t6 : t < 6 := by rw [← ht]; exact hl_x6 e he
  have xt : hl_x t = e := by rw [← ht]; exact hl_xx e he
  have L := hl_k2 C e
  have k60 := hl_k6 C e (nl e) he L.1
  rw [ht] at k60
  have hold : ∀ e' q, q ≤ hl_u nw t (nw t + 1) e' → ¬ (e' = t ∧ q = nw t + 1) → q ≤ nw e' := by
    intro e' q h1 h2
    by_cases z : e' = t
    · rw [z, hl_us] at h1
      rw [z]
      have : q ≠ nw t + 1 := fun y => h2 ⟨z, y⟩
      omega
    · rw [hl_un z] at h1; exact h1
  refine ⟨fun a => ?_, fun a => ?_, fun a => ⟨(hl_k3 C a).1, h01 a⟩, hl_k4 C, hl_k5 C, fun e' q h1 h2 => ?_, hl_k7 C, fun e' q i h1 h2 h3 => ?_, hl_k9 C⟩
  · have B := hl_k1 C a
    have B1 := hl_k1 C (e * 16 + nl e)
    have B2 := hl_k1 C e
    refine ⟨B.1, B.2.1, B.2.2.1, B.2.2.2.1, B.2.2.2.2.1, B.2.2.2.2.2.1, ?_, ?_⟩ <;> unfold hl_u <;> split <;> omega
  · have La := hl_k2 C a
    unfold hl_u
    by_cases z : a = t
    · rw [if_pos z, ← z]; rw [← z] at hw; omega
    · rw [if_neg z]; exact La
  · by_cases hnew : e' = t ∧ q = nw t + 1
    · rw [hnew.1, hnew.2, hj, hl_us, hl_us, xt]
      exact ⟨k60.2, Nat.le_refl _⟩
    · have hq := hold e' q h2 hnew
      have Lq := hl_k2 C e'
      have hne : e' * 16 + q ≠ j := by
        intro z
        exact hnew (by omega)
      rw [hl_un hne, hl_un hne]
      exact hl_k6 C e' q h1 hq
  · by_cases hnew : e' = t ∧ q = nw t + 1
    · have r1 := hrow (2 * i) (by omega)
      have r2 := hrow (2 * i + 1) (by omega)
      rw [hl_sgv C he ht (by omega)] at r1
      rw [hl_sgv C he ht (by omega)] at r2
      rw [hl_vv0] at r1
      rw [hl_vv1] at r2
      unfold hl_va at r1
      unfold hl_vr at r2
      unfold hl_ad hl_rv hl_c
      rw [hnew.1, hnew.2, hj, hl_us, hl_us]
      exact ⟨r1, r2⟩
    · have hq := hold e' q h2 hnew
      have Lq := hl_k2 C e'
      have hne : e' * 16 + q ≠ j := by
        intro z
        exact hnew (by omega)
      have k8 := hl_k8 C e' q i h1 hq h3
      rw [hout _ (by omega), hout _ (by omega)]
      unfold hl_ad hl_rv hl_c at k8 ⊢
      rw [hl_un hne, hl_un hne]
      exact k8
theorem hl_yhas2 {post : Int32 → Prop} {e q u : Nat} {b : Bool} (he : e < 6) (hq : q < 16) (hu : u < 16) (hh : hd ((e * 16 + q) * 16 + u) = hl_b b) (h : post (hl_b b)) : wpY_has post (dep, dly, grd, hgt, wal, kn, (hl_I nc), (hl_I no), (hl_I nh), am, ex, rm, pt, hd, (hl_I nl), (hl_I nw), cd, ce, pb, cb, ou) (nI e) (nI q) (nI u) := by
  unfold wpY_has
  dsimp only
  rw [hl_i16, hl_i16, nI_clamp (n := (e * 16 + q) * 16 + u) (by omega), hh]
  exact ⟨vp_in_nI (by omega) (by decide), hl_bn b, h⟩
/-- what row (e, oldest) holds -/
def hl_ro (nc no na nr nl np nq : Nat → Nat) (rm : Nat → Int32) (e u : Nat) : Bool := if u % 2 = 0 then (decide (u / 2 < nc (e / 2)) && hl_ad no na np nq (e / 2 * 8 + u / 2) e (nl e)) else (decide (u / 2 < nc (e / 2)) && hl_rv no nr np nq rm (e / 2 * 8 + u / 2) e (nl e))
theorem hl_ys72 {post : Int32 → Prop} {e u : Nat} {s b : Bool} (he : e < 6) (hl : nl e < 16) (hu : u < 16) (hh : hd ((e * 16 + nl e) * 16 + u) = hl_b b) (h : post (hl_b (s || b))) : wY_signs_72 post (nI e) (nI u) (hl_b s) dep dly grd hgt wal kn (hl_I nc) (hl_I no) (hl_I nh) am ex rm pt hd (hl_I nl) (hl_I nw) cd ce pb cb ou := by
  unfold wY_signs_72
  rw [nI_clamp (n := e) (by omega)]
  refine hl_br (fun z => ⟨vp_in_nI he (by decide), hl_yhas2 (q := nl e) he hl hu hh (hl_br (fun y => ?_) (fun y => ?_))⟩) (fun z => ?_)
  · rw [z, y] at h; exact h
  · rw [z, y] at h; exact h
  · rw [z] at h; exact h
theorem hl_ysig {post : Int32 → Prop} {e u : Nat} (he : e < 6) (B : nc (e / 2) ≤ 8) (Bn : no (e / 2 * 8 + u / 2) < 6) (hl : nl e < 16) (hu : u < 16) (hh : hd ((e * 16 + nl e) * 16 + u) = hl_b (hl_ro nc no na nr nl np nq rm e u)) (h : post (hl_b (hl_sg nc no na nr nl np nq rm e u))) : wpY_signs post (dep, dly, grd, hgt, wal, kn, (hl_I nc), (hl_I no), (hl_I nh), am, ex, rm, pt, hd, (hl_I nl), (hl_I nw), cd, ce, pb, cb, ou) (nI e) (nI u) := by
  have hc : vp_in (nI (e / 2)) 3 := vp_in_nI (by omega) (by decide)
  have ht : e / 2 * 8 + u / 2 < 24 := by omega
  have hin : vp_in (nI (e / 2 * 8 + u / 2)) 24 := vp_in_nI ht (by decide)
  have u2 : nI u / 2 = nI (u / 2) := pk_div (d := 2) (by omega) (by decide) (by decide)
  have um : nI u - nI (u / 2) * 2 = nI (u % 2) := by
    rw [← u2]; exact pk_rem (d := 2) (by omega) (by decide) (by decide)
  have key : ∀ m : Bool, m = (decide (u / 2 < nc (e / 2)) && decide (no (e / 2 * 8 + u / 2) = e)) → wY_signs_40 post (nI e) (nI u) (nI (e / 2 * 8 + u / 2)) (hl_b m) dep dly grd hgt wal kn (hl_I nc) (hl_I no) (hl_I nh) am ex rm pt hd (hl_I nl) (hl_I nw) cd ce pb cb ou := by
    intro m hm
    unfold wY_signs_40
    rw [u2, um, nI_clamp (n := e / 2 * 8 + u / 2) (by omega)]
    unfold hl_sg at h
    unfold hl_ro at hh
    refine ⟨hl_2n, pk_eq (u % 2) 0 (fun z => ?_) (fun z => ⟨hin, br_c (fun r0 => ?_) (fun r0 => hl_br (fun y => ?_) (fun y => ?_))⟩)⟩
    · rw [if_pos z] at h hh
      unfold hl_sA at h
      rw [← hm] at h
      exact hl_ys72 he hl hu hh h
    · rw [if_neg z] at h hh
      unfold hl_sR at h
      rw [← hm, decide_eq_false (show ¬ rm (e / 2 * 8 + u / 2) ≠ 0 from fun w => w r0), Bool.false_and] at h
      exact hl_ys72 (s := false) he hl hu hh h
    · rw [if_neg z] at h hh
      unfold hl_sR at h
      rw [← hm, y, decide_eq_true (show rm (e / 2 * 8 + u / 2) ≠ 0 from r0)] at h
      exact hl_ys72 (s := true) he hl hu hh h
    · rw [if_neg z] at h hh
      unfold hl_sR at h
      rw [← hm, y, Bool.not_true, Bool.and_false] at h
      exact hl_ys72 (s := false) he hl hu hh h
  unfold wpY_signs
  dsimp only
  rw [hl_e2 e he, u2, hl_i8, nI_clamp (n := e / 2) (by omega)]
  refine ⟨hl_2n, hl_2n, nm_e ⟨hl_2n, hl_2n, hc, ?_⟩⟩
  rw [nI_clamp (n := e / 2 * 8 + u / 2) (by omega)]
  refine pk_le (nc (e / 2)) (u / 2) (fun z => ?_) (fun z => ⟨hin, pk_eq (no (e / 2 * 8 + u / 2)) e (fun y => ?_) (fun y => ?_)⟩)
  · exact key false (by rw [decide_eq_false (show ¬ u / 2 < nc (e / 2) by omega)]; rfl)
  · exact key true (by rw [decide_eq_true z, decide_eq_true y]; rfl)
  · exact key false (by rw [decide_eq_true z, decide_eq_false y]; rfl)
end
end
section
/-! revoke, tell, add, forward -/
theorem hl_Ku {kn : Nat → Int32} (K : hl_K kn) (a : Nat) : hl_K (upd kn a 1) := by
  intro j
  by_cases z : j = a
  · rw [z, pk_us]; exact Or.inr rfl
  · rw [pk_un z]; exact K j
theorem hl_nu {ns : Nat → Nat} {k e : Nat} (hn : ∀ j, ns j ≤ k) (j : Nat) : hl_u ns e (ns e + 1) j ≤ k + 5 := by
  have h1 := hn j
  have h2 := hn e
  unfold hl_u
  split <;> omega
section
variable {dep dly grd hgt : Int32} {wal kn am ex rm pt cl pb ca ou hd cd ce cb : Nat → Int32} {nc no nh na nr ns nl nw np nq : Nat → Nat}
variable {k : Nat}
theorem hl_yop1 {post : Int32 → Prop} {e : Nat} (he : e < 6) (h0 : cd (e / 2) = 0) (h : post 0) : wpY_open post (dep, dly, grd, hgt, wal, kn, (hl_I nc), (hl_I no), (hl_I nh), am, ex, rm, pt, hd, (hl_I nl), (hl_I nw), cd, ce, pb, cb, ou) (nI e) := by
  unfold wpY_open
  dsimp only
  rw [hl_e2 e he, nI_clamp (n := e / 2) (by omega)]
  exact br_f (hl_e0 e he) (br_t (hl_e5' e he) ⟨hl_2n, vp_in_nI (by omega) (by decide), br_t h0 h⟩)
theorem hl_yop0 {post : Int32 → Prop} {e : Nat} (he : e < 6) (h0 : cd (e / 2) = 1) (h : post (-2)) : wpY_open post (dep, dly, grd, hgt, wal, kn, (hl_I nc), (hl_I no), (hl_I nh), am, ex, rm, pt, hd, (hl_I nl), (hl_I nw), cd, ce, pb, cb, ou) (nI e) := by
  unfold wpY_open
  dsimp only
  rw [hl_e2 e he, nI_clamp (n := e / 2) (by omega)]
  exact br_f (hl_e0 e he) (br_t (hl_e5' e he) ⟨hl_2n, vp_in_nI (by omega) (by decide), br_f (by rw [h0]; decide) h⟩)
theorem hl_revoke (C : hl_C nc no nh na nr ns nl nw np nq rm pt hd) (D : hl_D cl ca cd ce cb) (K : hl_K kn) (hn : ∀ j, ns j ≤ k) (v1 : Int32) : hl_out (k + 5) (fun post => wpX_revoke post (dep, dly, grd, hgt, wal, kn, (hl_I nc), (hl_I no), (hl_I nh), am, ex, rm, (hl_I na), (hl_I nr), pt, (hl_I ns), (hl_I nl), (hl_I nw), (hl_I np), (hl_I nq), cl, pb, ca, ou) v1) (fun post => wpY_revoke post (dep, dly, grd, hgt, wal, kn, (hl_I nc), (hl_I no), (hl_I nh), am, ex, rm, pt, hd, (hl_I nl), (hl_I nw), cd, ce, pb, cb, ou) v1) := by
  have n1 := hl_1n
  have n2 := hl_2n
  have stay : i_Rel (k + 5) (dep, dly, grd, hgt, wal, kn, (hl_I nc), (hl_I no), (hl_I nh), am, ex, rm, (hl_I na), (hl_I nr), pt, (hl_I ns), (hl_I nl), (hl_I nw), (hl_I np), (hl_I nq), cl, pb, ca, ou) (dep, dly, grd, hgt, wal, kn, (hl_I nc), (hl_I no), (hl_I nh), am, ex, rm, pt, hd, (hl_I nl), (hl_I nw), cd, ce, pb, cb, ou) := i_up (hl_in C D K hn)
  rcases hl_rng v1 5 5 rfl (by decide) with h1 | ⟨h1, h1', h1''⟩ | ⟨e, he, rfl, h1, h1', -⟩
  · exact hl_mk (-1) stay (fun post hp => br_t h1 (br_t rfl hp)) (fun post hp => by unfold wpY_revoke; dsimp only; exact br_t h1 (br_f (by decide) (br_t h1 hp)))
  · exact hl_mk (-1) stay (fun post hp => br_f h1 (br_t h1' (br_t rfl hp))) (fun post hp => by unfold wpY_revoke; dsimp only; exact br_f h1 (br_f h1'' (br_f (by decide) (br_f h1 (br_f h1'' hp)))))
  have L := hl_k2 C e
  have he6 : vp_in (nI e) 6 := vp_in_nI he (by decide)
  have hce : (nI e).toNatClampNeg = e := nI_clamp (by omega)
  rcases D (e / 2) (by omega) with ⟨o1, o2, o3⟩ | ⟨o1, x, ox, o2, o3, o4⟩
  · by_cases hw : nl e = nw e
    · have q : hl_I nw e = hl_I nl e := congrArg nI hw.symm
      refine hl_mk (-4) stay (fun post hp => ?_) (fun post hp => ?_)
      · unfold wpX_revoke; dsimp only; rw [hl_e2 e he, hce]
        exact br_f h1 (br_f h1' (br_f n1 ⟨n2, hl_xo1 (by omega) o2 (br_f n1 ⟨he6, he6, br_t q hp⟩)⟩))
      · unfold wpY_revoke; dsimp only; rw [hce]
        exact hl_yop1 he o1 (br_t rfl ⟨he6, he6, br_t q hp⟩)
    · have q : ¬ hl_I nw e = hl_I nl e := fun z => hw ((nI_eq (by omega) (by omega)).mp z).symm
      have u1 : upd (hl_I nl) e (hl_I nl e + 1) = hl_I (hl_u nl e (nl e + 1)) := by rw [hl_at, nI_1]; exact hl_upd nl e _
      have u2 : hl_I (hl_u nl e (nl e + 1)) e = nI (nl e + 1) := congrArg nI hl_us
      have new : i_Rel (k + 5) (dep, dly, grd, hgt, wal, kn, (hl_I nc), (hl_I no), (hl_I nh), am, ex, rm, (hl_I na), (hl_I nr), pt, (hl_I ns), (hl_I (hl_u nl e (nl e + 1))), (hl_I nw), (hl_I np), (hl_I nq), cl, pb, ca, ou) (dep, dly, grd, hgt, wal, kn, (hl_I nc), (hl_I no), (hl_I nh), am, ex, rm, pt, hd, (hl_I (hl_u nl e (nl e + 1))), (hl_I nw), cd, ce, pb, cb, ou) := i_up (hl_in (hl_M5 C hw) D K hn)
      refine hl_mk (nI (nl e + 1)) new (fun post hp => ?_) (fun post hp => ?_)
      · unfold wpX_revoke; dsimp only; rw [hl_e2 e he, hce, u1]
        refine br_f h1 (br_f h1' (br_f n1 ⟨n2, hl_xo1 (by omega) o2 (br_f n1 ⟨he6, he6, br_f q ⟨he6, he6, nm_e ⟨he6, ?_⟩⟩⟩)⟩))
        rw [u2]; exact hp
      · unfold wpY_revoke; dsimp only; rw [hce, u1]
        refine hl_yop1 he o1 (br_t rfl ⟨he6, he6, br_f q ⟨he6, he6, nm_e ⟨he6, ?_⟩⟩⟩)
        rw [u2]; exact hp
  · refine hl_mk (-2) stay (fun post hp => ?_) (fun post hp => ?_)
    · unfold wpX_revoke; dsimp only; rw [hl_e2 e he]
      exact br_f h1 (br_f h1' (br_f n1 ⟨n2, hl_xo0 (by omega) ox o2 (br_t rfl hp)⟩))
    · unfold wpY_revoke; dsimp only
      exact hl_yop0 he o1 (br_f (by decide) (hl_yop0 he o1 hp))
theorem hl_tell (C : hl_C nc no nh na nr ns nl nw np nq rm pt hd) (D : hl_D cl ca cd ce cb) (K : hl_K kn) (hn : ∀ j, ns j ≤ k) (v1 v2 v3 : Int32) : hl_out (k + 5) (fun post => wpX_tell post (dep, dly, grd, hgt, wal, kn, (hl_I nc), (hl_I no), (hl_I nh), am, ex, rm, (hl_I na), (hl_I nr), pt, (hl_I ns), (hl_I nl), (hl_I nw), (hl_I np), (hl_I nq), cl, pb, ca, ou) v1 v2 v3) (fun post => wpY_tell post (dep, dly, grd, hgt, wal, kn, (hl_I nc), (hl_I no), (hl_I nh), am, ex, rm, pt, hd, (hl_I nl), (hl_I nw), cd, ce, pb, cb, ou) v1 v2 v3) := by
  have n1 := hl_1n
  have stay : i_Rel (k + 5) (dep, dly, grd, hgt, wal, kn, (hl_I nc), (hl_I no), (hl_I nh), am, ex, rm, (hl_I na), (hl_I nr), pt, (hl_I ns), (hl_I nl), (hl_I nw), (hl_I np), (hl_I nq), cl, pb, ca, ou) (dep, dly, grd, hgt, wal, kn, (hl_I nc), (hl_I no), (hl_I nh), am, ex, rm, pt, hd, (hl_I nl), (hl_I nw), cd, ce, pb, cb, ou) := i_up (hl_in C D K hn)
  rcases hl_rng v1 3 3 rfl (by decide) with h1 | ⟨h1, h1', -⟩ | ⟨p, hp3, rfl, h1, h1', -⟩
  · exact hl_mk (-1) stay (fun post hp => br_t h1 (br_t rfl hp)) (fun post hp => br_t h1 hp)
  · exact hl_mk (-1) stay (fun post hp => br_f h1 (br_t h1' (br_t rfl hp))) (fun post hp => br_f h1 (br_t h1' hp))
  rcases hl_rng v2 3 3 rfl (by decide) with h2 | ⟨h2, h2', -⟩ | ⟨q, hq3, rfl, h2, h2', -⟩
  · exact hl_mk (-1) stay (fun post hp => br_f h1 (br_f h1' (br_f n1 (br_t h2 (br_t rfl hp))))) (fun post hp => br_f h1 (br_f h1' (br_t h2 hp)))
  · exact hl_mk (-1) stay (fun post hp => br_f h1 (br_f h1' (br_f n1 (br_f h2 (br_t h2' (br_t rfl hp)))))) (fun post hp => br_f h1 (br_f h1' (br_f h2 (br_t h2' hp))))
  rcases hl_rng v3 7 7 rfl (by decide) with h3 | ⟨h3, h3', h3''⟩ | ⟨h, hh, rfl, h3, h3', h3''⟩
  · exact hl_mk (-1) stay (fun post hp => br_f h1 (br_f h1' (br_f n1 (br_f h2 (br_f h2' (br_f n1 (br_t h3 (br_t rfl hp)))))))) (fun post hp => br_f h1 (br_f h1' (br_f h2 (br_f h2' (br_t h3 hp)))))
  · exact hl_mk (-1) stay (fun post hp => br_f h1 (br_f h1' (br_f n1 (br_f h2 (br_f h2' (br_f n1 (br_f h3 (br_t h3' (br_t rfl hp))))))))) (fun post hp => br_f h1 (br_f h1' (br_f h2 (br_f h2' (br_f h3 (br_f h3'' hp))))))
  have hin1 : vp_in (nI (p * 8 + h)) 32 := vp_in_nI (by omega) (by decide)
  have hin2 : vp_in (nI (q * 8 + h)) 32 := vp_in_nI (by omega) (by decide)
  have c1 : (nI (p * 8 + h)).toNatClampNeg = p * 8 + h := nI_clamp (by omega)
  have c2 : (nI (q * 8 + h)).toNatClampNeg = q * 8 + h := nI_clamp (by omega)
  rcases hl_g01 grd p with g | g
  · by_cases z : kn (p * 8 + h) = 0
    · refine hl_mk (-7) stay (fun post hp => ?_) (fun post hp => ?_)
      · (unfold wpX_tell; dsimp only; rw [hl_i8 p h, hl_i8 q h, c1, c2]; refine br_f h1 (br_f h1' (br_f n1 (br_f h2 (br_f h2' (br_f n1 (br_f h3 (br_f h3' (br_f n1 ?_)))))))))
        exact hl_xg (br_t g ⟨hin1, br_t z hp⟩)
      · (unfold wpY_tell; dsimp only; rw [hl_i8 p h, hl_i8 q h, c1, c2]; refine br_f h1 (br_f h1' (br_f h2 (br_f h2' (br_f h3 (br_t h3'' ?_))))))
        exact hl_yg (br_t g ⟨hin1, br_t z hp⟩)
    · have new : i_Rel (k + 5) (dep, dly, grd, hgt, wal, (upd kn (q * 8 + h) 1), (hl_I nc), (hl_I no), (hl_I nh), am, ex, rm, (hl_I na), (hl_I nr), pt, (hl_I ns), (hl_I nl), (hl_I nw), (hl_I np), (hl_I nq), cl, pb, ca, ou) (dep, dly, grd, hgt, wal, (upd kn (q * 8 + h) 1), (hl_I nc), (hl_I no), (hl_I nh), am, ex, rm, pt, hd, (hl_I nl), (hl_I nw), cd, ce, pb, cb, ou) := i_up (hl_in C D (hl_Ku K (q * 8 + h)) hn)
      refine hl_mk 0 new (fun post hp => ?_) (fun post hp => ?_)
      · (unfold wpX_tell; dsimp only; rw [hl_i8 p h, hl_i8 q h, c1, c2]; refine br_f h1 (br_f h1' (br_f n1 (br_f h2 (br_f h2' (br_f n1 (br_f h3 (br_f h3' (br_f n1 ?_)))))))))
        exact hl_xg (br_t g ⟨hin1, br_f z ⟨hin2, nm_e hp⟩⟩)
      · (unfold wpY_tell; dsimp only; rw [hl_i8 p h, hl_i8 q h, c1, c2]; refine br_f h1 (br_f h1' (br_f h2 (br_f h2' (br_f h3 (br_t h3'' ?_))))))
        exact hl_yg (br_t g ⟨hin1, br_f z ⟨hin2, nm_e hp⟩⟩)
  · have g' : ¬ hl_g grd p = 0 := by rw [g]; decide
    refine hl_mk (-8) stay (fun post hp => ?_) (fun post hp => ?_)
    · (unfold wpX_tell; dsimp only; rw [hl_i8 p h, hl_i8 q h, c1, c2]; refine br_f h1 (br_f h1' (br_f n1 (br_f h2 (br_f h2' (br_f n1 (br_f h3 (br_f h3' (br_f n1 ?_)))))))))
      exact hl_xg (br_f g' hp)
    · (unfold wpY_tell; dsimp only; rw [hl_i8 p h, hl_i8 q h, c1, c2]; refine br_f h1 (br_f h1' (br_f h2 (br_f h2' (br_f h3 (br_t h3'' ?_))))))
      exact hl_yg (br_f g' hp)
theorem hl_xmk (C : hl_C nc no nh na nr ns nl nw np nq rm pt hd) {post : Int32 → SX → Prop} {e h c m t : Nat} (a x : Int32) (he : e < 6) (hce : e / 2 = c) (hm : nc c = m) (hT : c * 8 + m = t) (hm8 : m < 8) (hp : post (nI m) (dep, dly, grd, hgt, wal, kn, (hl_I (hl_u nc c (m + 1))), (hl_I (hl_u no t e)), (hl_I (hl_u nh t h)), (upd am t a), (upd ex t x), rm, (hl_I (hl_u na t (ns e))), (hl_I nr), (upd pt t 8), (hl_I (hl_u ns e (ns e + 1))), (hl_I nl), (hl_I nw), (hl_I np), (hl_I nq), cl, pb, ca, ou)) : wpX_make post (dep, dly, grd, hgt, wal, kn, (hl_I nc), (hl_I no), (hl_I nh), am, ex, rm, (hl_I na), (hl_I nr), pt, (hl_I ns), (hl_I nl), (hl_I nw), (hl_I np), (hl_I nq), cl, pb, ca, ou) (nI e) (nI h) a x := by
  have hc3 : c < 3 := by omega
  have rT : rm t = 0 := by rw [← hT]; exact hl_k5 C c m hc3 (by omega) hm8
  have ic : vp_in (nI c) 3 := vp_in_nI hc3 (by decide)
  have ie : vp_in (nI e) 6 := vp_in_nI he (by decide)
  have it : vp_in (nI t) 24 := vp_in_nI (by omega) (by decide)
  unfold wpX_make
  dsimp only
  rw [hl_e2 e he, hce]
  refine ⟨hl_2n, nm_e ⟨ic, ?_⟩⟩
  rw [nI_clamp (n := c) (by omega), hl_at nc c, hm]
  refine nm_e ?_
  rw [hl_i8, hT]
  refine nm_e ?_
  rw [nI_clamp (n := t) (by omega), nI_clamp (n := e) (by omega), hl_at ns e, nI_1 (ns e), nI_1 m, hl_upd no t e, hl_upd nh t h, hl_updn rT, hl_upd na t (ns e), hl_upd ns e (ns e + 1), hl_upd nc c (m + 1)]
  exact ⟨it, nm_e ⟨it, nm_e ⟨it, nm_e ⟨it, nm_e ⟨it, nm_e ⟨it, nm_e ⟨ie, it, nm_e ⟨ie, ie, nm_e ⟨ic, ic, nm_e hp⟩⟩⟩⟩⟩⟩⟩⟩⟩
theorem hl_ymk (C : hl_C nc no nh na nr ns nl nw np nq rm pt hd) {post : Int32 → SY → Prop} {e h c m t : Nat} (a x : Int32) (he : e < 6) (hce : e / 2 = c) (hm : nc c = m) (hT : c * 8 + m = t) (hm8 : m < 8) (hp : post (nI m) (dep, dly, grd, hgt, wal, kn, (hl_I (hl_u nc c (m + 1))), (hl_I (hl_u no t e)), (hl_I (hl_u nh t h)), (upd am t a), (upd ex t x), rm, (upd pt t 8), hd, (hl_I nl), (hl_I nw), cd, ce, pb, cb, ou)) : wpY_make post (dep, dly, grd, hgt, wal, kn, (hl_I nc), (hl_I no), (hl_I nh), am, ex, rm, pt, hd, (hl_I nl), (hl_I nw), cd, ce, pb, cb, ou) (nI e) (nI h) a x := by
  have hc3 : c < 3 := by omega
  have ic : vp_in (nI c) 3 := vp_in_nI hc3 (by decide)
  have it : vp_in (nI t) 24 := vp_in_nI (by omega) (by decide)
  have r8 : nI t - nI t / 8 * 8 = nI m := by
    have z := pk_rem (a := t) (d := 8) (by omega) (by decide) (by decide)
    have z2 : t % 8 = m := by omega
    rw [z2] at z
    exact z
  unfold wpY_make
  dsimp only
  rw [hl_e2 e he, hce, nI_clamp (n := c) (by omega), hl_at nc c, hm, hl_i8, hT]
  refine ⟨hl_2n, hl_2n, ic, nm_e ?_⟩
  rw [nI_clamp (n := t) (by omega), nI_1 m, r8, hl_upd no t e, hl_upd nh t h, hl_upd nc c (m + 1)]
  exact ⟨it, nm_e ⟨it, nm_e ⟨it, nm_e ⟨it, nm_e ⟨it, nm_e ⟨hl_2n, ic, ic, nm_e ⟨hl_8n, hp⟩⟩⟩⟩⟩⟩⟩
theorem hl_add (C : hl_C nc no nh na nr ns nl nw np nq rm pt hd) (D : hl_D cl ca cd ce cb) (K : hl_K kn) (hn : ∀ j, ns j ≤ k) (hk : k + 5 ≤ 2563) (v1 v2 v3 v4 : Int32) : hl_out (k + 5) (fun post => wpX_add post (dep, dly, grd, hgt, wal, kn, (hl_I nc), (hl_I no), (hl_I nh), am, ex, rm, (hl_I na), (hl_I nr), pt, (hl_I ns), (hl_I nl), (hl_I nw), (hl_I np), (hl_I nq), cl, pb, ca, ou) v1 v2 v3 v4) (fun post => wpY_add post (dep, dly, grd, hgt, wal, kn, (hl_I nc), (hl_I no), (hl_I nh), am, ex, rm, pt, hd, (hl_I nl), (hl_I nw), cd, ce, pb, cb, ou) v1 v2 v3 v4) := by
  have n1 := hl_1n
  have n2 := hl_2n
  have stay : i_Rel (k + 5) (dep, dly, grd, hgt, wal, kn, (hl_I nc), (hl_I no), (hl_I nh), am, ex, rm, (hl_I na), (hl_I nr), pt, (hl_I ns), (hl_I nl), (hl_I nw), (hl_I np), (hl_I nq), cl, pb, ca, ou) (dep, dly, grd, hgt, wal, kn, (hl_I nc), (hl_I no), (hl_I nh), am, ex, rm, pt, hd, (hl_I nl), (hl_I nw), cd, ce, pb, cb, ou) := i_up (hl_in C D K hn)
  rcases hl_rng v1 5 5 rfl (by decide) with h1 | ⟨h1, h1', -⟩ | ⟨e, he, rfl, h1, h1', -⟩
  · exact hl_mk (-1) stay (fun post hp => br_t h1 (br_t rfl hp)) (fun post hp => br_t h1 hp)
  · exact hl_mk (-1) stay (fun post hp => br_f h1 (br_t h1' (br_t rfl hp))) (fun post hp => br_f h1 (br_t h1' hp))
  rcases hl_rng v2 7 7 rfl (by decide) with h2 | ⟨h2, h2', -⟩ | ⟨h, hh, rfl, h2, h2', -⟩
  · exact hl_mk (-1) stay (fun post hp => br_f h1 (br_f h1' (br_f n1 (br_t h2 (br_t rfl hp))))) (fun post hp => br_f h1 (br_f h1' (br_t h2 hp)))
  · exact hl_mk (-1) stay (fun post hp => br_f h1 (br_f h1' (br_f n1 (br_f h2 (br_t h2' (br_t rfl hp)))))) (fun post hp => br_f h1 (br_f h1' (br_f h2 (br_t h2' hp))))
  by_cases h3 : 1 ≤ v3
  case neg => exact hl_mk (-1) stay (fun post hp => br_f h1 (br_f h1' (br_f n1 (br_f h2 (br_f h2' (br_f n1 (br_f h3 hp))))))) (fun post hp => br_f h1 (br_f h1' (br_f h2 (br_f h2' (br_f h3 hp)))))
  have hc3 : vp_in (nI (e / 2)) 3 := vp_in_nI (by omega) (by decide)
  have hcl : (nI (e / 2)).toNatClampNeg = e / 2 := nI_clamp (by omega)
  have B := (hl_k1 C (e / 2)).1
  rcases D (e / 2) (by omega) with ⟨o1, o2, o3⟩ | ⟨o1, x, ox, o2, o3, o4⟩
  case inr =>
    have c0 : ¬ cd (e / 2) = 0 := by rw [o1]; decide
    refine hl_mk (-2) stay (fun post hp => ?_) (fun post hp => ?_)
    · (unfold wpX_add; dsimp only; rw [hl_e2 e he, hcl]; refine br_f h1 (br_f h1' (br_f n1 (br_f h2 (br_f h2' (br_f n1 (br_t h3 ⟨n2, ?_⟩)))))))
      exact hl_xo0 (by omega) ox o2 (br_t rfl hp)
    · (unfold wpY_add; dsimp only; rw [hl_e2 e he, hcl]; refine br_f h1 (br_f h1' (br_f h2 (br_f h2' (br_t h3 ⟨n2, hc3, ?_⟩)))))
      exact br_f c0 hp
  by_cases hf : nc (e / 2) < 8
  case neg =>
    have q1 : ¬ hl_I nc (e / 2) < 8 := nI_nlt (b := 8) (by omega) (by omega)
    have q2 : hl_I nc (e / 2) = 8 := congrArg nI (show nc (e / 2) = 8 by omega)
    refine hl_mk (-3) stay (fun post hp => ?_) (fun post hp => ?_)
    · (unfold wpX_add; dsimp only; rw [hl_e2 e he, hcl]; refine br_f h1 (br_f h1' (br_f n1 (br_f h2 (br_f h2' (br_f n1 (br_t h3 ⟨n2, ?_⟩)))))))
      exact hl_xo1 (by omega) o2 (br_f n1 ⟨n2, hc3, br_f q1 hp⟩)
    · (unfold wpY_add; dsimp only; rw [hl_e2 e he, hcl]; refine br_f h1 (br_f h1' (br_f h2 (br_f h2' (br_t h3 ⟨n2, hc3, ?_⟩)))))
      exact br_t o1 ⟨n2, hc3, br_t q2 hp⟩
  have q1 : hl_I nc (e / 2) < 8 := nI_lt (b := 8) hf (by decide)
  have q2 : ¬ hl_I nc (e / 2) = 8 := fun z => absurd ((nI_eq (b := 8) (by omega) (by decide)).mp z) (by omega)
  by_cases g1 : v4 ≤ hgt + dly
  case pos =>
    refine hl_mk (-5) stay (fun post hp => ?_) (fun post hp => ?_)
    · (unfold wpX_add; dsimp only; rw [hl_e2 e he, hcl]; refine br_f h1 (br_f h1' (br_f n1 (br_f h2 (br_f h2' (br_f n1 (br_t h3 ⟨n2, ?_⟩)))))))
      exact hl_xo1 (by omega) o2 (br_f n1 ⟨n2, hc3, br_t q1 (br_t g1 (br_t rfl hp))⟩)
    · (unfold wpY_add; dsimp only; rw [hl_e2 e he, hcl]; refine br_f h1 (br_f h1' (br_f h2 (br_f h2' (br_t h3 ⟨n2, hc3, ?_⟩)))))
      exact br_t o1 ⟨n2, hc3, br_f q2 (br_t g1 hp)⟩
  by_cases g2 : v4 ≤ 250
  case neg =>
    have g2' : 250 < v4 := Int32.not_le.mp g2
    refine hl_mk (-5) stay (fun post hp => ?_) (fun post hp => ?_)
    · (unfold wpX_add; dsimp only; rw [hl_e2 e he, hcl]; refine br_f h1 (br_f h1' (br_f n1 (br_f h2 (br_f h2' (br_f n1 (br_t h3 ⟨n2, ?_⟩)))))))
      exact hl_xo1 (by omega) o2 (br_f n1 ⟨n2, hc3, br_t q1 (br_f g1 (br_t g2' (br_t rfl hp)))⟩)
    · (unfold wpY_add; dsimp only; rw [hl_e2 e he, hcl]; refine br_f h1 (br_f h1' (br_f h2 (br_f h2' (br_t h3 ⟨n2, hc3, ?_⟩)))))
      exact br_t o1 ⟨n2, hc3, br_f q2 (br_f g1 (br_f g2 hp))⟩
  have g2' : ¬ 250 < v4 := Int32.not_lt.mpr g2
  obtain ⟨r, sX, sY⟩ := hl_spW (dep := dep) (dly := dly) (grd := grd) (hgt := hgt) (wal := wal) (kn := kn) (am := am) (ex := ex) (cl := cl) (pb := pb) (ca := ca) (ou := ou) (cd := cd) (ce := ce) (cb := cb) C he
  by_cases g3 : v3 ≤ r
  case neg =>
    refine hl_mk (-6) stay (fun post hp => ?_) (fun post hp => ?_)
    · (unfold wpX_add; dsimp only; rw [hl_e2 e he, hcl]; refine br_f h1 (br_f h1' (br_f n1 (br_f h2 (br_f h2' (br_f n1 (br_t h3 ⟨n2, ?_⟩)))))))
      exact hl_xo1 (by omega) o2 (br_f n1 ⟨n2, hc3, br_t q1 (br_f g1 (br_f g2' (br_f n1 (sX _ (br_f g3 hp)))))⟩)
    · (unfold wpY_add; dsimp only; rw [hl_e2 e he, hcl]; refine br_f h1 (br_f h1' (br_f h2 (br_f h2' (br_t h3 ⟨n2, hc3, ?_⟩)))))
      exact br_t o1 ⟨n2, hc3, br_f q2 (br_f g1 (br_t g2 (sY _ (br_f g3 hp))))⟩
  have hs : ns e + 1 ≤ 2563 := by have := hn e; omega
  have new : i_Rel (k + 5) (dep, dly, grd, hgt, wal, kn, (hl_I (hl_u nc (e / 2) (nc (e / 2) + 1))), (hl_I (hl_u no (e / 2 * 8 + nc (e / 2)) e)), (hl_I (hl_u nh (e / 2 * 8 + nc (e / 2)) h)), (upd am (e / 2 * 8 + nc (e / 2)) v3), (upd ex (e / 2 * 8 + nc (e / 2)) v4), rm, (hl_I (hl_u na (e / 2 * 8 + nc (e / 2)) (ns e))), (hl_I nr), (upd pt (e / 2 * 8 + nc (e / 2)) 8), (hl_I (hl_u ns e (ns e + 1))), (hl_I nl), (hl_I nw), (hl_I np), (hl_I nq), cl, pb, ca, ou) (dep, dly, grd, hgt, wal, kn, (hl_I (hl_u nc (e / 2) (nc (e / 2) + 1))), (hl_I (hl_u no (e / 2 * 8 + nc (e / 2)) e)), (hl_I (hl_u nh (e / 2 * 8 + nc (e / 2)) h)), (upd am (e / 2 * 8 + nc (e / 2)) v3), (upd ex (e / 2 * 8 + nc (e / 2)) v4), rm, (upd pt (e / 2 * 8 + nc (e / 2)) 8), hd, (hl_I nl), (hl_I nw), cd, ce, pb, cb, ou) := hl_in (hl_M1 C he hh rfl rfl rfl hf hs) D K (hl_nu hn)
  refine hl_mk (nI (nc (e / 2))) new (fun post hp => ?_) (fun post hp => ?_)
  · (unfold wpX_add; dsimp only; rw [hl_e2 e he, hcl]; refine br_f h1 (br_f h1' (br_f n1 (br_f h2 (br_f h2' (br_f n1 (br_t h3 ⟨n2, ?_⟩)))))))
    exact hl_xo1 (by omega) o2 (br_f n1 ⟨n2, hc3, br_t q1 (br_f g1 (br_f g2' (br_f n1 (sX _ (br_t g3 (hl_xmk C v3 v4 he rfl rfl rfl hf hp))))))⟩)
  · (unfold wpY_add; dsimp only; rw [hl_e2 e he, hcl]; refine br_f h1 (br_f h1' (br_f h2 (br_f h2' (br_t h3 ⟨n2, hc3, ?_⟩)))))
    exact br_t o1 ⟨n2, hc3, br_f q2 (br_f g1 (br_t g2 (sY _ (br_t g3 (hl_ymk C v3 v4 he rfl rfl rfl hf hp)))))⟩
end
end
section
/-! forward -/
theorem hl_o1 : ∀ e, e < 6 → 1 ≤ e → e % 2 = 0 → nI e - 1 = nI (hl_o e) := by decide +kernel
theorem hl_o2 : ∀ e, e < 6 → 1 ≤ e → e % 2 ≠ 0 → nI e + 1 = nI (hl_o e) := by decide +kernel
section
variable {dep dly grd hgt : Int32} {wal kn am ex rm pt cl pb ca ou hd cd ce cb : Nat → Int32} {nc no nh na nr ns nl nw np nq : Nat → Nat}
variable {k : Nat}
theorem hl_yfw {post : Int32 → SY → Prop} {e i : Nat} {v : Int32} (he : e < 6) (h1 : 1 ≤ e) (h4 : e ≤ 4) (hi : i < 8) (h : wY_forward_37 post (nI e) (nI i) v (nI (hl_o e)) dep dly grd hgt wal kn (hl_I nc) (hl_I no) (hl_I nh) am ex rm pt hd (hl_I nl) (hl_I nw) cd ce pb cb ou) : wpY_forward post (dep, dly, grd, hgt, wal, kn, (hl_I nc), (hl_I no), (hl_I nh), am, ex, rm, pt, hd, (hl_I nl), (hl_I nw), cd, ce, pb, cb, ou) (nI e) (nI i) v := by
  unfold wpY_forward
  dsimp only
  rw [hl_em e he]
  refine br_f (nI_nlt (b := 1) h1 (by omega)) (br_f (nI_nlt (a := 4) h4 (by decide)) (br_f (hl_i0 i hi) (br_t (hl_i7' i hi) ⟨hl_2n, pk_eq (e % 2) 0 (fun z => ?_) (fun z => ?_)⟩)))
  · rw [hl_o1 e he h1 z]; exact h
  · rw [hl_o2 e he h1 z]; exact h
theorem hl_rbt (C : hl_C nc no nh na nr ns nl nw np nq rm pt hd) {e i : Nat} (h : hl_rb nc no na nl np nq rm e i = true) : i < nc (e / 2) ∧ no (e / 2 * 8 + i) ≠ e ∧ rm (e / 2 * 8 + i) = 0 := by
  unfold hl_rb at h
  rw [Bool.and_eq_true, Bool.and_eq_true, Bool.and_eq_true] at h
  exact ⟨of_decide_eq_true h.1, of_decide_eq_true h.2.1, of_decide_eq_true h.2.2.1⟩
theorem hl_forward (C : hl_C nc no nh na nr ns nl nw np nq rm pt hd) (D : hl_D cl ca cd ce cb) (K : hl_K kn) (hn : ∀ j, ns j ≤ k) (hk : k + 5 ≤ 2563) (v1 v2 v3 : Int32) : hl_out (k + 5) (fun post => wpX_forward post (dep, dly, grd, hgt, wal, kn, (hl_I nc), (hl_I no), (hl_I nh), am, ex, rm, (hl_I na), (hl_I nr), pt, (hl_I ns), (hl_I nl), (hl_I nw), (hl_I np), (hl_I nq), cl, pb, ca, ou) v1 v2 v3) (fun post => wpY_forward post (dep, dly, grd, hgt, wal, kn, (hl_I nc), (hl_I no), (hl_I nh), am, ex, rm, pt, hd, (hl_I nl), (hl_I nw), cd, ce, pb, cb, ou) v1 v2 v3) := by
  have n1 := hl_1n
  have n2 := hl_2n
  have stay : i_Rel (k + 5) (dep, dly, grd, hgt, wal, kn, (hl_I nc), (hl_I no), (hl_I nh), am, ex, rm, (hl_I na), (hl_I nr), pt, (hl_I ns), (hl_I nl), (hl_I nw), (hl_I np), (hl_I nq), cl, pb, ca, ou) (dep, dly, grd, hgt, wal, kn, (hl_I nc), (hl_I no), (hl_I nh), am, ex, rm, pt, hd, (hl_I nl), (hl_I nw), cd, ce, pb, cb, ou) := i_up (hl_in C D K hn)
  by_cases h1 : v1 < 1
  · exact hl_mk (-1) stay (fun post hp => br_t h1 hp) (fun post hp => br_t h1 hp)
  rcases hl_rng v1 4 4 rfl (by decide) with z | ⟨-, h1', -⟩ | ⟨e, he, rfl, -, h1', -⟩
  · exact absurd (Int32.lt_trans z (by decide)) h1
  · exact hl_mk (-1) stay (fun post hp => br_f h1 (br_t h1' hp)) (fun post hp => br_f h1 (br_t h1' hp))
  have h1e : 1 ≤ e := by
    rcases Nat.eq_zero_or_pos e with z | z
    · exact absurd (show nI e < 1 by rw [z]; decide) h1
    · exact z
  rcases hl_rng v2 7 7 rfl (by decide) with h2 | ⟨h2, h2', h2''⟩ | ⟨i, hi, rfl, h2, h2', -⟩
  · exact hl_mk (-1) stay (fun post hp => br_f h1 (br_f h1' (br_t h2 (br_t rfl hp)))) (fun post hp => br_f h1 (br_f h1' (br_t h2 hp)))
  · exact hl_mk (-1) stay (fun post hp => br_f h1 (br_f h1' (br_f h2 (br_t h2' (br_t rfl hp))))) (fun post hp => br_f h1 (br_f h1' (br_f h2 (br_f h2'' hp))))
  have he6 : e < 6 := by omega
  have h4e : e ≤ 4 := by omega
  have ho := hl_o6 e he6 h1e h4e
  have hod := hl_od e he6 h1e h4e
  have hc3 : e / 2 < 3 := by omega
  have hd3 : hl_o e / 2 < 3 := by omega
  have ht : e / 2 * 8 + i < 24 := by omega
  have ic : vp_in (nI (e / 2)) 3 := vp_in_nI hc3 (by decide)
  have id : vp_in (nI (hl_o e / 2)) 3 := vp_in_nI hd3 (by decide)
  have it : vp_in (nI (e / 2 * 8 + i)) 24 := vp_in_nI ht (by decide)
  have hcc : (nI (e / 2)).toNatClampNeg = e / 2 := nI_clamp (by omega)
  have hcd : (nI (hl_o e / 2)).toNatClampNeg = hl_o e / 2 := nI_clamp (by omega)
  have hct : (nI (e / 2 * 8 + i)).toNatClampNeg = e / 2 * 8 + i := nI_clamp (by omega)
  have B := (hl_k1 C (hl_o e / 2)).1
  have Bt := hl_k1 C (e / 2 * 8 + i)
  rcases D (e / 2) hc3 with ⟨o1, o2, o3⟩ | ⟨o1, x, ox, o2, o3, o4⟩
  case inr =>
    have c0 : ¬ cd (e / 2) = 0 := by rw [o1]; decide
    refine hl_mk (-2) stay (fun post hp => ?_) (fun post hp => ?_)
    · (unfold wpX_forward; dsimp only; refine br_f h1 (br_f h1' (br_f h2 (br_f h2' (br_f n1 (hl_xother he6 h1e ⟨n2, ?_⟩))))); rw [hl_e2 e he6, hl_e2 (hl_o e) ho, hl_i8, hcd])
      exact hl_xo0 hc3 ox o2 (br_t rfl hp)
    · (refine hl_yfw he6 h1e h4e hi ?_; unfold wY_forward_37; rw [hl_e2 e he6, hl_e2 (hl_o e) ho, hl_i8, hcc, hcd]; refine ⟨n2, nm_e ⟨n2, ic, ?_⟩⟩)
      exact br_f c0 hp
  rcases D (hl_o e / 2) hd3 with ⟨q1, q2, q3⟩ | ⟨q1, x, qx, q2, q3, q4⟩
  case inr =>
    have c0 : ¬ cd (hl_o e / 2) = 0 := by rw [q1]; decide
    refine hl_mk (-2) stay (fun post hp => ?_) (fun post hp => ?_)
    · (unfold wpX_forward; dsimp only; refine br_f h1 (br_f h1' (br_f h2 (br_f h2' (br_f n1 (hl_xother he6 h1e ⟨n2, ?_⟩))))); rw [hl_e2 e he6, hl_e2 (hl_o e) ho, hl_i8, hcd])
      exact hl_xo1 hc3 o2 (br_f n1 ⟨n2, hl_xo0 hd3 qx q2 (br_t rfl hp)⟩)
    · (refine hl_yfw he6 h1e h4e hi ?_; unfold wY_forward_37; rw [hl_e2 e he6, hl_e2 (hl_o e) ho, hl_i8, hcc, hcd]; refine ⟨n2, nm_e ⟨n2, ic, ?_⟩⟩)
      exact br_t o1 ⟨n2, id, br_f c0 hp⟩
  cases hb : hl_rb nc no na nl np nq rm e i
  case false =>
    refine hl_mk (-4) stay (fun post hp => ?_) (fun post hp => ?_)
    · ((unfold wpX_forward; dsimp only; refine br_f h1 (br_f h1' (br_f h2 (br_f h2' (br_f n1 (hl_xother he6 h1e ⟨n2, ?_⟩))))); rw [hl_e2 e he6, hl_e2 (hl_o e) ho, hl_i8, hcd]); refine hl_xo1 hc3 o2 (br_f n1 ⟨n2, hl_xo1 hd3 q2 (br_f n1 ⟨n2, nm_e (hl_xrm C he6 hi ?_)⟩)⟩); rw [hct])
      rw [hb]
      exact br_t rfl hp
    · ((refine hl_yfw he6 h1e h4e hi ?_; unfold wY_forward_37; rw [hl_e2 e he6, hl_e2 (hl_o e) ho, hl_i8, hcc, hcd]; refine ⟨n2, nm_e ⟨n2, ic, ?_⟩⟩); refine br_t o1 ⟨n2, id, br_t q1 (hl_yst C he6 hi o1 ?_)⟩; rw [hct])
      rw [hb, if_neg (by decide)]
      exact br_f (by decide) hp
  obtain ⟨hi', hno, hrm⟩ := hl_rbt C hb
  by_cases hpt : pt (e / 2 * 8 + i) = 8
  case neg =>
    refine hl_mk (-4) stay (fun post hp => ?_) (fun post hp => ?_)
    · ((unfold wpX_forward; dsimp only; refine br_f h1 (br_f h1' (br_f h2 (br_f h2' (br_f n1 (hl_xother he6 h1e ⟨n2, ?_⟩))))); rw [hl_e2 e he6, hl_e2 (hl_o e) ho, hl_i8, hcd]); refine hl_xo1 hc3 o2 (br_f n1 ⟨n2, hl_xo1 hd3 q2 (br_f n1 ⟨n2, nm_e (hl_xrm C he6 hi ?_)⟩)⟩); rw [hct])
      rw [hb, hl_bt]
      exact br_f n1 ⟨it, br_f hpt hp⟩
    · ((refine hl_yfw he6 h1e h4e hi ?_; unfold wY_forward_37; rw [hl_e2 e he6, hl_e2 (hl_o e) ho, hl_i8, hcc, hcd]; refine ⟨n2, nm_e ⟨n2, ic, ?_⟩⟩); refine br_t o1 ⟨n2, id, br_t q1 (hl_yst C he6 hi o1 ?_)⟩; rw [hct])
      rw [hb, if_pos rfl]
      exact br_t rfl ⟨it, br_f hpt hp⟩
  by_cases hf : nc (hl_o e / 2) < 8
  case neg =>
    have f1 : ¬ hl_I nc (hl_o e / 2) < 8 := nI_nlt (b := 8) (by omega) (by omega)
    have f2 : hl_I nc (hl_o e / 2) = 8 := congrArg nI (show nc (hl_o e / 2) = 8 by omega)
    refine hl_mk (-3) stay (fun post hp => ?_) (fun post hp => ?_)
    · ((unfold wpX_forward; dsimp only; refine br_f h1 (br_f h1' (br_f h2 (br_f h2' (br_f n1 (hl_xother he6 h1e ⟨n2, ?_⟩))))); rw [hl_e2 e he6, hl_e2 (hl_o e) ho, hl_i8, hcd]); refine hl_xo1 hc3 o2 (br_f n1 ⟨n2, hl_xo1 hd3 q2 (br_f n1 ⟨n2, nm_e (hl_xrm C he6 hi ?_)⟩)⟩); rw [hct])
      rw [hb, hl_bt]
      exact br_f n1 ⟨it, br_t hpt ⟨n2, id, br_f f1 hp⟩⟩
    · ((refine hl_yfw he6 h1e h4e hi ?_; unfold wY_forward_37; rw [hl_e2 e he6, hl_e2 (hl_o e) ho, hl_i8, hcc, hcd]; refine ⟨n2, nm_e ⟨n2, ic, ?_⟩⟩); refine br_t o1 ⟨n2, id, br_t q1 (hl_yst C he6 hi o1 ?_)⟩; rw [hct])
      rw [hb, if_pos rfl]
      exact br_t rfl ⟨it, br_t hpt ⟨n2, id, br_t f2 hp⟩⟩
  have f1 : hl_I nc (hl_o e / 2) < 8 := nI_lt (b := 8) hf (by decide)
  have f2 : ¬ hl_I nc (hl_o e / 2) = 8 := fun z => absurd ((nI_eq (b := 8) (by omega) (by decide)).mp z) (by omega)
  by_cases g1 : v3 ≤ hgt + dly
  case pos =>
    refine hl_mk (-5) stay (fun post hp => ?_) (fun post hp => ?_)
    · ((unfold wpX_forward; dsimp only; refine br_f h1 (br_f h1' (br_f h2 (br_f h2' (br_f n1 (hl_xother he6 h1e ⟨n2, ?_⟩))))); rw [hl_e2 e he6, hl_e2 (hl_o e) ho, hl_i8, hcd]); refine hl_xo1 hc3 o2 (br_f n1 ⟨n2, hl_xo1 hd3 q2 (br_f n1 ⟨n2, nm_e (hl_xrm C he6 hi ?_)⟩)⟩); rw [hct])
      rw [hb, hl_bt]
      exact br_f n1 ⟨it, br_t hpt ⟨n2, id, br_t f1 (br_t g1 (br_t rfl hp))⟩⟩
    · ((refine hl_yfw he6 h1e h4e hi ?_; unfold wY_forward_37; rw [hl_e2 e he6, hl_e2 (hl_o e) ho, hl_i8, hcc, hcd]; refine ⟨n2, nm_e ⟨n2, ic, ?_⟩⟩); refine br_t o1 ⟨n2, id, br_t q1 (hl_yst C he6 hi o1 ?_)⟩; rw [hct])
      rw [hb, if_pos rfl]
      exact br_t rfl ⟨it, br_t hpt ⟨n2, id, br_f f2 (br_t g1 hp)⟩⟩
  by_cases g2 : v3 ≤ 250
  case neg =>
    have g2' : 250 < v3 := Int32.not_le.mp g2
    refine hl_mk (-5) stay (fun post hp => ?_) (fun post hp => ?_)
    · ((unfold wpX_forward; dsimp only; refine br_f h1 (br_f h1' (br_f h2 (br_f h2' (br_f n1 (hl_xother he6 h1e ⟨n2, ?_⟩))))); rw [hl_e2 e he6, hl_e2 (hl_o e) ho, hl_i8, hcd]); refine hl_xo1 hc3 o2 (br_f n1 ⟨n2, hl_xo1 hd3 q2 (br_f n1 ⟨n2, nm_e (hl_xrm C he6 hi ?_)⟩)⟩); rw [hct])
      rw [hb, hl_bt]
      exact br_f n1 ⟨it, br_t hpt ⟨n2, id, br_t f1 (br_f g1 (br_t g2' (br_t rfl hp)))⟩⟩
    · ((refine hl_yfw he6 h1e h4e hi ?_; unfold wY_forward_37; rw [hl_e2 e he6, hl_e2 (hl_o e) ho, hl_i8, hcc, hcd]; refine ⟨n2, nm_e ⟨n2, ic, ?_⟩⟩); refine br_t o1 ⟨n2, id, br_t q1 (hl_yst C he6 hi o1 ?_)⟩; rw [hct])
      rw [hb, if_pos rfl]
      exact br_t rfl ⟨it, br_t hpt ⟨n2, id, br_f f2 (br_f g1 (br_f g2 hp))⟩⟩
  have g2' : ¬ 250 < v3 := Int32.not_lt.mpr g2
  by_cases hg : hl_g grd ((e + 1) / 2) = 0 ∨ v3 + dly + 2 ≤ ex (e / 2 * 8 + i)
  case neg =>
    have a1 : ¬ hl_g grd ((e + 1) / 2) = 0 := fun z => hg (Or.inl z)
    have a2 : ¬ v3 + dly + 2 ≤ ex (e / 2 * 8 + i) := fun z => hg (Or.inr z)
    refine hl_mk (-8) stay (fun post hp => ?_) (fun post hp => ?_)
    · (((unfold wpX_forward; dsimp only; refine br_f h1 (br_f h1' (br_f h2 (br_f h2' (br_f n1 (hl_xother he6 h1e ⟨n2, ?_⟩))))); rw [hl_e2 e he6, hl_e2 (hl_o e) ho, hl_i8, hcd]); refine hl_xo1 hc3 o2 (br_f n1 ⟨n2, hl_xo1 hd3 q2 (br_f n1 ⟨n2, nm_e (hl_xrm C he6 hi ?_)⟩)⟩); rw [hct]); rw [hb, hl_bt]; refine br_f n1 ⟨it, br_t hpt ⟨n2, id, br_t f1 (br_f g1 (br_f g2' (br_f n1 (hl_xge he6 ?_))))⟩⟩)
      exact br_f a1 ⟨it, br_f a2 hp⟩
    · (((refine hl_yfw he6 h1e h4e hi ?_; unfold wY_forward_37; rw [hl_e2 e he6, hl_e2 (hl_o e) ho, hl_i8, hcc, hcd]; refine ⟨n2, nm_e ⟨n2, ic, ?_⟩⟩); refine br_t o1 ⟨n2, id, br_t q1 (hl_yst C he6 hi o1 ?_)⟩; rw [hct]); rw [hb, if_pos rfl, hl_ep e he6]; refine br_t rfl ⟨it, br_t hpt ⟨n2, id, br_f f2 (br_f g1 (br_t g2 ⟨n2, hl_yg ?_⟩))⟩⟩)
      exact br_f a1 ⟨it, br_f a2 hp⟩
  obtain ⟨r, sX, sY⟩ := hl_spW (dep := dep) (dly := dly) (grd := grd) (hgt := hgt) (wal := wal) (kn := kn) (am := am) (ex := ex) (cl := cl) (pb := pb) (ca := ca) (ou := ou) (cd := cd) (ce := ce) (cb := cb) C ho
  have xg : ∀ post : Int32 → SX → Prop, wX_forward_144 post v3 (nI (hl_o e)) (nI (e / 2 * 8 + i)) dep dly grd hgt wal kn (hl_I nc) (hl_I no) (hl_I nh) am ex rm (hl_I na) (hl_I nr) pt (hl_I ns) (hl_I nl) (hl_I nw) (hl_I np) (hl_I nq) cl pb ca ou → wpX_forward post (dep, dly, grd, hgt, wal, kn, (hl_I nc), (hl_I no), (hl_I nh), am, ex, rm, (hl_I na), (hl_I nr), pt, (hl_I ns), (hl_I nl), (hl_I nw), (hl_I np), (hl_I nq), cl, pb, ca, ou) (nI e) (nI i) v3 := by
    intro post hp
    (((unfold wpX_forward; dsimp only; refine br_f h1 (br_f h1' (br_f h2 (br_f h2' (br_f n1 (hl_xother he6 h1e ⟨n2, ?_⟩))))); rw [hl_e2 e he6, hl_e2 (hl_o e) ho, hl_i8, hcd]); refine hl_xo1 hc3 o2 (br_f n1 ⟨n2, hl_xo1 hd3 q2 (br_f n1 ⟨n2, nm_e (hl_xrm C he6 hi ?_)⟩)⟩); rw [hct]); rw [hb, hl_bt]; refine br_f n1 ⟨it, br_t hpt ⟨n2, id, br_t f1 (br_f g1 (br_f g2' (br_f n1 (hl_xge he6 ?_))))⟩⟩)
    rcases hg with z | z
    · exact br_t z hp
    · exact br_c (fun _ => hp) (fun _ => ⟨it, br_t z hp⟩)
  have yg : ∀ post : Int32 → SY → Prop, wY_forward_172 post v3 (nI (hl_o e)) (nI (e / 2 * 8 + i)) dep dly grd hgt wal kn (hl_I nc) (hl_I no) (hl_I nh) am ex rm pt hd (hl_I nl) (hl_I nw) cd ce pb cb ou → wpY_forward post (dep, dly, grd, hgt, wal, kn, (hl_I nc), (hl_I no), (hl_I nh), am, ex, rm, pt, hd, (hl_I nl), (hl_I nw), cd, ce, pb, cb, ou) (nI e) (nI i) v3 := by
    intro post hp
    (((refine hl_yfw he6 h1e h4e hi ?_; unfold wY_forward_37; rw [hl_e2 e he6, hl_e2 (hl_o e) ho, hl_i8, hcc, hcd]; refine ⟨n2, nm_e ⟨n2, ic, ?_⟩⟩); refine br_t o1 ⟨n2, id, br_t q1 (hl_yst C he6 hi o1 ?_)⟩; rw [hct]); rw [hb, if_pos rfl, hl_ep e he6]; refine br_t rfl ⟨it, br_t hpt ⟨n2, id, br_f f2 (br_f g1 (br_t g2 ⟨n2, hl_yg ?_⟩))⟩⟩)
    rcases hg with z | z
    · exact br_t z hp
    · exact br_c (fun _ => hp) (fun _ => ⟨it, br_t z hp⟩)
  by_cases g3 : am (e / 2 * 8 + i) ≤ r
  case neg =>
    refine hl_mk (-6) stay (fun post hp => xg post ?_) (fun post hp => yg post ?_)
    · unfold wX_forward_144; rw [hct]
      exact sX _ ⟨it, br_f g3 hp⟩
    · unfold wY_forward_172; rw [hct]
      exact sY _ ⟨it, br_f g3 hp⟩
  have hs : ns (hl_o e) + 1 ≤ 2563 := by have := hn (hl_o e); omega
  have C2 := hl_M1 C ho Bt.2.2.1 rfl rfl rfl hf hs
  have k4 := (hl_k4 C (e / 2) i hc3 hi').1
  have hx : hl_x (no (e / 2 * 8 + i)) = e := by rw [hl_xp e he6 _ Bt.2.1 k4 hno]; exact hl_xx e he6
  obtain ⟨m, hm⟩ : ∃ m, nc (hl_o e / 2) = m := ⟨_, rfl⟩
  obtain ⟨d, hd2⟩ : ∃ d, hl_o e / 2 = d := ⟨_, rfl⟩
  rw [hd2] at C2 hm hod hf hd3
  rw [hm] at C2 hf
  have tne : e / 2 * 8 + i ≠ d * 8 + m := by omega
  have C3 := hl_M2 (t := e / 2 * 8 + i) (j := m) C2 (by rw [hl_un tne, hx]; exact h1e) (by rw [hl_un tne, hx]; exact h4e) (by rw [hl_un tne, hx, hd2, hl_us]; omega) (by rw [hl_un tne, hx, hd2, hl_us, hl_un tne])
  have new : i_Rel (k + 5) (dep, dly, grd, hgt, wal, kn, (hl_I (hl_u nc d (m + 1))), (hl_I (hl_u no (d * 8 + m) (hl_o e))), (hl_I (hl_u nh (d * 8 + m) (nh (e / 2 * 8 + i)))), (upd am (d * 8 + m) (am (e / 2 * 8 + i))), (upd ex (d * 8 + m) v3), rm, (hl_I (hl_u na (d * 8 + m) (ns (hl_o e)))), (hl_I nr), (upd (upd pt (d * 8 + m) 8) (e / 2 * 8 + i) (nI m)), (hl_I (hl_u ns (hl_o e) (ns (hl_o e) + 1))), (hl_I nl), (hl_I nw), (hl_I np), (hl_I nq), cl, pb, ca, ou) (dep, dly, grd, hgt, wal, kn, (hl_I (hl_u nc d (m + 1))), (hl_I (hl_u no (d * 8 + m) (hl_o e))), (hl_I (hl_u nh (d * 8 + m) (nh (e / 2 * 8 + i)))), (upd am (d * 8 + m) (am (e / 2 * 8 + i))), (upd ex (d * 8 + m) v3), rm, (upd (upd pt (d * 8 + m) 8) (e / 2 * 8 + i) (nI m)), hd, (hl_I nl), (hl_I nw), cd, ce, pb, cb, ou) := hl_in C3 D K (hl_nu hn)
  refine hl_mk (nI m) new (fun post hp => xg post ?_) (fun post hp => yg post ?_)
  · unfold wX_forward_144; rw [hct]
    exact sX _ ⟨it, br_t g3 ⟨it, it, hl_xmk C (h := nh (e / 2 * 8 + i)) _ v3 ho hd2 hm rfl hf ⟨it, nm_e hp⟩⟩⟩
  · unfold wY_forward_172; rw [hct]
    refine sY _ ⟨it, br_t g3 ⟨it, it, hl_ymk C (h := nh (e / 2 * 8 + i)) _ v3 ho hd2 hm rfl hf ⟨it, nm_e ⟨it, ?_⟩⟩⟩⟩
    rw [pk_us]; exact hp
end
end
section
/-! fulfil, fail -/
section
variable {dep dly grd hgt : Int32} {wal kn am ex rm pt cl pb ca ou hd cd ce cb : Nat → Int32} {nc no nh na nr ns nl nw np nq : Nat → Nat}
variable {k : Nat}
theorem hl_chk (C : hl_C nc no nh na nr ns nl nw np nq rm pt hd) (D : hl_D cl ca cd ce cb) (v1 v2 : Int32) : (∃ r : Int32, ¬ r = 0 ∧ (∀ post : Int32 → Prop, post r → wpX_checkRemoval post (dep, dly, grd, hgt, wal, kn, (hl_I nc), (hl_I no), (hl_I nh), am, ex, rm, (hl_I na), (hl_I nr), pt, (hl_I ns), (hl_I nl), (hl_I nw), (hl_I np), (hl_I nq), cl, pb, ca, ou) v1 v2) ∧ (∀ post : Int32 → Prop, post r → wpY_stage post (dep, dly, grd, hgt, wal, kn, (hl_I nc), (hl_I no), (hl_I nh), am, ex, rm, pt, hd, (hl_I nl), (hl_I nw), cd, ce, pb, cb, ou) v1 v2)) ∨ (∃ e i : Nat, e < 6 ∧ i < nc (e / 2) ∧ v1 = nI e ∧ v2 = nI i ∧ no (e / 2 * 8 + i) ≠ e ∧ rm (e / 2 * 8 + i) = 0 ∧ (∀ post : Int32 → Prop, post 0 → wpX_checkRemoval post (dep, dly, grd, hgt, wal, kn, (hl_I nc), (hl_I no), (hl_I nh), am, ex, rm, (hl_I na), (hl_I nr), pt, (hl_I ns), (hl_I nl), (hl_I nw), (hl_I np), (hl_I nq), cl, pb, ca, ou) v1 v2) ∧ (∀ post : Int32 → Prop, post 0 → wpY_stage post (dep, dly, grd, hgt, wal, kn, (hl_I nc), (hl_I no), (hl_I nh), am, ex, rm, pt, hd, (hl_I nl), (hl_I nw), cd, ce, pb, cb, ou) v1 v2)) := by
  have n1 := hl_1n
  have n2 := hl_2n
  rcases hl_rng v1 5 5 rfl (by decide) with h1 | ⟨h1, h1', -⟩ | ⟨e, he, rfl, h1, h1', -⟩
  · exact Or.inl ⟨-1, by decide, fun post hp => br_t h1 (br_t rfl hp), fun post hp => br_t h1 hp⟩
  · exact Or.inl ⟨-1, by decide, fun post hp => br_f h1 (br_t h1' (br_t rfl hp)), fun post hp => br_f h1 (br_t h1' hp)⟩
  rcases hl_rng v2 7 7 rfl (by decide) with h2 | ⟨h2, h2', h2''⟩ | ⟨i, hi, rfl, h2, h2', h2''⟩
  · exact Or.inl ⟨-1, by decide, fun post hp => br_f h1 (br_f h1' (br_f n1 (br_t h2 (br_t rfl hp)))), fun post hp => br_f h1 (br_f h1' (br_t h2 hp))⟩
  · exact Or.inl ⟨-1, by decide, fun post hp => br_f h1 (br_f h1' (br_f n1 (br_f h2 (br_t h2' (br_t rfl hp))))), fun post hp => br_f h1 (br_f h1' (br_f h2 (br_f h2'' hp)))⟩
  have hc3 : e / 2 < 3 := by omega
  have ic : vp_in (nI (e / 2)) 3 := vp_in_nI hc3 (by decide)
  rcases D (e / 2) hc3 with ⟨o1, o2, o3⟩ | ⟨o1, x, ox, o2, o3, o4⟩
  · have xg : ∀ post : Int32 → Prop, post (if hl_rb nc no na nl np nq rm e i = true then 0 else -4) → wpX_checkRemoval post (dep, dly, grd, hgt, wal, kn, (hl_I nc), (hl_I no), (hl_I nh), am, ex, rm, (hl_I na), (hl_I nr), pt, (hl_I ns), (hl_I nl), (hl_I nw), (hl_I np), (hl_I nq), cl, pb, ca, ou) (nI e) (nI i) := by
      intro post hp
      unfold wpX_checkRemoval; dsimp only; rw [hl_e2 e he]
      refine br_f h1 (br_f h1' (br_f n1 (br_f h2 (br_f h2' (br_f n1 ⟨n2, hl_xo1 hc3 o2 (br_f n1 (hl_xrm C he hi (hl_br (fun a => ?_) (fun a => ?_))))⟩)))))
      · rw [a, if_neg (by decide)] at hp; exact hp
      · rw [a, if_pos rfl] at hp; exact hp
    cases hb : hl_rb nc no na nl np nq rm e i
    · rw [hb, if_neg (by decide)] at xg
      exact Or.inl ⟨-4, by decide, xg, fun post hp => hl_yst C he hi o1 (by rw [hb, if_neg (by decide)]; exact hp)⟩
    · rw [hb, if_pos rfl] at xg
      obtain ⟨a1, a2, a3⟩ := hl_rbt C hb
      exact Or.inr ⟨e, i, he, a1, rfl, rfl, a2, a3, xg, fun post hp => hl_yst C he hi o1 (by rw [hb, if_pos rfl]; exact hp)⟩
  · have c0 : ¬ cd (e / 2) = 0 := by rw [o1]; decide
    refine Or.inl ⟨-2, by decide, fun post hp => ?_, fun post hp => ?_⟩
    · unfold wpX_checkRemoval; dsimp only; rw [hl_e2 e he]
      exact br_f h1 (br_f h1' (br_f n1 (br_f h2 (br_f h2' (br_f n1 ⟨n2, hl_xo0 hc3 ox o2 (br_t rfl hp)⟩)))))
    · unfold wpY_stage; dsimp only; rw [hl_e2 e he, nI_clamp (n := e / 2) (by omega)]
      exact br_f h1 (br_f h1' (br_f h2 (br_t h2'' ⟨n2, ic, br_f c0 hp⟩)))
theorem hl_xrem {post : SX → Prop} {e t : Nat} (kd : Int32) (he : e < 6) (ht : t < 24) (hp : post (dep, dly, grd, hgt, wal, kn, (hl_I nc), (hl_I no), (hl_I nh), am, ex, (upd rm t kd), (hl_I na), (hl_I (hl_u nr t (ns e))), pt, (hl_I (hl_u ns e (ns e + 1))), (hl_I nl), (hl_I nw), (hl_I np), (hl_I nq), cl, pb, ca, ou)) : wpX_remove post (dep, dly, grd, hgt, wal, kn, (hl_I nc), (hl_I no), (hl_I nh), am, ex, rm, (hl_I na), (hl_I nr), pt, (hl_I ns), (hl_I nl), (hl_I nw), (hl_I np), (hl_I nq), cl, pb, ca, ou) (nI e) (nI t) kd := by
  have ie : vp_in (nI e) 6 := vp_in_nI he (by decide)
  have it : vp_in (nI t) 24 := vp_in_nI ht (by decide)
  unfold wpX_remove
  dsimp only
  rw [nI_clamp (n := t) (by omega), nI_clamp (n := e) (by omega), hl_at ns e, nI_1 (ns e), hl_upd nr t (ns e), hl_upd ns e (ns e + 1)]
  exact ⟨it, nm_e ⟨ie, it, nm_e ⟨ie, ie, nm_e hp⟩⟩⟩
theorem hl_yrem {post : Int32 → SY → Prop} {e i t : Nat} {kd : Int32} (he : e < 6) (ht : e / 2 * 8 + i = t) (hs : ∀ post : Int32 → Prop, post 0 → wpY_stage post (dep, dly, grd, hgt, wal, kn, (hl_I nc), (hl_I no), (hl_I nh), am, ex, rm, pt, hd, (hl_I nl), (hl_I nw), cd, ce, pb, cb, ou) (nI e) (nI i)) (h : ∀ z0 : Int32, (1 ≤ e → z0 = nI (hl_o e)) → wY_remove_41 post (nI e) kd (nI t) z0 dep dly grd hgt wal kn (hl_I nc) (hl_I no) (hl_I nh) am ex rm pt hd (hl_I nl) (hl_I nw) cd ce pb cb ou) : wpY_remove post (dep, dly, grd, hgt, wal, kn, (hl_I nc), (hl_I no), (hl_I nh), am, ex, rm, pt, hd, (hl_I nl), (hl_I nw), cd, ce, pb, cb, ou) (nI e) (nI i) kd := by
  unfold wpY_remove
  dsimp only
  rw [hl_em e he, hl_e2 e he, hl_i8, ht]
  refine hs _ (br_t rfl ⟨hl_2n, nm_e ⟨hl_2n, pk_eq (e % 2) 0 (fun z => h _ (fun y => hl_o1 e he y z)) (fun z => h _ (fun y => hl_o2 e he y z))⟩⟩)
theorem hl_fulfil (C : hl_C nc no nh na nr ns nl nw np nq rm pt hd) (D : hl_D cl ca cd ce cb) (K : hl_K kn) (hn : ∀ j, ns j ≤ k) (hk : k + 5 ≤ 2563) (v1 v2 : Int32) : hl_out (k + 5) (fun post => wpX_fulfil post (dep, dly, grd, hgt, wal, kn, (hl_I nc), (hl_I no), (hl_I nh), am, ex, rm, (hl_I na), (hl_I nr), pt, (hl_I ns), (hl_I nl), (hl_I nw), (hl_I np), (hl_I nq), cl, pb, ca, ou) v1 v2) (fun post => wpY_fulfil post (dep, dly, grd, hgt, wal, kn, (hl_I nc), (hl_I no), (hl_I nh), am, ex, rm, pt, hd, (hl_I nl), (hl_I nw), cd, ce, pb, cb, ou) v1 v2) := by
  have n1 := hl_1n
  have n2 := hl_2n
  have stay : i_Rel (k + 5) (dep, dly, grd, hgt, wal, kn, (hl_I nc), (hl_I no), (hl_I nh), am, ex, rm, (hl_I na), (hl_I nr), pt, (hl_I ns), (hl_I nl), (hl_I nw), (hl_I np), (hl_I nq), cl, pb, ca, ou) (dep, dly, grd, hgt, wal, kn, (hl_I nc), (hl_I no), (hl_I nh), am, ex, rm, pt, hd, (hl_I nl), (hl_I nw), cd, ce, pb, cb, ou) := i_up (hl_in C D K hn)
  rcases hl_chk (dep := dep) (dly := dly) (grd := grd) (hgt := hgt) (wal := wal) (kn := kn) (am := am) (ex := ex) (pb := pb) (ou := ou) C D v1 v2 with ⟨r, hr, hX, hY⟩ | ⟨e, i, he, hi, rfl, rfl, hno, hrm, hX, hY⟩
  · refine hl_mk r stay (fun post hp => ?_) (fun post hp => ?_)
    · unfold wpX_fulfil; dsimp only
      exact hX _ (br_f hr hp)
    · unfold wpY_fulfil; dsimp only; unfold wpY_remove; dsimp only
      exact hY _ (br_f hr (hY _ hp))
  have B := (hl_k1 C (e / 2)).1
  have Bt := hl_k1 C (e / 2 * 8 + i)
  have hc3 : e / 2 < 3 := by omega
  have ht : e / 2 * 8 + i < 24 := by omega
  have it : vp_in (nI (e / 2 * 8 + i)) 24 := vp_in_nI ht (by decide)
  have hct : (nI (e / 2 * 8 + i)).toNatClampNeg = e / 2 * 8 + i := nI_clamp (by omega)
  have k4 := (hl_k4 C (e / 2) i hc3 hi).1
  have hx : no (e / 2 * 8 + i) = hl_x e := hl_xp e he _ Bt.2.1 k4 hno
  have x6 := hl_x6 e he
  have ip : vp_in (nI ((hl_x e + 1) / 2 * 8 + nh (e / 2 * 8 + i))) 32 := vp_in_nI (by omega) (by decide)
  have hcp : (nI ((hl_x e + 1) / 2 * 8 + nh (e / 2 * 8 + i))).toNatClampNeg = (hl_x e + 1) / 2 * 8 + nh (e / 2 * 8 + i) := nI_clamp (by omega)
  by_cases z : kn ((e + 1) / 2 * 8 + nh (e / 2 * 8 + i)) = 0
  · refine hl_mk (-7) stay (fun post hp => ?_) (fun post hp => ?_)
    · (unfold wpX_fulfil; dsimp only; rw [hl_e2 e he, hl_i8]; refine hX _ (br_t rfl ⟨n2, nm_e (hl_xkn C K he ht ?_)⟩); rw [hct])
      exact br_t z hp
    · (unfold wpY_fulfil; dsimp only; refine hl_yrem he rfl hY (fun z0 _ => ?_); unfold wY_remove_41; rw [hl_ep e he]; refine ⟨n2, hl_yg (br_t rfl (hl_yaw C K he ht ?_))⟩)
      exact br_t z hp
  by_cases hg : hl_g grd ((e + 1) / 2) = 0 ∨ hgt + dly + 2 ≤ ex (e / 2 * 8 + i)
  case neg =>
    have a1 : ¬ hl_g grd ((e + 1) / 2) = 0 := fun z => hg (Or.inl z)
    have a2 : ¬ hgt + dly + 2 ≤ ex (e / 2 * 8 + i) := fun z => hg (Or.inr z)
    refine hl_mk (-8) stay (fun post hp => ?_) (fun post hp => ?_)
    · (unfold wpX_fulfil; dsimp only; rw [hl_e2 e he, hl_i8]; refine hX _ (br_t rfl ⟨n2, nm_e (hl_xkn C K he ht ?_)⟩); rw [hct])
      exact br_f z (hl_xge he (br_f a1 ⟨it, br_f a2 hp⟩))
    · (unfold wpY_fulfil; dsimp only; refine hl_yrem he rfl hY (fun z0 _ => ?_); unfold wY_remove_41; rw [hl_ep e he]; refine ⟨n2, hl_yg (br_t rfl (hl_yaw C K he ht ?_))⟩)
      refine br_f z ?_
      unfold wY_remove_72; rw [hct]
      exact br_t rfl (br_f a1 ⟨it, br_f a2 hp⟩)
  have hs : ns e + 1 ≤ 2563 := by have := hn e; omega
  have new : i_Rel (k + 5) (dep, dly, grd, hgt, wal, (upd kn ((hl_x e + 1) / 2 * 8 + nh (e / 2 * 8 + i)) 1), (hl_I nc), (hl_I no), (hl_I nh), am, ex, (upd rm (e / 2 * 8 + i) 1), (hl_I na), (hl_I (hl_u nr (e / 2 * 8 + i) (ns e))), pt, (hl_I (hl_u ns e (ns e + 1))), (hl_I nl), (hl_I nw), (hl_I np), (hl_I nq), cl, pb, ca, ou) (dep, dly, grd, hgt, wal, (upd kn ((hl_x e + 1) / 2 * 8 + nh (e / 2 * 8 + i)) 1), (hl_I nc), (hl_I no), (hl_I nh), am, ex, (upd rm (e / 2 * 8 + i) 1), pt, hd, (hl_I nl), (hl_I nw), cd, ce, pb, cb, ou) := hl_in (hl_M3 C he rfl rfl hi hno hrm 1 (Or.inl rfl) hs) D (hl_Ku K _) (hl_nu hn)
  refine hl_mk 0 new (fun post hp => ?_) (fun post hp => ?_)
  · have go : wX_fulfil_68 post (nI e) (nI (e / 2 * 8 + i)) dep dly grd hgt wal kn (hl_I nc) (hl_I no) (hl_I nh) am ex rm (hl_I na) (hl_I nr) pt (hl_I ns) (hl_I nl) (hl_I nw) (hl_I np) (hl_I nq) cl pb ca ou := by
      unfold wX_fulfil_68
      refine hl_xrem 1 he ht ?_
      dsimp only
      unfold wpX_partyOf
      dsimp only
      rw [hl_ex e he, hl_ep _ x6, hct, hl_at, hl_i8, hcp]
      exact ⟨n2, it, ip, nm_e hp⟩
    (unfold wpX_fulfil; dsimp only; rw [hl_e2 e he, hl_i8]; refine hX _ (br_t rfl ⟨n2, nm_e (hl_xkn C K he ht ?_)⟩); rw [hct])
    refine br_f z (hl_xge he ?_)
    rcases hg with y | y
    · exact br_t y go
    · exact br_c (fun _ => go) (fun _ => ⟨it, br_t y go⟩)
  · (unfold wpY_fulfil; dsimp only; refine hl_yrem he rfl hY (fun z0 _ => ?_); unfold wY_remove_41; rw [hl_ep e he]; refine ⟨n2, hl_yg (br_t rfl (hl_yaw C K he ht ?_))⟩)
    have go : ∀ x6, wY_remove_106 (fun r_1 u => match u with | (dep, dly, grd, hgt, wal, kn, nc, no, nh, am, ex, rm, pt, hd, nl, nw, cd, ce, pb, cb, ou) => post r_1 (dep, dly, grd, hgt, wal, kn, nc, no, nh, am, ex, rm, pt, hd, nl, nw, cd, ce, pb, cb, ou)) (nI e) 1 (nI (e / 2 * 8 + i)) z0 x6 dep dly grd hgt wal kn (hl_I nc) (hl_I no) (hl_I nh) am ex rm pt hd (hl_I nl) (hl_I nw) cd ce pb cb ou := by
      intro x6'
      unfold wY_remove_106
      refine br_f (by decide) ?_
      unfold wY_remove_154
      rw [hct, hl_at no, hx, hl_ep _ x6, hl_at, hl_i8, hcp]
      exact ⟨it, nm_e (br_t rfl ⟨it, n2, it, ip, nm_e hp⟩)⟩
    refine br_f z ?_
    unfold wY_remove_72; rw [hct]
    refine br_t rfl ?_
    rcases hg with y | y
    · exact br_t y (go _)
    · exact br_c (fun _ => go _) (fun _ => ⟨it, br_t y (go _)⟩)
theorem hl_fail (C : hl_C nc no nh na nr ns nl nw np nq rm pt hd) (D : hl_D cl ca cd ce cb) (K : hl_K kn) (hn : ∀ j, ns j ≤ k) (hk : k + 5 ≤ 2563) (v1 v2 : Int32) : hl_out (k + 5) (fun post => wpX_fail post (dep, dly, grd, hgt, wal, kn, (hl_I nc), (hl_I no), (hl_I nh), am, ex, rm, (hl_I na), (hl_I nr), pt, (hl_I ns), (hl_I nl), (hl_I nw), (hl_I np), (hl_I nq), cl, pb, ca, ou) v1 v2) (fun post => wpY_fail post (dep, dly, grd, hgt, wal, kn, (hl_I nc), (hl_I no), (hl_I nh), am, ex, rm, pt, hd, (hl_I nl), (hl_I nw), cd, ce, pb, cb, ou) v1 v2) := by
  have n1 := hl_1n
  have n2 := hl_2n
  have stay : i_Rel (k + 5) (dep, dly, grd, hgt, wal, kn, (hl_I nc), (hl_I no), (hl_I nh), am, ex, rm, (hl_I na), (hl_I nr), pt, (hl_I ns), (hl_I nl), (hl_I nw), (hl_I np), (hl_I nq), cl, pb, ca, ou) (dep, dly, grd, hgt, wal, kn, (hl_I nc), (hl_I no), (hl_I nh), am, ex, rm, pt, hd, (hl_I nl), (hl_I nw), cd, ce, pb, cb, ou) := i_up (hl_in C D K hn)
  rcases hl_chk (dep := dep) (dly := dly) (grd := grd) (hgt := hgt) (wal := wal) (kn := kn) (am := am) (ex := ex) (pb := pb) (ou := ou) C D v1 v2 with ⟨r, hr, hX, hY⟩ | ⟨e, i, he, hi, rfl, rfl, hno, hrm, hX, hY⟩
  · refine hl_mk r stay (fun post hp => ?_) (fun post hp => ?_)
    · unfold wpX_fail; dsimp only
      exact hX _ (br_f hr hp)
    · unfold wpY_fail; dsimp only; unfold wpY_remove; dsimp only
      exact hY _ (br_f hr (hY _ hp))
  have B := (hl_k1 C (e / 2)).1
  have Bt := hl_k1 C (e / 2 * 8 + i)
  have hc3 : e / 2 < 3 := by omega
  have ht : e / 2 * 8 + i < 24 := by omega
  have it : vp_in (nI (e / 2 * 8 + i)) 24 := vp_in_nI ht (by decide)
  have hct : (nI (e / 2 * 8 + i)).toNatClampNeg = e / 2 * 8 + i := nI_clamp (by omega)
  have k4 := (hl_k4 C (e / 2) i hc3 hi).1
  have hx : hl_x (no (e / 2 * 8 + i)) = e := by rw [hl_xp e he _ Bt.2.1 k4 hno]; exact hl_xx e he
  have hs : ns e + 1 ≤ 2563 := by have := hn e; omega
  have new : i_Rel (k + 5) (dep, dly, grd, hgt, wal, kn, (hl_I nc), (hl_I no), (hl_I nh), am, ex, (upd rm (e / 2 * 8 + i) 2), (hl_I na), (hl_I (hl_u nr (e / 2 * 8 + i) (ns e))), pt, (hl_I (hl_u ns e (ns e + 1))), (hl_I nl), (hl_I nw), (hl_I np), (hl_I nq), cl, pb, ca, ou) (dep, dly, grd, hgt, wal, kn, (hl_I nc), (hl_I no), (hl_I nh), am, ex, (upd rm (e / 2 * 8 + i) 2), pt, hd, (hl_I nl), (hl_I nw), cd, ce, pb, cb, ou) := hl_in (hl_M3 C he rfl rfl hi hno hrm 2 (Or.inr rfl) hs) D K (hl_nu hn)
  have goX : ∀ post : Int32 → SX → Prop, post 0 (dep, dly, grd, hgt, wal, kn, (hl_I nc), (hl_I no), (hl_I nh), am, ex, (upd rm (e / 2 * 8 + i) 2), (hl_I na), (hl_I (hl_u nr (e / 2 * 8 + i) (ns e))), pt, (hl_I (hl_u ns e (ns e + 1))), (hl_I nl), (hl_I nw), (hl_I np), (hl_I nq), cl, pb, ca, ou) → wX_fail_56 post (nI e) (nI (e / 2 * 8 + i)) dep dly grd hgt wal kn (hl_I nc) (hl_I no) (hl_I nh) am ex rm (hl_I na) (hl_I nr) pt (hl_I ns) (hl_I nl) (hl_I nw) (hl_I np) (hl_I nq) cl pb ca ou := by
    intro post hp
    unfold wX_fail_56
    exact hl_xrem 2 he ht hp
  have goY : ∀ post : Int32 → SY → Prop, post 0 (dep, dly, grd, hgt, wal, kn, (hl_I nc), (hl_I no), (hl_I nh), am, ex, (upd rm (e / 2 * 8 + i) 2), pt, hd, (hl_I nl), (hl_I nw), cd, ce, pb, cb, ou) → wY_remove_154 post 2 (nI (e / 2 * 8 + i)) dep dly grd hgt wal kn (hl_I nc) (hl_I no) (hl_I nh) am ex rm pt hd (hl_I nl) (hl_I nw) cd ce pb cb ou := by
    intro post hp
    unfold wY_remove_154
    rw [hct]
    exact ⟨it, nm_e (br_f (by decide) hp)⟩
  rcases hl_g01 grd ((e + 1) / 2) with g | g
  · refine hl_mk 0 new (fun post hp => ?_) (fun post hp => ?_)
    · (unfold wpX_fail; dsimp only; rw [hl_e2 e he, hl_i8]; refine hX _ (br_t rfl ⟨n2, nm_e (hl_xge he ?_)⟩); rw [hct])
      exact br_t g (goX post hp)
    · (unfold wpY_fail; dsimp only; refine hl_yrem he rfl hY (fun z0 hz0 => ?_); unfold wY_remove_41; rw [hl_ep e he]; refine ⟨n2, hl_yg (br_f (by decide) ?_)⟩; unfold wY_remove_72; refine br_f (by decide) ?_)
      exact br_t rfl (br_t g (goY _ hp))
  have g' : ¬ hl_g grd ((e + 1) / 2) = 0 := by rw [g]; decide
  by_cases hpt : pt (e / 2 * 8 + i) = 8
  · refine hl_mk 0 new (fun post hp => ?_) (fun post hp => ?_)
    · (unfold wpX_fail; dsimp only; rw [hl_e2 e he, hl_i8]; refine hX _ (br_t rfl ⟨n2, nm_e (hl_xge he ?_)⟩); rw [hct])
      exact br_f g' ⟨it, br_t hpt (goX post hp)⟩
    · (unfold wpY_fail; dsimp only; refine hl_yrem he rfl hY (fun z0 hz0 => ?_); unfold wY_remove_41; rw [hl_ep e he]; refine ⟨n2, hl_yg (br_f (by decide) ?_)⟩; unfold wY_remove_72; refine br_f (by decide) ?_)
      unfold wY_remove_106; rw [hct]
      exact br_t rfl (br_f g' ⟨it, br_t hpt (goY _ hp)⟩)
  rcases hl_k9 C (e / 2) i hc3 hi with y | ⟨j, j1, j2, j3, j4, j5⟩
  · exact absurd y hpt
  rw [hx] at j2 j3 j4 j5
  have ho := hl_o6 e he j2 j3
  obtain ⟨r, dX, dY⟩ := hl_dead (dep := dep) (dly := dly) (grd := grd) (hgt := hgt) (wal := wal) (am := am) (ex := ex) (pb := pb) (ou := ou) C D K he j2 j3 ht rfl j1 j4 j5
  by_cases r0 : r = 0
  · refine hl_mk (-8) stay (fun post hp => ?_) (fun post hp => ?_)
    · (unfold wpX_fail; dsimp only; rw [hl_e2 e he, hl_i8]; refine hX _ (br_t rfl ⟨n2, nm_e (hl_xge he ?_)⟩); rw [hct])
      exact br_f g' ⟨it, br_f hpt (dX _ (br_t r0 hp))⟩
    · (unfold wpY_fail; dsimp only; refine hl_yrem he rfl hY (fun z0 hz0 => ?_); unfold wY_remove_41; rw [hl_ep e he]; refine ⟨n2, hl_yg (br_f (by decide) ?_)⟩; unfold wY_remove_72; refine br_f (by decide) ?_)
      unfold wY_remove_106; rw [hct, hz0 j2, hl_e2 _ ho, j1, hl_i8]
      exact br_t rfl (br_f g' ⟨it, br_f (by rw [← j1]; exact hpt) ⟨n2, it, dY _ (br_t r0 hp)⟩⟩)
  · refine hl_mk 0 new (fun post hp => ?_) (fun post hp => ?_)
    · (unfold wpX_fail; dsimp only; rw [hl_e2 e he, hl_i8]; refine hX _ (br_t rfl ⟨n2, nm_e (hl_xge he ?_)⟩); rw [hct])
      exact br_f g' ⟨it, br_f hpt (dX _ (br_f r0 (goX post hp)))⟩
    · (unfold wpY_fail; dsimp only; refine hl_yrem he rfl hY (fun z0 hz0 => ?_); unfold wY_remove_41; rw [hl_ep e he]; refine ⟨n2, hl_yg (br_f (by decide) ?_)⟩; unfold wY_remove_72; refine br_f (by decide) ?_)
      unfold wY_remove_106; rw [hct, hz0 j2, hl_e2 _ ho, j1, hl_i8]
      exact br_t rfl (br_f g' ⟨it, br_f (by rw [← j1]; exact hpt) ⟨n2, it, dY _ (br_f r0 (goY _ hp))⟩⟩)
end
end
section
/-! commit: the walk -/
def hl_all (f g : Nat → Bool) : Nat → Nat → Bool
  | 0, _ => true
  | d + 1, u => (f u == g u) && hl_all f g d (u + 1)
theorem hl_allT {f g : Nat → Bool} : ∀ d u, (∀ v, u ≤ v → v < u + d → f v = g v) → hl_all f g d u = true := by
  intro d
  induction d with
  | zero => intro u _; rfl
  | succ d ih =>
    intro u h
    show ((f u == g u) && hl_all f g d (u + 1)) = true
    rw [ih (u + 1) (fun v h1 h2 => h v (by omega) (by omega)), h u (by omega) (by omega)]
    simp
theorem hl_allF {f g : Nat → Bool} : ∀ d u, hl_all f g d u = true → ∀ v, u ≤ v → v < u + d → f v = g v := by
  intro d
  induction d with
  | zero => intro u _ v h1 h2; omega
  | succ d ih =>
    intro u h v h1 h2
    have h3 : ((f u == g u) && hl_all f g d (u + 1)) = true := h
    rw [Bool.and_eq_true] at h3
    by_cases z : v = u
    · rw [z]; exact eq_of_beq h3.1
    · exact ih (u + 1) h3.2 v (by omega) (by omega)
theorem hl_binj {a b : Bool} (h : hl_b a = hl_b b) : a = b := by
  cases a <;> cases b
  · rfl
  · exact absurd h (by decide)
  · exact absurd h (by decide)
  · rfl
def hl_hw (hd : Nat → Int32) (b : Nat) (g : Nat → Bool) (u : Nat) : Nat → Int32 := fun a => if b ≤ a ∧ a < b + u then hl_b (g (a - b)) else hd a
theorem hl_hw0 (hd : Nat → Int32) (b : Nat) (g : Nat → Bool) : hl_hw hd b g 0 = hd := by
  funext a
  unfold hl_hw
  rw [if_neg (by omega)]
theorem hl_hws (hd : Nat → Int32) (b : Nat) (g : Nat → Bool) (u : Nat) : upd (hl_hw hd b g u) (b + u) (hl_b (g u)) = hl_hw hd b g (u + 1) := by
  funext a
  unfold upd hl_hw
  by_cases z : a = b + u
  · rw [if_pos z, if_pos (by omega), z, Nat.add_sub_cancel_left]
  · rw [if_neg z]
    by_cases y : b ≤ a ∧ a < b + u
    · rw [if_pos y, if_pos (by omega)]
    · rw [if_neg y, if_neg (by omega)]
section
variable {dep dly grd hgt : Int32} {wal kn am ex rm pt cl pb ca ou hd cd ce cb : Nat → Int32} {nc no nh na nr ns nl nw np nq : Nat → Nat}
variable {k : Nat}
theorem hl_hro (C : hl_C nc no nh na nr ns nl nw np nq rm pt hd) {e u : Nat} (he : e < 6) (hu : u < 16) : hd ((e * 16 + nl e) * 16 + u) = hl_b (hl_ro nc no na nr nl np nq rm e u) := by
  have k8 := hl_k8 C e (nl e) (u / 2) he (hl_k2 C e).1 (by omega)
  unfold hl_ro
  by_cases z : u % 2 = 0
  · rw [if_pos z]
    have y : 2 * (u / 2) = u := by omega
    rw [y] at k8
    exact k8.1
  · rw [if_neg z]
    have y : 2 * (u / 2) + 1 = u := by omega
    rw [y] at k8
    exact k8.2
theorem hl_l57 (C : hl_C nc no nh na nr ns nl nw np nq rm pt hd) {e t : Nat} (he : e < 6) (ht : t < 6) {post : Int32 → SY → Prop} : ∀ (d u : Nat) (fl : Bool), u + d = 16 → wY_commit_57 post (nI e) (nI t) dep dly grd hgt wal kn (hl_I nc) (hl_I no) (hl_I nh) am ex rm pt hd (hl_I nl) (hl_I nw) cd ce pb cb ou 1 (hl_b (fl && hl_all (hl_sg nc no na nr nl np nq rm e) (hl_vv nc no na nr rm (np (t * 16 + nw t)) (nq (t * 16 + nw t)) t) d u)) (nI 16) → wY_commit_57 post (nI e) (nI t) dep dly grd hgt wal kn (hl_I nc) (hl_I no) (hl_I nh) am ex rm pt hd (hl_I nl) (hl_I nw) cd ce pb cb ou (d + 1) (hl_b fl) (nI u) := by
  have L := hl_k2 C e
  have Lt := hl_k2 C t
  have B := (hl_k1 C (e / 2)).1
  have it : vp_in (nI t) 6 := vp_in_nI ht (by decide)
  intro d
  induction d with
  | zero =>
    intro u fl hu h
    have z : u = 16 := by omega
    subst z
    have h2 : hl_all (hl_sg nc no na nr nl np nq rm e) (hl_vv nc no na nr rm (np (t * 16 + nw t)) (nq (t * 16 + nw t)) t) 0 16 = true := rfl
    rw [h2, Bool.and_true] at h
    exact h
  | succ d ih =>
    intro u fl hu h
    have h2 : hl_all (hl_sg nc no na nr nl np nq rm e) (hl_vv nc no na nr rm (np (t * 16 + nw t)) (nq (t * 16 + nw t)) t) (d + 1) u = ((hl_sg nc no na nr nl np nq rm e u == hl_vv nc no na nr rm (np (t * 16 + nw t)) (nq (t * 16 + nw t)) t u) && hl_all (hl_sg nc no na nr nl np nq rm e) (hl_vv nc no na nr rm (np (t * 16 + nw t)) (nq (t * 16 + nw t)) t) d (u + 1)) := rfl
    rw [h2] at h
    rw [wY_commit_57]
    dsimp only
    refine br_f (nI_ge (b := 16) (by omega) (by decide)) (hl_ysig he B (hl_k1 C _).2.1 (by omega) (by omega) (hl_hro C he (by omega)) ⟨it, ?_⟩)
    rw [nI_clamp (n := t) (by omega)]
    refine hl_yhas2 (q := nw t) ht (by omega) (by omega) (hl_hv C ht (Nat.le_refl _) (by omega)) ?_
    by_cases z : hl_sg nc no na nr nl np nq rm e u = hl_vv nc no na nr rm (np (t * 16 + nw t)) (nq (t * 16 + nw t)) t u
    · refine br_t (congrArg hl_b z) (nm_r (nI_1 u) (ih (u + 1) fl (by omega) ?_))
      rw [z, beq_self_eq_true, Bool.true_and] at h
      exact h
    · refine br_f (fun y => z (hl_binj y)) (nm_r (nI_1 u) (ih (u + 1) false (by omega) ?_))
      rw [beq_eq_false_iff_ne.mpr z, Bool.false_and, Bool.and_false] at h
      rw [Bool.false_and]
      exact h
theorem hl_l115 (C : hl_C nc no nh na nr ns nl nw np nq rm pt hd) {e t j : Nat} (he : e < 6) (ht : t < 6) (hne : e ≠ t) (hj : t * 16 + (nw t + 1) = j) (hw : nw t + 1 ≤ 15) {post : Int32 → SY → Prop} (hp : post (nI (nw t + 1)) (dep, dly, grd, hgt, wal, kn, (hl_I nc), (hl_I no), (hl_I nh), am, ex, rm, pt, (hl_hw hd (j * 16) (hl_sg nc no na nr nl np nq rm e) 16), (hl_I nl), (hl_I (hl_u nw t (nw t + 1))), cd, ce, pb, cb, ou)) : ∀ d u : Nat, u + d = 16 → wY_commit_115 post (nI e) (nI t) dep dly grd hgt (d + 1) (nI u) wal kn (hl_I nc) (hl_I no) (hl_I nh) am ex rm pt (hl_hw hd (j * 16) (hl_sg nc no na nr nl np nq rm e) u) (hl_I nl) (hl_I (hl_u nw t (nw t + 1))) cd ce pb cb ou := by
  have L := hl_k2 C e
  have B := (hl_k1 C (e / 2)).1
  have it : vp_in (nI t) 6 := vp_in_nI ht (by decide)
  intro d
  induction d with
  | zero =>
    intro u hu
    have z : u = 16 := by omega
    subst z
    rw [wY_commit_115]
    dsimp only
    refine br_t (nI_le (a := 16) (Nat.le_refl _) (by decide)) ⟨it, ?_⟩
    rw [nI_clamp (n := t) (by omega), hl_at (hl_u nw t (nw t + 1)), hl_us]
    exact hp
  | succ d ih =>
    intro u hu
    rw [wY_commit_115]
    dsimp only
    refine br_f (nI_ge (b := 16) (by omega) (by decide)) ⟨it, hl_ysig (na := na) (nr := nr) (np := np) (nq := nq) he B (hl_k1 C _).2.1 (by omega) (by omega) ?_ ?_⟩
    · rw [← hl_hro C he (by omega)]
      unfold hl_hw
      rw [if_neg (by omega)]
    · rw [nI_clamp (n := t) (by omega), hl_at (hl_u nw t (nw t + 1)), hl_us, hl_i16, hj, hl_i16, nI_clamp (n := j * 16 + u) (by omega), hl_bv, hl_hws]
      exact ⟨vp_in_nI (by omega) (by decide), nm_e (nm_r (nI_1 u) (ih (u + 1) (by omega)))⟩
theorem hl_commit (C : hl_C nc no nh na nr ns nl nw np nq rm pt hd) (D : hl_D cl ca cd ce cb) (K : hl_K kn) (hn : ∀ j, ns j ≤ k) (v1 : Int32) : hl_out (k + 5) (fun post => wpX_commit post (dep, dly, grd, hgt, wal, kn, (hl_I nc), (hl_I no), (hl_I nh), am, ex, rm, (hl_I na), (hl_I nr), pt, (hl_I ns), (hl_I nl), (hl_I nw), (hl_I np), (hl_I nq), cl, pb, ca, ou) v1) (fun post => wpY_commit post (dep, dly, grd, hgt, wal, kn, (hl_I nc), (hl_I no), (hl_I nh), am, ex, rm, pt, hd, (hl_I nl), (hl_I nw), cd, ce, pb, cb, ou) v1) := by
  have n1 := hl_1n
  have n2 := hl_2n
  have stay : i_Rel (k + 5) (dep, dly, grd, hgt, wal, kn, (hl_I nc), (hl_I no), (hl_I nh), am, ex, rm, (hl_I na), (hl_I nr), pt, (hl_I ns), (hl_I nl), (hl_I nw), (hl_I np), (hl_I nq), cl, pb, ca, ou) (dep, dly, grd, hgt, wal, kn, (hl_I nc), (hl_I no), (hl_I nh), am, ex, rm, pt, hd, (hl_I nl), (hl_I nw), cd, ce, pb, cb, ou) := i_up (hl_in C D K hn)
  rcases hl_rng v1 5 5 rfl (by decide) with h1 | ⟨h1, h1', h1''⟩ | ⟨e, he, rfl, h1, h1', -⟩
  · exact hl_mk (-1) stay (fun post hp => br_t h1 (br_t rfl hp)) (fun post hp => by unfold wpY_commit; dsimp only; exact br_t h1 (br_f (by decide) (br_t h1 hp)))
  · exact hl_mk (-1) stay (fun post hp => br_f h1 (br_t h1' (br_t rfl hp))) (fun post hp => by unfold wpY_commit; dsimp only; exact br_f h1 (br_f h1'' (br_f (by decide) (br_f h1 (br_f h1'' hp)))))
  obtain ⟨t, htx⟩ : ∃ t, hl_x e = t := ⟨_, rfl⟩
  have t6 : t < 6 := by rw [← htx]; exact hl_x6 e he
  have tne : e ≠ t := by rw [← htx]; exact fun z => hl_xn e he z.symm
  have xt : hl_x t = e := by rw [← htx]; exact hl_xx e he
  have hc3 : e / 2 < 3 := by omega
  have L := hl_k2 C e
  have Lt := hl_k2 C t
  have Be := hl_k1 C e
  have Bp := hl_k1 C (e * 16 + nl e)
  have Bl := hl_k1 C (t * 16 + nw t)
  have ie : vp_in (nI e) 6 := vp_in_nI he (by decide)
  have it : vp_in (nI t) 6 := vp_in_nI t6 (by decide)
  have ip : vp_in (nI (e * 16 + nl e)) 96 := vp_in_nI (by omega) (by decide)
  have il : vp_in (nI (t * 16 + nw t)) 96 := vp_in_nI (by omega) (by decide)
  have hce : (nI e).toNatClampNeg = e := nI_clamp (by omega)
  have hct : (nI t).toNatClampNeg = t := nI_clamp (by omega)
  have hcp : (nI (e * 16 + nl e)).toNatClampNeg = e * 16 + nl e := nI_clamp (by omega)
  have hcl : (nI (t * 16 + nw t)).toNatClampNeg = t * 16 + nw t := nI_clamp (by omega)
  rcases D (e / 2) hc3 with ⟨o1, o2, o3⟩ | ⟨o1, x, ox, o2, o3, o4⟩
  case inr =>
    refine hl_mk (-2) stay (fun post hp => ?_) (fun post hp => ?_)
    · unfold wpX_commit; dsimp only; rw [hl_e2 e he]
      exact br_f h1 (br_f h1' (br_f n1 ⟨n2, hl_xo0 hc3 ox o2 (br_t rfl hp)⟩))
    · unfold wpY_commit; dsimp only
      exact hl_yop0 he o1 (br_f (by decide) (hl_yop0 he o1 hp))
  by_cases w1 : nw t = nl t
  case neg =>
    have q1 : ¬ nI (nw t) = nI (nl t) := fun z => w1 ((nI_eq (by omega) (by omega)).mp z)
    refine hl_mk (-4) stay (fun post hp => ?_) (fun post hp => ?_)
    · (unfold wpX_commit; dsimp only; rw [hl_e2 e he, hl_ex e he, htx, hce, hl_at nl e, hl_i16 e (nl e), hcp, hl_at nq (e * 16 + nl e), hl_at ns e]; refine br_f h1 (br_f h1' (br_f n1 ⟨n2, hl_xo1 hc3 o2 (br_f n1 (nm_e ?_))⟩)); rw [hct, hl_at nw t, hl_at nl t, hl_i16 t (nw t)])
      exact ⟨it, it, br_f q1 hp⟩
    · (unfold wpY_commit; dsimp only; refine hl_yop1 he o1 (br_t rfl (hl_ypeer he ?_)); rw [htx, hct, hl_at nw t, hl_at nl t])
      exact ⟨it, it, br_f q1 hp⟩
  have q1 : nI (nw t) = nI (nl t) := congrArg nI w1
  by_cases w2 : nw t < 15
  case neg =>
    have q2 : ¬ nI (nw t) < 15 := nI_nlt (b := 15) (by omega) (by omega)
    have q3 : nI (nw t) = 15 := congrArg nI (show nw t = 15 by omega)
    refine hl_mk (-3) stay (fun post hp => ?_) (fun post hp => ?_)
    · (unfold wpX_commit; dsimp only; rw [hl_e2 e he, hl_ex e he, htx, hce, hl_at nl e, hl_i16 e (nl e), hcp, hl_at nq (e * 16 + nl e), hl_at ns e]; refine br_f h1 (br_f h1' (br_f n1 ⟨n2, hl_xo1 hc3 o2 (br_f n1 (nm_e ?_))⟩)); rw [hct, hl_at nw t, hl_at nl t, hl_i16 t (nw t)])
      exact ⟨it, it, br_t q1 ⟨it, br_f q2 hp⟩⟩
    · (unfold wpY_commit; dsimp only; refine hl_yop1 he o1 (br_t rfl (hl_ypeer he ?_)); rw [htx, hct, hl_at nw t, hl_at nl t])
      exact ⟨it, it, br_t q1 ⟨it, br_t q3 hp⟩⟩
  have q2 : nI (nw t) < 15 := nI_lt (b := 15) w2 (by decide)
  have q3 : ¬ nI (nw t) = 15 := fun z => absurd ((nI_eq (b := 15) (by omega) (by decide)).mp z) (by omega)
  have k6e := hl_k6 C e (nl e) he L.1
  have k6t := hl_k6 C t (nw t) t6 (Nat.le_refl _)
  rw [htx] at k6e
  by_cases heq : nq (t * 16 + nw t) = ns e ∧ np (t * 16 + nw t) = nq (e * 16 + nl e)
  · have al : hl_all (hl_sg nc no na nr nl np nq rm e) (hl_vv nc no na nr rm (np (t * 16 + nw t)) (nq (t * 16 + nw t)) t) 16 0 = true := by
      refine hl_allT 16 0 (fun v _ hv => ?_)
      rw [hl_sgv C he htx (by omega), heq.1, heq.2]
    refine hl_mk (-4) stay (fun post hp => ?_) (fun post hp => ?_)
    · ((unfold wpX_commit; dsimp only; rw [hl_e2 e he, hl_ex e he, htx, hce, hl_at nl e, hl_i16 e (nl e), hcp, hl_at nq (e * 16 + nl e), hl_at ns e]; refine br_f h1 (br_f h1' (br_f n1 ⟨n2, hl_xo1 hc3 o2 (br_f n1 (nm_e ?_))⟩)); rw [hct, hl_at nw t, hl_at nl t, hl_i16 t (nw t)]); refine ⟨it, it, br_t q1 ⟨it, br_t q2 ⟨it, nm_e ⟨ie, nm_e ⟨ie, ip, nm_e ⟨il, ?_⟩⟩⟩⟩⟩⟩; rw [hcl, hl_at nq (t * 16 + nw t), hl_at np (t * 16 + nw t)])
      exact br_t (congrArg nI heq.1) ⟨il, br_t (congrArg nI heq.2) hp⟩
    · (unfold wpY_commit; dsimp only; refine hl_yop1 he o1 (br_t rfl (hl_ypeer he ?_)); rw [htx, hct, hl_at nw t, hl_at nl t])
      refine ⟨it, it, br_t q1 ⟨it, br_f q3 ⟨17, hl_l57 C he t6 16 0 true (by decide) ?_⟩⟩⟩
      rw [al]
      exact br_t (nI_le (a := 16) (Nat.le_refl _) (by decide)) (br_f n1 hp)
  · have al : hl_all (hl_sg nc no na nr nl np nq rm e) (hl_vv nc no na nr rm (np (t * 16 + nw t)) (nq (t * 16 + nw t)) t) 16 0 = false := by
      cases hz : hl_all (hl_sg nc no na nr nl np nq rm e) (hl_vv nc no na nr rm (np (t * 16 + nw t)) (nq (t * 16 + nw t)) t) 16 0
      · rfl
      · exfalso
        have f := hl_allF 16 0 hz
        have z := hl_vinj C (P := nq (e * 16 + nl e)) (Q := ns e) (P' := np (t * 16 + nw t)) (Q' := nq (t * 16 + nw t)) t6 k6e.2 k6t.1 (by rw [xt]; exact Nat.le_refl _) k6t.2 (fun u hu => by rw [← hl_sgv C he htx hu]; exact f u (by omega) (by omega))
        exact heq ⟨z.2.symm, z.1.symm⟩
    obtain ⟨j, hj⟩ : ∃ j, t * 16 + (nw t + 1) = j := ⟨_, rfl⟩
    have hj' : nI (t * 16 + nw t) + 1 = nI j := by rw [nI_1, ← hj]; rfl
    have hw : nw t + 1 ≤ 15 := by omega
    have ij : vp_in (nI j) 96 := vp_in_nI (by omega) (by decide)
    have hcj : (nI j).toNatClampNeg = j := nI_clamp (by omega)
    have C4 := hl_M4 (hd' := hl_hw hd (j * 16) (hl_sg nc no na nr nl np nq rm e) 16) C he htx hj hw (fun a => by
        unfold hl_hw
        by_cases z : j * 16 ≤ a ∧ a < j * 16 + 16
        · rw [if_pos z]; exact hl_bor _
        · rw [if_neg z]; exact (hl_k3 C a).2) (fun a z => by
        unfold hl_hw
        rw [if_neg (by omega)]) (fun u z => by
        unfold hl_hw
        rw [if_pos (by omega), Nat.add_sub_cancel_left])
    have new : i_Rel (k + 5) (dep, dly, grd, hgt, wal, kn, (hl_I nc), (hl_I no), (hl_I nh), am, ex, rm, (hl_I na), (hl_I nr), pt, (hl_I ns), (hl_I nl), (hl_I (hl_u nw t (nw t + 1))), (hl_I (hl_u np j (nq (e * 16 + nl e)))), (hl_I (hl_u nq j (ns e))), cl, pb, ca, ou) (dep, dly, grd, hgt, wal, kn, (hl_I nc), (hl_I no), (hl_I nh), am, ex, rm, pt, (hl_hw hd (j * 16) (hl_sg nc no na nr nl np nq rm e) 16), (hl_I nl), (hl_I (hl_u nw t (nw t + 1))), cd, ce, pb, cb, ou) := i_up (hl_in C4 D K hn)
    refine hl_mk (nI (nw t + 1)) new (fun post hp => ?_) (fun post hp => ?_)
    · have go : wX_commit_123 post (nI t) (nI (t * 16 + nw t)) (nI (ns e)) (nI (nq (e * 16 + nl e))) dep dly grd hgt wal kn (hl_I nc) (hl_I no) (hl_I nh) am ex rm (hl_I na) (hl_I nr) pt (hl_I ns) (hl_I nl) (hl_I nw) (hl_I np) (hl_I nq) cl pb ca ou := by
        unfold wX_commit_123
        rw [hj', hcj, hct, hl_at nw t, nI_1 (nw t), hl_upd nq j (ns e), hl_upd np j (nq (e * 16 + nl e)), hl_upd nw t (nw t + 1)]
        refine ⟨ij, nm_e ⟨ij, nm_e ⟨it, it, nm_e ⟨it, ?_⟩⟩⟩⟩
        rw [hl_at (hl_u nw t (nw t + 1)) t, hl_us]
        exact hp
      ((unfold wpX_commit; dsimp only; rw [hl_e2 e he, hl_ex e he, htx, hce, hl_at nl e, hl_i16 e (nl e), hcp, hl_at nq (e * 16 + nl e), hl_at ns e]; refine br_f h1 (br_f h1' (br_f n1 ⟨n2, hl_xo1 hc3 o2 (br_f n1 (nm_e ?_))⟩)); rw [hct, hl_at nw t, hl_at nl t, hl_i16 t (nw t)]); refine ⟨it, it, br_t q1 ⟨it, br_t q2 ⟨it, nm_e ⟨ie, nm_e ⟨ie, ip, nm_e ⟨il, ?_⟩⟩⟩⟩⟩⟩; rw [hcl, hl_at nq (t * 16 + nw t), hl_at np (t * 16 + nw t)])
      refine br_c (fun a => ⟨il, br_c (fun b => ?_) (fun _ => go)⟩) (fun _ => go)
      exact absurd ⟨(nI_eq (by omega) (by omega)).mp a, (nI_eq (by omega) (by omega)).mp b⟩ heq
    · (unfold wpY_commit; dsimp only; refine hl_yop1 he o1 (br_t rfl (hl_ypeer he ?_)); rw [htx, hct, hl_at nw t, hl_at nl t])
      refine ⟨it, it, br_t q1 ⟨it, br_f q3 ⟨17, hl_l57 C he t6 16 0 true (by decide) ?_⟩⟩⟩
      rw [al, wY_commit_57]
      dsimp only
      refine br_t (nI_le (a := 16) (Nat.le_refl _) (by decide)) (br_t rfl ⟨it, it, ?_⟩)
      rw [hct, hl_at nw t, nI_1 (nw t), hl_upd nw t (nw t + 1)]
      have z := hl_l115 (dep := dep) (dly := dly) (grd := grd) (hgt := hgt) (wal := wal) (kn := kn) (am := am) (ex := ex) (pb := pb) (ou := ou) (cd := cd) (ce := ce) (cb := cb) C he t6 tne hj hw hp 16 0 (by decide)
      rw [hl_hw0] at z
      exact nm_e ⟨17, z⟩
end
end
section
/-! close -/
section
variable {dep dly grd hgt : Int32} {wal kn am ex rm pt cl pb ca ou hd cd ce cb : Nat → Int32} {nc no nh na nr ns nl nw np nq : Nat → Nat}
variable {k : Nat}
theorem hl_pub (C : hl_C nc no nh na nr ns nl nw np nq rm pt hd) {e q : Nat} (he : e < 6) (hq : q ≤ nw e) : ∀ (d i : Nat) (ou : Nat → Int32), i + d = 8 → ∃ ou' : Nat → Int32, (∀ post : SX → Prop, post (dep, dly, grd, hgt, wal, kn, (hl_I nc), (hl_I no), (hl_I nh), am, ex, rm, (hl_I na), (hl_I nr), pt, (hl_I ns), (hl_I nl), (hl_I nw), (hl_I np), (hl_I nq), cl, pb, ca, ou') → wX_publish_62 post (nI e) (nI q) (nI (e / 2)) dep dly grd hgt (d + 1) (nI i) wal kn (hl_I nc) (hl_I no) (hl_I nh) am ex rm (hl_I na) (hl_I nr) pt (hl_I ns) (hl_I nl) (hl_I nw) (hl_I np) (hl_I nq) cl pb ca ou) ∧ (∀ post : Int32 → SY → Prop, post 0 (dep, dly, grd, hgt, wal, kn, (hl_I nc), (hl_I no), (hl_I nh), am, ex, rm, pt, hd, (hl_I nl), (hl_I nw), cd, ce, pb, cb, ou') → wY_close_121 post (nI e) (nI q) dep dly grd hgt (d + 2) (nI i) wal kn (hl_I nc) (hl_I no) (hl_I nh) am ex rm pt hd (hl_I nl) (hl_I nw) cd ce pb cb ou) := by
  have L := hl_k2 C e
  intro d
  induction d with
  | zero =>
    intro i ou hi
    have z : i = 8 := by omega
    subst z
    obtain ⟨r, hX, hY⟩ := hl_balW (dep := dep) (dly := dly) (grd := grd) (hgt := hgt) (wal := wal) (kn := kn) (am := am) (ex := ex) (cl := cl) (pb := pb) (ca := ca) (ou := ou) (cd := cd) (ce := ce) (cb := cb) C he hq (nI e)
    have e98 : nI (e / 2) * 9 + 8 = nI (e / 2 * 9 + 8) := hl_i9 (e / 2) 8
    have i9 : vp_in (nI (e / 2 * 9 + 8)) 27 := vp_in_nI (by omega) (by decide)
    have hc9 : (nI (e / 2 * 9 + 8)).toNatClampNeg = e / 2 * 9 + 8 := nI_clamp (by omega)
    refine ⟨upd ou (e / 2 * 9 + 8) r, fun post hp => ?_, fun post hp => ?_⟩
    · rw [wX_publish_62]
      dsimp only
      rw [e98, hc9]
      exact br_t (nI_le (a := 8) (Nat.le_refl _) (by decide)) (hX _ ⟨i9, nm_e hp⟩)
    · rw [wY_close_121]
      dsimp only
      rw [hl_e2 e he, hl_i9, hc9]
      refine br_f (nI_ge (b := 9) (by decide) (by decide)) ⟨hl_2n, hl_yv8 C he hq (hY _ ⟨i9, nm_e (nm_r (nI_1 8) ?_)⟩)⟩
      exact br_t (nI_le (a := 9) (Nat.le_refl _) (by decide)) hp
  | succ d ih =>
    intro i ou hi
    have i9 : vp_in (nI (e / 2 * 9 + i)) 27 := vp_in_nI (by omega) (by decide)
    have hc9 : (nI (e / 2 * 9 + i)).toNatClampNeg = e / 2 * 9 + i := nI_clamp (by omega)
    obtain ⟨ou', hX, hY⟩ := ih (i + 1) (upd ou (e / 2 * 9 + i) (hl_pd nc no na nr np nq rm am e q i)) (by omega)
    refine ⟨ou', fun post hp => ?_, fun post hp => ?_⟩
    · rw [wX_publish_62]
      dsimp only
      rw [hl_i9, hc9]
      exact br_f (nI_ge (b := 8) (by omega) (by decide)) (hl_xpd C he (by omega) (by omega) ⟨i9, nm_e (nm_r (nI_1 i) (hX post hp))⟩)
    · rw [wY_close_121]
      dsimp only
      rw [hl_e2 e he, hl_i9, hc9]
      exact br_f (nI_ge (b := 9) (by omega) (by decide)) ⟨hl_2n, hl_ypd C he hq (by omega) ⟨i9, nm_e (nm_r (nI_1 i) (hY post hp))⟩⟩
theorem hl_Dc (D : hl_D cl ca cd ce cb) {e c : Nat} (hc : e / 2 = c) : hl_D (upd cl c (nI e)) (upd ca c hgt) (upd cd c 1) (upd ce c (nI e)) (upd cb c hgt) := by
  intro c' h
  by_cases z : c' = c
  · rw [z, pk_us, pk_us, pk_us, pk_us, pk_us]
    exact Or.inr ⟨rfl, e, hc, rfl, rfl, rfl⟩
  · rw [pk_un z, pk_un z, pk_un z, pk_un z, pk_un z]
    exact D c' h
theorem hl_close (C : hl_C nc no nh na nr ns nl nw np nq rm pt hd) (D : hl_D cl ca cd ce cb) (K : hl_K kn) (hn : ∀ j, ns j ≤ k) (v1 v2 : Int32) : hl_out k (fun post => wpX_close post (dep, dly, grd, hgt, wal, kn, (hl_I nc), (hl_I no), (hl_I nh), am, ex, rm, (hl_I na), (hl_I nr), pt, (hl_I ns), (hl_I nl), (hl_I nw), (hl_I np), (hl_I nq), cl, pb, ca, ou) v1 v2) (fun post => wpY_close post (dep, dly, grd, hgt, wal, kn, (hl_I nc), (hl_I no), (hl_I nh), am, ex, rm, pt, hd, (hl_I nl), (hl_I nw), cd, ce, pb, cb, ou) v1 v2) := by
  have n1 := hl_1n
  have n2 := hl_2n
  have stay : i_Rel k (dep, dly, grd, hgt, wal, kn, (hl_I nc), (hl_I no), (hl_I nh), am, ex, rm, (hl_I na), (hl_I nr), pt, (hl_I ns), (hl_I nl), (hl_I nw), (hl_I np), (hl_I nq), cl, pb, ca, ou) (dep, dly, grd, hgt, wal, kn, (hl_I nc), (hl_I no), (hl_I nh), am, ex, rm, pt, hd, (hl_I nl), (hl_I nw), cd, ce, pb, cb, ou) := hl_in C D K hn
  rcases hl_rng v1 5 5 rfl (by decide) with h1 | ⟨h1, h1', h1''⟩ | ⟨e, he, rfl, h1, h1', -⟩
  · exact hl_mk (-1) stay (fun post hp => br_t h1 (br_t rfl hp)) (fun post hp => by unfold wpY_close; dsimp only; exact br_t h1 (br_f (by decide) (br_t h1 hp)))
  · exact hl_mk (-1) stay (fun post hp => br_f h1 (br_t h1' (br_t rfl hp))) (fun post hp => by unfold wpY_close; dsimp only; exact br_f h1 (br_f h1'' (br_f (by decide) (br_f h1 (br_f h1'' hp)))))
  have hc3 : e / 2 < 3 := by omega
  have L := hl_k2 C e
  have ie : vp_in (nI e) 6 := vp_in_nI he (by decide)
  have ic : vp_in (nI (e / 2)) 3 := vp_in_nI hc3 (by decide)
  have hce : (nI e).toNatClampNeg = e := nI_clamp (by omega)
  have hcc : (nI (e / 2)).toNatClampNeg = e / 2 := nI_clamp (by omega)
  rcases D (e / 2) hc3 with ⟨o1, o2, o3⟩ | ⟨o1, x, ox, o2, o3, o4⟩
  case inr =>
    refine hl_mk (-2) stay (fun post hp => ?_) (fun post hp => ?_)
    · (unfold wpX_close; dsimp only; rw [hl_e2 e he, hce]; refine br_f h1 (br_f h1' (br_f n1 ⟨n2, ?_⟩)))
      exact hl_xo0 hc3 ox o2 (br_t rfl hp)
    · (unfold wpY_close; dsimp only; rw [hce])
      exact hl_yop0 he o1 (br_f (by decide) (hl_yop0 he o1 hp))
  rcases hl_rng v2 (nI (nw e)) (nw e) rfl (by omega) with h2 | ⟨h2, h2', h2''⟩ | ⟨q, hq', rfl, h2, h2', h2''⟩
  · refine hl_mk (-1) stay (fun post hp => ?_) (fun post hp => ?_)
    · (unfold wpX_close; dsimp only; rw [hl_e2 e he, hce]; refine br_f h1 (br_f h1' (br_f n1 ⟨n2, ?_⟩)))
      exact hl_xo1 hc3 o2 (br_f n1 ⟨ie, br_t h2 (br_t rfl hp)⟩)
    · (unfold wpY_close; dsimp only; rw [hce])
      exact hl_yop1 he o1 (br_t rfl (br_t h2 hp))
  · refine hl_mk (-1) stay (fun post hp => ?_) (fun post hp => ?_)
    · (unfold wpX_close; dsimp only; rw [hl_e2 e he, hce]; refine br_f h1 (br_f h1' (br_f n1 ⟨n2, ?_⟩)))
      exact hl_xo1 hc3 o2 (br_f n1 ⟨ie, br_f h2 (br_t h2' (br_t rfl hp))⟩)
    · (unfold wpY_close; dsimp only; rw [hce])
      exact hl_yop1 he o1 (br_t rfl (br_f h2 ⟨ie, br_f h2'' hp⟩))
  have hq : q ≤ nw e := by omega
  by_cases hg : hl_g grd ((e + 1) / 2) = 0 ∨ hl_I nl e ≤ nI q
  case neg =>
    have a1 : ¬ hl_g grd ((e + 1) / 2) = 0 := fun z => hg (Or.inl z)
    have a2 : ¬ hl_I nl e ≤ nI q := fun z => hg (Or.inr z)
    refine hl_mk (-8) stay (fun post hp => ?_) (fun post hp => ?_)
    · (unfold wpX_close; dsimp only; rw [hl_e2 e he, hce]; refine br_f h1 (br_f h1' (br_f n1 ⟨n2, ?_⟩)))
      exact hl_xo1 hc3 o2 (br_f n1 ⟨ie, br_f h2 (br_f h2' (br_f n1 (hl_xge he (br_f a1 ⟨ie, br_f a2 hp⟩))))⟩)
    · (unfold wpY_close; dsimp only; rw [hce])
      rw [hl_ep e he]
      exact hl_yop1 he o1 (br_t rfl (br_f h2 ⟨ie, br_t h2'' ⟨n2, hl_yg (br_f a1 ⟨ie, br_f a2 hp⟩)⟩⟩))
  have x6 := hl_x6 e he
  obtain ⟨p, hp2⟩ : ∃ p, (hl_x e + 1) / 2 = p := ⟨_, rfl⟩
  have ip : vp_in (nI p) 4 := vp_in_nI (by omega) (by decide)
  have hcp : (nI p).toNatClampNeg = p := nI_clamp (by omega)
  obtain ⟨r, bX, bY⟩ := hl_balW (dep := dep) (dly := dly) (grd := grd) (hgt := hgt) (wal := wal) (kn := kn) (am := am) (ex := ex) (cl := upd cl (e / 2) (nI e)) (pb := upd pb (e / 2) (nI q)) (ca := upd ca (e / 2) hgt) (ou := ou) (cd := upd cd (e / 2) 1) (ce := upd ce (e / 2) (nI e)) (cb := upd cb (e / 2) hgt) C he hq (nI (hl_x e))
  obtain ⟨ou', lX, lY⟩ := hl_pub (dep := dep) (dly := dly) (grd := grd) (hgt := hgt) (wal := upd wal p (wal p + r)) (kn := kn) (am := am) (ex := ex) (cl := upd cl (e / 2) (nI e)) (pb := upd pb (e / 2) (nI q)) (ca := upd ca (e / 2) hgt) (cd := upd cd (e / 2) 1) (ce := upd ce (e / 2) (nI e)) (cb := upd cb (e / 2) hgt) C he hq 8 0 ou (by decide)
  have new : i_Rel k (dep, dly, grd, hgt, (upd wal p (wal p + r)), kn, (hl_I nc), (hl_I no), (hl_I nh), am, ex, rm, (hl_I na), (hl_I nr), pt, (hl_I ns), (hl_I nl), (hl_I nw), (hl_I np), (hl_I nq), (upd cl (e / 2) (nI e)), (upd pb (e / 2) (nI q)), (upd ca (e / 2) hgt), ou') (dep, dly, grd, hgt, (upd wal p (wal p + r)), kn, (hl_I nc), (hl_I no), (hl_I nh), am, ex, rm, pt, hd, (hl_I nl), (hl_I nw), (upd cd (e / 2) 1), (upd ce (e / 2) (nI e)), (upd pb (e / 2) (nI q)), (upd cb (e / 2) hgt), ou') := hl_in C (hl_Dc D rfl) K hn
  refine hl_mk 0 new (fun post hp => ?_) (fun post hp => ?_)
  · have go : wX_close_61 post (nI e) (nI q) dep dly grd hgt wal kn (hl_I nc) (hl_I no) (hl_I nh) am ex rm (hl_I na) (hl_I nr) pt (hl_I ns) (hl_I nl) (hl_I nw) (hl_I np) (hl_I nq) cl pb ca ou := by
      unfold wX_close_61 wpX_publish
      dsimp only
      unfold wpX_partyOf
      dsimp only
      rw [hl_e2 e he, hl_ex e he]
      refine ⟨n2, nm_e (nm_e ⟨n2, ?_⟩)⟩
      rw [hl_ep _ x6, hp2, hcp, hcc]
      exact ⟨ic, nm_e ⟨ic, nm_e ⟨ic, nm_e ⟨ip, bX _ ⟨ip, nm_e ⟨9, lX _ hp⟩⟩⟩⟩⟩⟩
    (unfold wpX_close; dsimp only; rw [hl_e2 e he, hce]; refine br_f h1 (br_f h1' (br_f n1 ⟨n2, ?_⟩)))
    refine hl_xo1 hc3 o2 (br_f n1 ⟨ie, br_f h2 (br_f h2' (br_f n1 (hl_xge he ?_)))⟩)
    rcases hg with y | y
    · exact br_t y go
    · exact br_c (fun _ => go) (fun _ => ⟨ie, br_t y go⟩)
  · have go : wY_close_55 post (nI e) (nI q) dep dly grd hgt wal kn (hl_I nc) (hl_I no) (hl_I nh) am ex rm pt hd (hl_I nl) (hl_I nw) cd ce pb cb ou := by
      unfold wY_close_55
      rw [hl_e2 e he, hcc, hl_v1]
      refine ⟨n2, ic, nm_e ⟨n2, ic, nm_e ⟨n2, ic, nm_e ⟨n2, ic, nm_e (hl_ypeer he ⟨n2, ?_⟩)⟩⟩⟩⟩
      rw [hl_ep _ x6, hp2, hcp]
      exact ⟨ip, hl_yv9 C he hq (bY _ ⟨ip, nm_e ⟨10, lY _ hp⟩⟩)⟩
    (unfold wpY_close; dsimp only; rw [hce])
    rw [hl_ep e he]
    refine hl_yop1 he o1 (br_t rfl (br_f h2 ⟨ie, br_t h2'' ⟨n2, hl_yg ?_⟩⟩))
    rcases hg with y | y
    · exact br_t y go
    · exact br_c (fun _ => go) (fun _ => ⟨ie, br_t y go⟩)
end
end
section
/-! claim -/
section
variable {dep dly grd hgt : Int32} {wal kn am ex rm pt cl pb ca ou hd cd ce cb : Nat → Int32} {nc no nh na nr ns nl nw np nq : Nat → Nat}
variable {k : Nat}
theorem hl_rev (C : hl_C nc no nh na nr ns nl nw np nq rm pt hd) {t : Nat} (ht : t < 24) (x1 x2 x3 : Int32) : ∀ (d p : Nat) (kn : Nat → Int32), p + d = 4 → hl_K kn → ∃ kn' : Nat → Int32, hl_K kn' ∧ (∀ post : SX → Prop, post (dep, dly, grd, hgt, wal, kn', (hl_I nc), (hl_I no), (hl_I nh), am, ex, rm, (hl_I na), (hl_I nr), pt, (hl_I ns), (hl_I nl), (hl_I nw), (hl_I np), (hl_I nq), cl, pb, ca, ou) → wX_revealToAll_2 post (nI (nh t)) dep dly grd hgt (d + 1) (nI p) wal kn (hl_I nc) (hl_I no) (hl_I nh) am ex rm (hl_I na) (hl_I nr) pt (hl_I ns) (hl_I nl) (hl_I nw) (hl_I np) (hl_I nq) cl pb ca ou) ∧ (∀ post : Int32 → SY → Prop, wY_claim_253 post x1 x2 x3 dep dly grd hgt wal kn' (hl_I nc) (hl_I no) (hl_I nh) am ex rm pt hd (hl_I nl) (hl_I nw) cd ce pb cb ou → wY_claim_217 post x1 x2 x3 (nI t) 1 dep dly grd hgt (d + 1) (nI p) wal kn (hl_I nc) (hl_I no) (hl_I nh) am ex rm pt hd (hl_I nl) (hl_I nw) cd ce pb cb ou) := by
  have B := hl_k1 C t
  have it : vp_in (nI t) 24 := vp_in_nI ht (by decide)
  intro d
  induction d with
  | zero =>
    intro p kn hp K
    have z : p = 4 := by omega
    subst z
    exact ⟨kn, K, fun post h => br_t (nI_le (a := 4) (Nat.le_refl _) (by decide)) h, fun post h => br_t (nI_le (a := 4) (Nat.le_refl _) (by decide)) h⟩
  | succ d ih =>
    intro p kn hp K
    have i8 : vp_in (nI (p * 8 + nh t)) 32 := vp_in_nI (by omega) (by decide)
    have hc8 : (nI (p * 8 + nh t)).toNatClampNeg = p * 8 + nh t := nI_clamp (by omega)
    have hct : (nI t).toNatClampNeg = t := nI_clamp (by omega)
    obtain ⟨kn', K', hX, hY⟩ := ih (p + 1) (upd kn (p * 8 + nh t) 1) (by omega) (hl_Ku K _)
    refine ⟨kn', K', fun post h => ?_, fun post h => ?_⟩
    · rw [wX_revealToAll_2]
      dsimp only
      rw [hl_i8, hc8, hl_v1]
      exact br_f (nI_ge (b := 4) (by omega) (by decide)) ⟨i8, nm_e (nm_r (nI_1 p) (hX post h))⟩
    · rw [wY_claim_217]
      dsimp only
      rw [hct, hl_at nh t, hl_i8, hc8, hl_v1]
      exact br_f (nI_ge (b := 4) (by omega) (by decide)) (br_f hl_1n ⟨it, i8, nm_e (nm_r (nI_1 p) (hY post h))⟩)
theorem hl_xpay {post : Int32 → SX → Prop} {e c i : Nat} (he : e < 6) (h9 : c * 9 + i < 27) (hp : post 0 (dep, dly, grd, hgt, (upd wal ((e + 1) / 2) (wal ((e + 1) / 2) + ou (c * 9 + i))), kn, (hl_I nc), (hl_I no), (hl_I nh), am, ex, rm, (hl_I na), (hl_I nr), pt, (hl_I ns), (hl_I nl), (hl_I nw), (hl_I np), (hl_I nq), cl, pb, ca, (upd ou (c * 9 + i) 0))) : wX_claim_119 post (nI e) (nI (c * 9 + i)) dep dly grd hgt wal kn (hl_I nc) (hl_I no) (hl_I nh) am ex rm (hl_I na) (hl_I nr) pt (hl_I ns) (hl_I nl) (hl_I nw) (hl_I np) (hl_I nq) cl pb ca ou := by
  have ip : vp_in (nI ((e + 1) / 2)) 4 := vp_in_nI (by omega) (by decide)
  have i9 : vp_in (nI (c * 9 + i)) 27 := vp_in_nI h9 (by decide)
  unfold wX_claim_119 wpX_partyOf
  dsimp only
  rw [hl_ep e he, nI_clamp (n := (e + 1) / 2) (by omega), nI_clamp (n := c * 9 + i) (by omega)]
  exact ⟨hl_2n, ip, i9, ip, nm_e ⟨i9, nm_e hp⟩⟩
theorem hl_ypay {post : Int32 → SY → Prop} {e c i : Nat} (he : e < 6) (h9 : c * 9 + i < 27) (hp : post 0 (dep, dly, grd, hgt, (upd wal ((e + 1) / 2) (wal ((e + 1) / 2) + ou (c * 9 + i))), kn, (hl_I nc), (hl_I no), (hl_I nh), am, ex, rm, pt, hd, (hl_I nl), (hl_I nw), cd, ce, pb, cb, (upd ou (c * 9 + i) 0))) : wY_claim_253 post (nI e) (nI i) (nI c) dep dly grd hgt wal kn (hl_I nc) (hl_I no) (hl_I nh) am ex rm pt hd (hl_I nl) (hl_I nw) cd ce pb cb ou := by
  have ip : vp_in (nI ((e + 1) / 2)) 4 := vp_in_nI (by omega) (by decide)
  have i9 : vp_in (nI (c * 9 + i)) 27 := vp_in_nI h9 (by decide)
  unfold wY_claim_253
  rw [hl_ep e he, hl_i9, nI_clamp (n := (e + 1) / 2) (by omega), nI_clamp (n := c * 9 + i) (by omega)]
  exact ⟨hl_2n, ip, i9, ip, nm_e ⟨i9, nm_e hp⟩⟩
theorem hl_xpen (C : hl_C nc no nh na nr ns nl nw np nq rm pt hd) {post : Int32 → Prop} {e c x : Nat} (he : e < 6) (hc : c < 3) (hx : x < 6) (h0 : cl c = nI x) (h : post (hl_b (decide (x ≠ e) && decide (¬ hl_I nl x ≤ pb c)))) : wpX_isPenalty post (dep, dly, grd, hgt, wal, kn, (hl_I nc), (hl_I no), (hl_I nh), am, ex, rm, (hl_I na), (hl_I nr), pt, (hl_I ns), (hl_I nl), (hl_I nw), (hl_I np), (hl_I nq), cl, pb, ca, ou) (nI e) (nI c) := by
  have ic : vp_in (nI c) 3 := vp_in_nI hc (by decide)
  have ix : vp_in (nI x) 6 := vp_in_nI hx (by decide)
  unfold wpX_isPenalty
  dsimp only
  rw [nI_clamp (n := c) (by omega), h0]
  refine ⟨ic, nm_e ?_⟩
  rw [nI_clamp (n := x) (by omega)]
  refine br_f (nI_pos (by omega)) (pk_eq x e (fun z => ?_) (fun z => ⟨ic, ix, br_c (fun y => ?_) (fun y => ?_)⟩))
  · rw [decide_eq_false (fun w => w z), Bool.false_and] at h; exact h
  · rw [decide_eq_false (show ¬ ¬ hl_I nl x ≤ pb c from fun w => w y), Bool.and_false] at h; exact h
  · rw [decide_eq_true z, decide_eq_true y] at h; exact h
theorem hl_claim (C : hl_C nc no nh na nr ns nl nw np nq rm pt hd) (D : hl_D cl ca cd ce cb) (K : hl_K kn) (hn : ∀ j, ns j ≤ k) (v1 v2 : Int32) : hl_out k (fun post => wpX_claim post (dep, dly, grd, hgt, wal, kn, (hl_I nc), (hl_I no), (hl_I nh), am, ex, rm, (hl_I na), (hl_I nr), pt, (hl_I ns), (hl_I nl), (hl_I nw), (hl_I np), (hl_I nq), cl, pb, ca, ou) v1 v2) (fun post => wpY_claim post (dep, dly, grd, hgt, wal, kn, (hl_I nc), (hl_I no), (hl_I nh), am, ex, rm, pt, hd, (hl_I nl), (hl_I nw), cd, ce, pb, cb, ou) v1 v2) := by
  have n1 := hl_1n
  have n2 := hl_2n
  have stay : i_Rel k (dep, dly, grd, hgt, wal, kn, (hl_I nc), (hl_I no), (hl_I nh), am, ex, rm, (hl_I na), (hl_I nr), pt, (hl_I ns), (hl_I nl), (hl_I nw), (hl_I np), (hl_I nq), cl, pb, ca, ou) (dep, dly, grd, hgt, wal, kn, (hl_I nc), (hl_I no), (hl_I nh), am, ex, rm, pt, hd, (hl_I nl), (hl_I nw), cd, ce, pb, cb, ou) := hl_in C D K hn
  rcases hl_rng v1 5 5 rfl (by decide) with h1 | ⟨h1, h1', -⟩ | ⟨e, he, rfl, h1, h1', -⟩
  · exact hl_mk (-1) stay (fun post hp => br_t h1 (br_t rfl hp)) (fun post hp => br_t h1 hp)
  · exact hl_mk (-1) stay (fun post hp => br_f h1 (br_t h1' (br_t rfl hp))) (fun post hp => br_f h1 (br_t h1' hp))
  rcases hl_rng v2 8 8 rfl (by decide) with h2 | ⟨h2, h2', h2''⟩ | ⟨i, hi, rfl, h2, h2', h2''⟩
  · exact hl_mk (-1) stay (fun post hp => br_f h1 (br_f h1' (br_f n1 (br_t h2 (br_t rfl hp))))) (fun post hp => br_f h1 (br_f h1' (br_t h2 hp)))
  · exact hl_mk (-1) stay (fun post hp => br_f h1 (br_f h1' (br_f n1 (br_f h2 (br_t h2' (br_t rfl hp)))))) (fun post hp => br_f h1 (br_f h1' (br_f h2 (br_f h2'' hp))))
  have hc3 : e / 2 < 3 := by omega
  have ic : vp_in (nI (e / 2)) 3 := vp_in_nI hc3 (by decide)
  have h9 : e / 2 * 9 + i < 27 := by omega
  have i9 : vp_in (nI (e / 2 * 9 + i)) 27 := vp_in_nI h9 (by decide)
  have hcc : (nI (e / 2)).toNatClampNeg = e / 2 := nI_clamp (by omega)
  have hct : (nI (e / 2 * 8 + i)).toNatClampNeg = e / 2 * 8 + i := nI_clamp (by omega)
  have hc9 : (nI (e / 2 * 9 + i)).toNatClampNeg = e / 2 * 9 + i := nI_clamp (by omega)
  have Bt := hl_k1 C (e / 2 * 8 + i)
  rcases D (e / 2) hc3 with ⟨o1, o2, o3⟩ | ⟨o1, x, ox, o2, o3, o4⟩
  · have y48 : ∀ (post : Int32 → SY → Prop) (z : Int32), post (-2) (dep, dly, grd, hgt, wal, kn, (hl_I nc), (hl_I no), (hl_I nh), am, ex, rm, pt, hd, (hl_I nl), (hl_I nw), cd, ce, pb, cb, ou) → wY_claim_48 post (nI e) (nI i) (nI (e / 2)) (nI (e / 2 * 8 + i)) z dep dly grd hgt wal kn (hl_I nc) (hl_I no) (hl_I nh) am ex rm pt hd (hl_I nl) (hl_I nw) cd ce pb cb ou := by
      intro post z hp
      unfold wY_claim_48
      rw [hcc]
      exact ⟨ic, br_t o1 hp⟩
    refine hl_mk (-2) stay (fun post hp => ?_) (fun post hp => ?_)
    · (unfold wpX_claim; dsimp only; rw [hl_e2 e he]; refine br_f h1 (br_f h1' (br_f n1 (br_f h2 (br_f h2' (br_f n1 ⟨n2, nm_e ?_⟩))))); rw [hl_i9, hl_i8, hct])
      exact hl_xo1 hc3 o2 (br_f n1 hp)
    · (unfold wpY_claim; dsimp only; rw [hl_e2 e he]; refine br_f h1 (br_f h1' (br_f h2 (br_t h2'' ⟨n2, nm_e (nm_e ⟨ic, ?_⟩)⟩))); rw [hcc, hl_i8])
      exact br_c (fun _ => y48 post 1 hp) (fun _ => y48 post 0 hp)
  have x6 : x < 6 := by omega
  have ix : vp_in (nI x) 6 := vp_in_nI x6 (by decide)
  have hcx : (nI x).toNatClampNeg = x := nI_clamp (by omega)
  have c0 : ¬ cd (e / 2) = 0 := by rw [o1]; decide
  have yC : ∀ post : Int32 → SY → Prop, wY_claim_48 post (nI e) (nI i) (nI (e / 2)) (nI (e / 2 * 8 + i)) (hl_b (decide (x = e))) dep dly grd hgt wal kn (hl_I nc) (hl_I no) (hl_I nh) am ex rm pt hd (hl_I nl) (hl_I nw) cd ce pb cb ou → wpY_claim post (dep, dly, grd, hgt, wal, kn, (hl_I nc), (hl_I no), (hl_I nh), am, ex, rm, pt, hd, (hl_I nl), (hl_I nw), cd, ce, pb, cb, ou) (nI e) (nI i) := by
    intro post h
    (unfold wpY_claim; dsimp only; rw [hl_e2 e he]; refine br_f h1 (br_f h1' (br_f h2 (br_t h2'' ⟨n2, nm_e (nm_e ⟨ic, ?_⟩)⟩))); rw [hcc, hl_i8])
    rw [o3]
    refine pk_eq e x (fun z => ?_) (fun z => ?_)
    · rw [decide_eq_true z.symm] at h; exact h
    · rw [decide_eq_false (fun w => z w.symm)] at h; exact h
  by_cases oz : ou (e / 2 * 9 + i) = 0
  · refine hl_mk (-4) stay (fun post hp => ?_) (fun post hp => yC post ?_)
    · ((unfold wpX_claim; dsimp only; rw [hl_e2 e he]; refine br_f h1 (br_f h1' (br_f n1 (br_f h2 (br_f h2' (br_f n1 ⟨n2, nm_e ?_⟩))))); rw [hl_i9, hl_i8, hct]); refine hl_xo0 hc3 ox o2 (br_t rfl (nm_e ?_)); rw [hc9])
      exact ⟨i9, br_t oz hp⟩
    · unfold wY_claim_48
      rw [hcc, hl_i9, hc9]
      exact ⟨ic, br_f c0 ⟨i9, br_t oz hp⟩⟩
  by_cases hT : x = e ∧ ¬ ca (e / 2) + dly ≤ hgt
  · have hT2 : ¬ cb (e / 2) + dly ≤ hgt := by rw [← o4]; exact hT.2
    have oe : cl (e / 2) = nI e := by rw [o2, hT.1]
    refine hl_mk (-5) stay (fun post hp => ?_) (fun post hp => yC post ?_)
    · ((unfold wpX_claim; dsimp only; rw [hl_e2 e he]; refine br_f h1 (br_f h1' (br_f n1 (br_f h2 (br_f h2' (br_f n1 ⟨n2, nm_e ?_⟩))))); rw [hl_i9, hl_i8, hct]); refine hl_xo0 hc3 ox o2 (br_t rfl (nm_e ?_)); rw [hc9])
      refine ⟨i9, br_f oz ?_⟩
      unfold wpX_claimVerdict
      dsimp only
      rw [hcc]
      refine ⟨ic, br_t oe ?_⟩
      unfold wX_claimVerdict_15
      rw [hcc]
      exact br_f n1 ⟨ic, br_f hT.2 (br_f (by decide) hp)⟩
    · unfold wY_claim_48
      rw [hcc, hl_i9, hc9]
      exact ⟨ic, br_f c0 ⟨i9, br_f oz (hl_br (fun z => absurd hT.1 (of_decide_eq_false z)) (fun _ => ⟨ic, br_f hT2 hp⟩))⟩⟩
  have hT1 : x = e → ca (e / 2) + dly ≤ hgt := fun z => Classical.byContradiction (fun y => hT ⟨z, y⟩)
  have hT2 : x = e → cb (e / 2) + dly ≤ hgt := fun z => by rw [← o4]; exact hT1 z
  have xV : ∀ post : Int32 → Prop, wX_claimVerdict_43 post (nI e) (nI (e / 2)) (nI i) (hl_b (decide (x = e))) dep dly grd hgt wal kn (hl_I nc) (hl_I no) (hl_I nh) am ex rm (hl_I na) (hl_I nr) pt (hl_I ns) (hl_I nl) (hl_I nw) (hl_I np) (hl_I nq) cl pb ca ou → wpX_claimVerdict post (dep, dly, grd, hgt, wal, kn, (hl_I nc), (hl_I no), (hl_I nh), am, ex, rm, (hl_I na), (hl_I nr), pt, (hl_I ns), (hl_I nl), (hl_I nw), (hl_I np), (hl_I nq), cl, pb, ca, ou) (nI e) (nI (e / 2)) (nI i) := by
    intro post h
    unfold wpX_claimVerdict
    dsimp only
    rw [hcc, o2]
    unfold wX_claimVerdict_15
    rw [hcc]
    refine ⟨ic, pk_eq x e (fun z => ?_) (fun z => ?_)⟩
    · rw [decide_eq_true z] at h
      exact br_f n1 ⟨ic, br_t (hT1 z) h⟩
    · rw [decide_eq_false z] at h
      exact br_t rfl h
  have yV : ∀ post : Int32 → SY → Prop, wY_claim_105 post (nI e) (nI i) (nI (e / 2)) (nI (e / 2 * 8 + i)) (hl_b (decide (x = e))) dep dly grd hgt wal kn (hl_I nc) (hl_I no) (hl_I nh) am ex rm pt hd (hl_I nl) (hl_I nw) cd ce pb cb ou → wpY_claim post (dep, dly, grd, hgt, wal, kn, (hl_I nc), (hl_I no), (hl_I nh), am, ex, rm, pt, hd, (hl_I nl), (hl_I nw), cd, ce, pb, cb, ou) (nI e) (nI i) := by
    intro post h
    refine yC post ?_
    unfold wY_claim_48
    rw [hcc, hl_i9, hc9]
    exact ⟨ic, br_f c0 ⟨i9, br_f oz (hl_br (fun _ => h) (fun z => ⟨ic, br_t (hT2 (of_decide_eq_true z)) h⟩))⟩⟩
  have paid : i_Rel k (dep, dly, grd, hgt, (upd wal ((e + 1) / 2) (wal ((e + 1) / 2) + ou (e / 2 * 9 + i))), kn, (hl_I nc), (hl_I no), (hl_I nh), am, ex, rm, (hl_I na), (hl_I nr), pt, (hl_I ns), (hl_I nl), (hl_I nw), (hl_I np), (hl_I nq), cl, pb, ca, (upd ou (e / 2 * 9 + i) 0)) (dep, dly, grd, hgt, (upd wal ((e + 1) / 2) (wal ((e + 1) / 2) + ou (e / 2 * 9 + i))), kn, (hl_I nc), (hl_I no), (hl_I nh), am, ex, rm, pt, hd, (hl_I nl), (hl_I nw), cd, ce, pb, cb, (upd ou (e / 2 * 9 + i) 0)) := hl_in C D K hn
  by_cases hpen : x ≠ e ∧ ¬ hl_I nl x ≤ pb (e / 2)
  · have xP : (decide (x ≠ e) && decide (¬ hl_I nl x ≤ pb (e / 2))) = true := by rw [decide_eq_true hpen.1, decide_eq_true hpen.2]; rfl
    refine hl_mk 0 paid (fun post hp => ?_) (fun post hp => yV post ?_)
    · (((unfold wpX_claim; dsimp only; rw [hl_e2 e he]; refine br_f h1 (br_f h1' (br_f n1 (br_f h2 (br_f h2' (br_f n1 ⟨n2, nm_e ?_⟩))))); rw [hl_i9, hl_i8, hct]); refine hl_xo0 hc3 ox o2 (br_t rfl (nm_e ?_)); rw [hc9]); refine ⟨i9, br_f oz (xV _ ?_)⟩; unfold wX_claimVerdict_43)
      refine hl_xpen C he hc3 x6 o2 ?_
      rw [xP, hl_bt]
      refine br_f n1 (br_t rfl (br_c (fun _ => hl_xpay he h9 hp) (fun _ => hl_xpen C he hc3 x6 o2 ?_)))
      rw [xP, hl_bt]
      exact br_f n1 (hl_xpay he h9 hp)
    · unfold wY_claim_105
      rw [hcc, o3, hcx, decide_eq_false hpen.1]
      exact br_t rfl ⟨ic, ic, ix, br_t (Int32.not_le.mp hpen.2) (hl_ypay he h9 hp)⟩
  have xP : (decide (x ≠ e) && decide (¬ hl_I nl x ≤ pb (e / 2))) = false := by
    by_cases z : x ≠ e
    · rw [decide_eq_true z, decide_eq_false (fun y => hpen ⟨z, y⟩)]; rfl
    · rw [decide_eq_false z]; rfl
  have yN : ∀ post : Int32 → SY → Prop, wY_claim_130 post (nI e) (nI i) (nI (e / 2)) (nI (e / 2 * 8 + i)) (hl_b (decide (x = e))) dep dly grd hgt wal kn (hl_I nc) (hl_I no) (hl_I nh) am ex rm pt hd (hl_I nl) (hl_I nw) cd ce pb cb ou → wpY_claim post (dep, dly, grd, hgt, wal, kn, (hl_I nc), (hl_I no), (hl_I nh), am, ex, rm, pt, hd, (hl_I nl), (hl_I nw), cd, ce, pb, cb, ou) (nI e) (nI i) := by
    intro post h
    refine yV post ?_
    unfold wY_claim_105
    rw [hcc, o3, hcx]
    refine hl_br (fun z => ⟨ic, ic, ix, br_f (fun y => ?_) h⟩) (fun _ => h)
    exact hpen ⟨of_decide_eq_false z, fun w => absurd y (Int32.not_lt.mpr w)⟩
  by_cases i8 : i = 8
  · have i8' : nI i = 8 := congrArg nI i8
    have i8'' : (8 : Int32) ≤ nI i := nI_le (a := 8) (by omega) (by omega)
    by_cases hz : x = e
    · refine hl_mk 0 paid (fun post hp => ?_) (fun post hp => yN post ?_)
      · (((unfold wpX_claim; dsimp only; rw [hl_e2 e he]; refine br_f h1 (br_f h1' (br_f n1 (br_f h2 (br_f h2' (br_f n1 ⟨n2, nm_e ?_⟩))))); rw [hl_i9, hl_i8, hct]); refine hl_xo0 hc3 ox o2 (br_t rfl (nm_e ?_)); rw [hc9]); refine ⟨i9, br_f oz (xV _ ?_)⟩; unfold wX_claimVerdict_43)
        refine hl_xpen C he hc3 x6 o2 ?_
        rw [xP, hl_bf, decide_eq_true hz]
        exact br_t rfl (br_t i8' (br_f n1 (br_t rfl (br_t i8'' (hl_xpay he h9 hp)))))
      · rw [decide_eq_true hz]
        refine br_t i8' (br_f n1 (br_t i8'' (br_t rfl (br_t i8'' ⟨1, ?_⟩))))
        exact br_f (by decide) (br_t rfl (hl_ypay he h9 hp))
    · refine hl_mk (-4) stay (fun post hp => ?_) (fun post hp => yN post ?_)
      · (((unfold wpX_claim; dsimp only; rw [hl_e2 e he]; refine br_f h1 (br_f h1' (br_f n1 (br_f h2 (br_f h2' (br_f n1 ⟨n2, nm_e ?_⟩))))); rw [hl_i9, hl_i8, hct]); refine hl_xo0 hc3 ox o2 (br_t rfl (nm_e ?_)); rw [hc9]); refine ⟨i9, br_f oz (xV _ ?_)⟩; unfold wX_claimVerdict_43)
        refine hl_xpen C he hc3 x6 o2 ?_
        rw [xP, hl_bf, decide_eq_false hz]
        exact br_t rfl (br_t i8' (br_t rfl (br_f (by decide) hp)))
      · rw [decide_eq_false hz]
        exact br_t i8' (br_t rfl hp)
  have hi8 : i < 8 := by omega
  have ht : e / 2 * 8 + i < 24 := by omega
  have it : vp_in (nI (e / 2 * 8 + i)) 24 := vp_in_nI ht (by decide)
  have i8' : ¬ nI i = 8 := fun z => i8 ((nI_eq (b := 8) (by omega) (by decide)).mp z)
  have i8'' : ¬ (8 : Int32) ≤ nI i := nI_ge (b := 8) hi8 (by decide)
  by_cases hno : no (e / 2 * 8 + i) = e
  · have hno' : hl_I no (e / 2 * 8 + i) = nI e := congrArg nI hno
    by_cases hx : ex (e / 2 * 8 + i) ≤ hgt
    · have hx' : ¬ hgt < ex (e / 2 * 8 + i) := Int32.not_lt.mpr hx
      refine hl_mk 0 paid (fun post hp => ?_) (fun post hp => yN post ?_)
      · (((unfold wpX_claim; dsimp only; rw [hl_e2 e he]; refine br_f h1 (br_f h1' (br_f n1 (br_f h2 (br_f h2' (br_f n1 ⟨n2, nm_e ?_⟩))))); rw [hl_i9, hl_i8, hct]); refine hl_xo0 hc3 ox o2 (br_t rfl (nm_e ?_)); rw [hc9]); refine ⟨i9, br_f oz (xV _ ?_)⟩; unfold wX_claimVerdict_43)
        refine hl_xpen C he hc3 x6 o2 ?_
        rw [xP, hl_bf, hl_i8]
        refine br_t rfl (br_f i8' (nm_e ?_))
        rw [hct]
        refine ⟨it, br_t hno' ⟨it, br_f hx' (br_t rfl (br_f i8'' (hl_xpen C he hc3 x6 o2 ?_)))⟩⟩
        rw [xP, hl_bf]
        exact br_t rfl ⟨it, br_t hno' (hl_xpay he h9 hp)⟩
      · unfold wY_claim_130 wY_claim_144
        rw [hct]
        refine br_f i8' (br_f i8'' ⟨it, br_t hno' ?_⟩)
        unfold wY_claim_165 wY_claim_166 wY_claim_186
        rw [hct]
        refine br_t rfl (br_f i8'' (br_t rfl ⟨it, br_t hx ⟨1, ?_⟩⟩))
        exact br_f (by decide) (br_t rfl (hl_ypay he h9 hp))
    · have hx' : hgt < ex (e / 2 * 8 + i) := Int32.not_le.mp hx
      refine hl_mk (-5) stay (fun post hp => ?_) (fun post hp => yN post ?_)
      · (((unfold wpX_claim; dsimp only; rw [hl_e2 e he]; refine br_f h1 (br_f h1' (br_f n1 (br_f h2 (br_f h2' (br_f n1 ⟨n2, nm_e ?_⟩))))); rw [hl_i9, hl_i8, hct]); refine hl_xo0 hc3 ox o2 (br_t rfl (nm_e ?_)); rw [hc9]); refine ⟨i9, br_f oz (xV _ ?_)⟩; unfold wX_claimVerdict_43)
        refine hl_xpen C he hc3 x6 o2 ?_
        rw [xP, hl_bf, hl_i8]
        refine br_t rfl (br_f i8' (nm_e ?_))
        rw [hct]
        exact ⟨it, br_t hno' ⟨it, br_t hx' (br_f (by decide) hp)⟩⟩
      · unfold wY_claim_130 wY_claim_144
        rw [hct]
        refine br_f i8' (br_f i8'' ⟨it, br_t hno' ?_⟩)
        unfold wY_claim_165 wY_claim_166 wY_claim_186
        rw [hct]
        exact br_t rfl (br_f i8'' (br_t rfl ⟨it, br_f hx hp⟩))
  · have hno' : ¬ hl_I no (e / 2 * 8 + i) = nI e := fun z => hno ((nI_eq (by omega) (by omega)).mp z)
    by_cases hk : kn ((e + 1) / 2 * 8 + nh (e / 2 * 8 + i)) = 0
    · refine hl_mk (-7) stay (fun post hp => ?_) (fun post hp => yN post ?_)
      · (((unfold wpX_claim; dsimp only; rw [hl_e2 e he]; refine br_f h1 (br_f h1' (br_f n1 (br_f h2 (br_f h2' (br_f n1 ⟨n2, nm_e ?_⟩))))); rw [hl_i9, hl_i8, hct]); refine hl_xo0 hc3 ox o2 (br_t rfl (nm_e ?_)); rw [hc9]); refine ⟨i9, br_f oz (xV _ ?_)⟩; unfold wX_claimVerdict_43)
        refine hl_xpen C he hc3 x6 o2 ?_
        rw [xP, hl_bf, hl_i8]
        refine br_t rfl (br_f i8' (nm_e ?_))
        rw [hct]
        exact ⟨it, br_f hno' (hl_xkn C K he ht (br_t hk (br_f (by decide) hp)))⟩
      · unfold wY_claim_130 wY_claim_144
        rw [hct]
        refine br_f i8' (br_f i8'' ⟨it, br_f hno' ?_⟩)
        unfold wY_claim_166
        exact br_f n1 (hl_yaw C K he ht (br_t hk hp))
    · obtain ⟨kn', K', rX, rY⟩ := hl_rev (dep := dep) (dly := dly) (grd := grd) (hgt := hgt) (wal := wal) (am := am) (ex := ex) (cl := cl) (pb := pb) (ca := ca) (ou := ou) (cd := cd) (ce := ce) (cb := cb) C ht (nI e) (nI i) (nI (e / 2)) 4 0 kn (by decide) K
      have paid' : i_Rel k (dep, dly, grd, hgt, (upd wal ((e + 1) / 2) (wal ((e + 1) / 2) + ou (e / 2 * 9 + i))), kn', (hl_I nc), (hl_I no), (hl_I nh), am, ex, rm, (hl_I na), (hl_I nr), pt, (hl_I ns), (hl_I nl), (hl_I nw), (hl_I np), (hl_I nq), cl, pb, ca, (upd ou (e / 2 * 9 + i) 0)) (dep, dly, grd, hgt, (upd wal ((e + 1) / 2) (wal ((e + 1) / 2) + ou (e / 2 * 9 + i))), kn', (hl_I nc), (hl_I no), (hl_I nh), am, ex, rm, pt, hd, (hl_I nl), (hl_I nw), cd, ce, pb, cb, (upd ou (e / 2 * 9 + i) 0)) := hl_in C D K' hn
      refine hl_mk 0 paid' (fun post hp => ?_) (fun post hp => yN post ?_)
      · (((unfold wpX_claim; dsimp only; rw [hl_e2 e he]; refine br_f h1 (br_f h1' (br_f n1 (br_f h2 (br_f h2' (br_f n1 ⟨n2, nm_e ?_⟩))))); rw [hl_i9, hl_i8, hct]); refine hl_xo0 hc3 ox o2 (br_t rfl (nm_e ?_)); rw [hc9]); refine ⟨i9, br_f oz (xV _ ?_)⟩; unfold wX_claimVerdict_43)
        refine hl_xpen C he hc3 x6 o2 ?_
        rw [xP, hl_bf, hl_i8]
        refine br_t rfl (br_f i8' (nm_e ?_))
        rw [hct]
        refine ⟨it, br_f hno' (hl_xkn C K he ht (br_f hk (br_t rfl (br_f i8'' (hl_xpen C he hc3 x6 o2 ?_)))))⟩
        rw [xP, hl_bf]
        refine br_t rfl ⟨it, br_f hno' ⟨it, ?_⟩⟩
        unfold wpX_revealToAll
        exact ⟨5, rX _ (hl_xpay he h9 hp)⟩
      · unfold wY_claim_130 wY_claim_144
        rw [hct]
        refine br_f i8' (br_f i8'' ⟨it, br_f hno' ?_⟩)
        unfold wY_claim_166
        refine br_f n1 (hl_yaw C K he ht (br_f hk ?_))
        unfold wY_claim_186
        exact br_f i8'' (br_f n1 ⟨5, rY _ (hl_ypay he h9 hp)⟩)
end
end
section
/-! due, turns, tick -/
section
variable {dep dly grd hgt : Int32} {wal kn am ex rm pt cl pb ca ou hd cd ce cb : Nat → Int32} {nc no nh na nr ns nl nw np nq : Nat → Nat}
variable {k : Nat}
theorem hl_due (C : hl_C nc no nh na nr ns nl nw np nq rm pt hd) (K : hl_K kn) {e i : Nat} (he : e < 6) (hi : i < nc (e / 2)) : ∃ b : Bool, (no (e / 2 * 8 + i) = e → ∀ post : Int32 → Prop, post (hl_b b) → wpX_isOfferedDue post (dep, dly, grd, hgt, wal, kn, (hl_I nc), (hl_I no), (hl_I nh), am, ex, rm, (hl_I na), (hl_I nr), pt, (hl_I ns), (hl_I nl), (hl_I nw), (hl_I np), (hl_I nq), cl, pb, ca, ou) (nI e) (nI (e / 2 * 8 + i))) ∧ (no (e / 2 * 8 + i) ≠ e → ∀ post : Int32 → Prop, post (hl_b b) → wpX_isArrivedDue post (dep, dly, grd, hgt, wal, kn, (hl_I nc), (hl_I no), (hl_I nh), am, ex, rm, (hl_I na), (hl_I nr), pt, (hl_I ns), (hl_I nl), (hl_I nw), (hl_I np), (hl_I nq), cl, pb, ca, ou) (nI e) (nI (e / 2 * 8 + i))) ∧ (∀ post : Int32 → Prop, post (hl_b b) → wpY_due post (dep, dly, grd, hgt, wal, kn, (hl_I nc), (hl_I no), (hl_I nh), am, ex, rm, pt, hd, (hl_I nl), (hl_I nw), cd, ce, pb, cb, ou) (nI e) (nI (e / 2 * 8 + i))) := by
  have B := (hl_k1 C (e / 2)).1
  have Bt := hl_k1 C (e / 2 * 8 + i)
  have hc3 : e / 2 < 3 := by omega
  have ht : e / 2 * 8 + i < 24 := by omega
  have it : vp_in (nI (e / 2 * 8 + i)) 24 := vp_in_nI ht (by decide)
  have hct : (nI (e / 2 * 8 + i)).toNatClampNeg = e / 2 * 8 + i := nI_clamp (by omega)
  have r8 : nI (e / 2 * 8 + i) - nI (e / 2 * 8 + i) / 8 * 8 = nI i := by
    have z := pk_rem (a := e / 2 * 8 + i) (d := 8) (by omega) (by decide) (by decide)
    have z2 : (e / 2 * 8 + i) % 8 = i := by omega
    rw [z2] at z
    exact z
  have rsf : rm (e / 2 * 8 + i) = 0 → hl_rs no nr nl np nq rm (e / 2 * 8 + i) = false := by
    intro z
    unfold hl_rs
    rw [decide_eq_false (show ¬ rm (e / 2 * 8 + i) ≠ 0 from fun w => w z), Bool.false_and]
  by_cases hno : no (e / 2 * 8 + i) = e
  · have hno' : hl_I no (e / 2 * 8 + i) = nI e := congrArg nI hno
    cases hrs : hl_rs no nr nl np nq rm (e / 2 * 8 + i)
    · have y43 : ∀ post : Int32 → Prop, wY_due_43 post (nI e) (nI (e / 2 * 8 + i)) dep dly grd hgt wal kn (hl_I nc) (hl_I no) (hl_I nh) am ex rm pt hd (hl_I nl) (hl_I nw) cd ce pb cb ou → wpY_due post (dep, dly, grd, hgt, wal, kn, (hl_I nc), (hl_I no), (hl_I nh), am, ex, rm, pt, hd, (hl_I nl), (hl_I nw), cd, ce, pb, cb, ou) (nI e) (nI (e / 2 * 8 + i)) := by
        intro post h
        (unfold wpY_due; dsimp only; rw [hct, r8, hl_e2 e he, hl_i2, nI_1, Nat.mul_comm i 2]; refine ⟨it, nm_e ⟨hl_2n, hl_8n, hl_ysR C hc3 hi ⟨it, ?_⟩⟩⟩)
        rw [hrs]
        exact br_t hno' (br_c (fun _ => h) (fun _ => br_t rfl h))
      by_cases hk : kn ((e + 1) / 2 * 8 + nh (e / 2 * 8 + i)) = 0
      · by_cases hx : hgt + dly < ex (e / 2 * 8 + i)
        · refine ⟨false, fun _ post hp => ?_, fun z => absurd hno z, fun post hp => y43 post ?_⟩
          · unfold wpX_isOfferedDue; dsimp only; rw [hct]
            refine hl_xrs C ht ?_
            rw [hrs]
            exact br_t rfl (hl_xkn C K he ht (br_t hk ⟨it, br_t hx hp⟩))
          · unfold wY_due_43; rw [hct]
            exact hl_yaw C K he ht (br_t hk ⟨it, br_t hx hp⟩)
        · refine ⟨true, fun _ post hp => ?_, fun z => absurd hno z, fun post hp => y43 post ?_⟩
          · unfold wpX_isOfferedDue; dsimp only; rw [hct]
            refine hl_xrs C ht ?_
            rw [hrs]
            exact br_t rfl (hl_xkn C K he ht (br_t hk ⟨it, br_f hx hp⟩))
          · unfold wY_due_43; rw [hct]
            exact hl_yaw C K he ht (br_t hk ⟨it, br_f hx hp⟩)
      · refine ⟨false, fun _ post hp => ?_, fun z => absurd hno z, fun post hp => y43 post ?_⟩
        · unfold wpX_isOfferedDue; dsimp only
          refine hl_xrs C ht ?_
          rw [hrs]
          exact br_t rfl (hl_xkn C K he ht (br_f hk hp))
        · unfold wY_due_43
          exact hl_yaw C K he ht (br_f hk hp)
    · refine ⟨false, fun _ post hp => ?_, fun z => absurd hno z, fun post hp => ?_⟩
      · unfold wpX_isOfferedDue; dsimp only
        refine hl_xrs C ht ?_
        rw [hrs]
        exact br_f hl_1n hp
      · (unfold wpY_due; dsimp only; rw [hct, r8, hl_e2 e he, hl_i2, nI_1, Nat.mul_comm i 2]; refine ⟨it, nm_e ⟨hl_2n, hl_8n, hl_ysR C hc3 hi ⟨it, ?_⟩⟩⟩)
        rw [hrs]
        refine br_t hno' (br_f (fun z => ?_) (br_f hl_1n hp))
        rw [rsf z] at hrs
        exact absurd hrs (by decide)
  · have hno' : ¬ hl_I no (e / 2 * 8 + i) = nI e := fun z => hno ((nI_eq (by omega) (by omega)).mp z)
    cases has : hl_as no na nl np nq (e / 2 * 8 + i)
    · refine ⟨false, fun z => absurd z hno, fun _ post hp => ?_, fun post hp => ?_⟩
      · unfold wpX_isArrivedDue; dsimp only; rw [hct]
        refine ⟨it, br_c (fun _ => hp) (fun _ => hl_xrs C ht (hl_br (fun _ => hl_xas C ht ?_) (fun _ => hp)))⟩
        rw [has]
        exact br_t rfl hp
      · (unfold wpY_due; dsimp only; rw [hct, r8, hl_e2 e he, hl_i2, nI_1, Nat.mul_comm i 2]; refine ⟨it, nm_e ⟨hl_2n, hl_8n, hl_ysR C hc3 hi ⟨it, ?_⟩⟩⟩)
        refine br_f hno' ⟨hl_2n, hl_8n, hl_ysA C hc3 hi ?_⟩
        rw [has]
        exact br_t rfl hp
    · by_cases hgo : rm (e / 2 * 8 + i) ≠ 2 ∧ hl_rs no nr nl np nq rm (e / 2 * 8 + i) = false
      · have y106 : ∀ post : Int32 → Prop, wY_due_106 post (nI e) (nI (e / 2 * 8 + i)) dep dly grd hgt wal kn (hl_I nc) (hl_I no) (hl_I nh) am ex rm pt hd (hl_I nl) (hl_I nw) cd ce pb cb ou → wpY_due post (dep, dly, grd, hgt, wal, kn, (hl_I nc), (hl_I no), (hl_I nh), am, ex, rm, pt, hd, (hl_I nl), (hl_I nw), cd, ce, pb, cb, ou) (nI e) (nI (e / 2 * 8 + i)) := by
          intro post h
          (unfold wpY_due; dsimp only; rw [hct, r8, hl_e2 e he, hl_i2, nI_1, Nat.mul_comm i 2]; refine ⟨it, nm_e ⟨hl_2n, hl_8n, hl_ysR C hc3 hi ⟨it, ?_⟩⟩⟩)
          rw [hgo.2]
          refine br_f hno' ⟨hl_2n, hl_8n, hl_ysA C hc3 hi ?_⟩
          rw [has]
          refine br_f hl_1n (br_c (fun _ => h) (fun z0 => br_c (fun _ => br_t rfl h) (fun z1 => ?_)))
          rcases (hl_k3 C (e / 2 * 8 + i)).1 with w | w | w
          · exact absurd w z0
          · exact absurd w z1
          · exact absurd w hgo.1
        by_cases hk : kn ((e + 1) / 2 * 8 + nh (e / 2 * 8 + i)) = 0
        · refine ⟨false, fun z => absurd z hno, fun _ post hp => ?_, fun post hp => y106 post ?_⟩
          · (unfold wpX_isArrivedDue; dsimp only; rw [hct]; refine ⟨it, br_f hgo.1 (hl_xrs C ht ?_)⟩; rw [hgo.2]; refine br_t rfl (hl_xas C ht ?_); rw [has]; refine br_f hl_1n ?_)
            exact hl_xkn C K he ht (br_t hk hp)
          unfold wY_due_106
          exact hl_yaw C K he ht (br_t hk hp)
        · by_cases hx : hgt + dly + 1 < ex (e / 2 * 8 + i)
          · refine ⟨false, fun z => absurd z hno, fun _ post hp => ?_, fun post hp => y106 post ?_⟩
            · (unfold wpX_isArrivedDue; dsimp only; rw [hct]; refine ⟨it, br_f hgo.1 (hl_xrs C ht ?_)⟩; rw [hgo.2]; refine br_t rfl (hl_xas C ht ?_); rw [has]; refine br_f hl_1n ?_)
              exact hl_xkn C K he ht (br_f hk ⟨it, br_t hx hp⟩)
            unfold wY_due_106; rw [hct]
            exact hl_yaw C K he ht (br_f hk ⟨it, br_t hx hp⟩)
          · refine ⟨true, fun z => absurd z hno, fun _ post hp => ?_, fun post hp => y106 post ?_⟩
            · (unfold wpX_isArrivedDue; dsimp only; rw [hct]; refine ⟨it, br_f hgo.1 (hl_xrs C ht ?_)⟩; rw [hgo.2]; refine br_t rfl (hl_xas C ht ?_); rw [has]; refine br_f hl_1n ?_)
              exact hl_xkn C K he ht (br_f hk ⟨it, br_f hx hp⟩)
            unfold wY_due_106; rw [hct]
            exact hl_yaw C K he ht (br_f hk ⟨it, br_f hx hp⟩)
      · refine ⟨false, fun z => absurd z hno, fun _ post hp => ?_, fun post hp => ?_⟩
        · unfold wpX_isArrivedDue; dsimp only; rw [hct]
          refine ⟨it, br_c (fun _ => hp) (fun z => hl_xrs C ht (hl_br (fun y => absurd ⟨z, y⟩ hgo) (fun _ => hp)))⟩
        · (unfold wpY_due; dsimp only; rw [hct, r8, hl_e2 e he, hl_i2, nI_1, Nat.mul_comm i 2]; refine ⟨it, nm_e ⟨hl_2n, hl_8n, hl_ysR C hc3 hi ⟨it, ?_⟩⟩⟩)
          refine br_f hno' ⟨hl_2n, hl_8n, hl_ysA C hc3 hi ?_⟩
          rw [has]
          refine br_f hl_1n (br_f (fun z0 => ?_) (br_c (fun z1 => hl_br (fun y => ?_) (fun _ => hp)) (fun _ => hp)))
          · exact hgo ⟨by rw [z0]; decide, rsf z0⟩
          · exact absurd ⟨by rw [z1]; decide, y⟩ hgo
theorem hl_any1 (C : hl_C nc no nh na nr ns nl nw np nq rm pt hd) {e : Nat} (he : e < 6) {post : SY → Prop} (h : wY_turn_100 post (nI e) 1 dep dly grd hgt wal kn (hl_I nc) (hl_I no) (hl_I nh) am ex rm pt hd (hl_I nl) (hl_I nw) cd ce pb cb ou) : ∀ d i : Nat, i + d = nc (e / 2) → wY_turn_50 post (nI e) 1 dep dly grd hgt wal kn (hl_I nc) (hl_I no) (hl_I nh) am ex rm pt hd (hl_I nl) (hl_I nw) cd ce pb cb ou (d + 1) 1 (nI i) := by
  have B := (hl_k1 C (e / 2)).1
  have ic : vp_in (nI (e / 2)) 3 := vp_in_nI (by omega) (by decide)
  intro d
  induction d with
  | zero =>
    intro i hi
    rw [wY_turn_50]
    dsimp only
    rw [hl_e2 e he, nI_clamp (n := e / 2) (by omega)]
    exact ⟨hl_2n, ic, br_t (nI_le (by omega) (by omega)) h⟩
  | succ d ih =>
    intro i hi
    rw [wY_turn_50]
    dsimp only
    rw [hl_e2 e he, nI_clamp (n := e / 2) (by omega)]
    exact ⟨hl_2n, ic, br_f (nI_ge (by omega) (by omega)) (br_f hl_1n (br_f hl_1n (nm_r (nI_1 i) (ih (i + 1) (by omega)))))⟩
theorem hl_any (C : hl_C nc no nh na nr ns nl nw np nq rm pt hd) (K : hl_K kn) {e : Nat} (he : e < 6) : ∀ d i : Nat, i + d = nc (e / 2) → ∃ b : Bool, (∀ post : Int32 → Prop, post (hl_b b) → wX_isAnyDue_9 post (nI e) (nI (e / 2)) dep dly grd hgt wal kn (hl_I nc) (hl_I no) (hl_I nh) am ex rm (hl_I na) (hl_I nr) pt (hl_I ns) (hl_I nl) (hl_I nw) (hl_I np) (hl_I nq) cl pb ca ou (d + 1) 0 (nI i)) ∧ (∀ post : SY → Prop, wY_turn_100 post (nI e) (hl_b b) dep dly grd hgt wal kn (hl_I nc) (hl_I no) (hl_I nh) am ex rm pt hd (hl_I nl) (hl_I nw) cd ce pb cb ou → wY_turn_50 post (nI e) 1 dep dly grd hgt wal kn (hl_I nc) (hl_I no) (hl_I nh) am ex rm pt hd (hl_I nl) (hl_I nw) cd ce pb cb ou (d + 1) 0 (nI i)) := by
  have B := (hl_k1 C (e / 2)).1
  have ic : vp_in (nI (e / 2)) 3 := vp_in_nI (by omega) (by decide)
  have hcc : (nI (e / 2)).toNatClampNeg = e / 2 := nI_clamp (by omega)
  intro d
  induction d with
  | zero =>
    intro i hi
    refine ⟨false, fun post hp => ?_, fun post hp => ?_⟩
    · rw [wX_isAnyDue_9]
      dsimp only
      rw [hcc]
      exact ⟨ic, br_t (nI_le (by omega) (by omega)) ⟨narrow_b0, hp⟩⟩
    · rw [wY_turn_50]
      dsimp only
      rw [hl_e2 e he, hcc]
      exact ⟨hl_2n, ic, br_t (nI_le (by omega) (by omega)) hp⟩
  | succ d ih =>
    intro i hi
    have it : vp_in (nI (e / 2 * 8 + i)) 24 := vp_in_nI (by omega) (by decide)
    have hct : (nI (e / 2 * 8 + i)).toNatClampNeg = e / 2 * 8 + i := nI_clamp (by omega)
    have Bt := hl_k1 C (e / 2 * 8 + i)
    obtain ⟨b, dO, dA, dY⟩ := hl_due (dep := dep) (dly := dly) (grd := grd) (hgt := hgt) (wal := wal) (am := am) (ex := ex) (cl := cl) (pb := pb) (ca := ca) (ou := ou) (cd := cd) (ce := ce) (cb := cb) C K he (show i < nc (e / 2) by omega)
    have step : ∃ b' : Bool, (∀ post : Int32 → Prop, post (hl_b b') → wX_isAnyDue_9 post (nI e) (nI (e / 2)) dep dly grd hgt wal kn (hl_I nc) (hl_I no) (hl_I nh) am ex rm (hl_I na) (hl_I nr) pt (hl_I ns) (hl_I nl) (hl_I nw) (hl_I np) (hl_I nq) cl pb ca ou (d + 1) (hl_b b) (nI (i + 1))) ∧ (∀ post : SY → Prop, wY_turn_100 post (nI e) (hl_b b') dep dly grd hgt wal kn (hl_I nc) (hl_I no) (hl_I nh) am ex rm pt hd (hl_I nl) (hl_I nw) cd ce pb cb ou → wY_turn_50 post (nI e) 1 dep dly grd hgt wal kn (hl_I nc) (hl_I no) (hl_I nh) am ex rm pt hd (hl_I nl) (hl_I nw) cd ce pb cb ou (d + 1) (hl_b b) (nI (i + 1))) := by
      cases b
      · exact ih (i + 1) (by omega)
      · refine ⟨true, fun post hp => ?_, fun post hp => hl_any1 C he hp d (i + 1) (by omega)⟩
        rw [wX_isAnyDue_9]
        dsimp only
        exact ⟨ic, br_c (fun _ => ⟨narrow_b1, hp⟩) (fun _ => br_f hl_1n ⟨narrow_b1, hp⟩)⟩
    obtain ⟨b', sX, sY⟩ := step
    refine ⟨b', fun post hp => ?_, fun post hp => ?_⟩
    · rw [wX_isAnyDue_9]
      dsimp only
      rw [hcc, hl_i8]
      refine ⟨ic, br_f (nI_ge (by omega) (by omega)) (br_t rfl (nm_e ?_))⟩
      rw [hct]
      refine ⟨it, pk_eq (no (e / 2 * 8 + i)) e (fun z => dO z _ (nm_r (nI_1 i) (sX post hp))) (fun z => dA z _ (nm_r (nI_1 i) (sX post hp)))⟩
    · rw [wY_turn_50]
      dsimp only
      rw [hl_e2 e he, hcc, hl_i8]
      refine ⟨hl_2n, ic, br_f (nI_ge (by omega) (by omega)) (br_f hl_1n (br_t rfl ⟨hl_2n, dY _ ?_⟩))⟩
      cases b
      · exact br_t rfl (nm_r (nI_1 i) (sY post hp))
      · exact br_f hl_1n (nm_r (nI_1 i) (sY post hp))
end
end
section
/-! tick -/
def hl_ou (k : Nat) (WX : (SX → Prop) → Prop) (WY : (SY → Prop) → Prop) : Prop := ∃ (u : SX) (v : SY), i_Rel k u v ∧ (∀ post : SX → Prop, post u → WX post) ∧ (∀ post : SY → Prop, post v → WY post)
theorem hl_um {k : Nat} {WX : (SX → Prop) → Prop} {WY : (SY → Prop) → Prop} {u : SX} {v : SY} (hR : i_Rel k u v) (hX : ∀ post : SX → Prop, post u → WX post) (hY : ∀ post : SY → Prop, post v → WY post) : hl_ou k WX WY := ⟨u, v, hR, hX, hY⟩
theorem hl_oe {k : Nat} {WX : (Int32 → SX → Prop) → Prop} {WY : (Int32 → SY → Prop) → Prop} {G : Prop} (O : hl_out k WX WY) (h : ∀ (r : Int32) (dep dly grd hgt : Int32) (wal kn am ex rm pt cl pb ca ou hd cd ce cb : Nat → Int32) (nc no nh na nr ns nl nw np nq : Nat → Nat), hl_C nc no nh na nr ns nl nw np nq rm pt hd → hl_D cl ca cd ce cb → hl_K kn → (∀ j, ns j ≤ k) → (∀ post : Int32 → SX → Prop, post r (dep, dly, grd, hgt, wal, kn, (hl_I nc), (hl_I no), (hl_I nh), am, ex, rm, (hl_I na), (hl_I nr), pt, (hl_I ns), (hl_I nl), (hl_I nw), (hl_I np), (hl_I nq), cl, pb, ca, ou) → WX post) → (∀ post : Int32 → SY → Prop, post r (dep, dly, grd, hgt, wal, kn, (hl_I nc), (hl_I no), (hl_I nh), am, ex, rm, pt, hd, (hl_I nl), (hl_I nw), cd, ce, pb, cb, ou) → WY post) → G) : G := by
  obtain ⟨r, u, v, hR, hX, hY⟩ := O
  refine hl_el (P := fun u v => (∀ post : Int32 → SX → Prop, post r u → WX post) → (∀ post : Int32 → SY → Prop, post r v → WY post) → G) ?_ hR hX hY
  intro dep dly grd hgt wal kn am ex rm pt cl pb ca ou hd cd ce cb nc no nh na nr ns nl nw np nq C D K hn
  exact h r dep dly grd hgt wal kn am ex rm pt cl pb ca ou hd cd ce cb nc no nh na nr ns nl nw np nq C D K hn
theorem hl_ue {k : Nat} {WX : (SX → Prop) → Prop} {WY : (SY → Prop) → Prop} {G : Prop} (O : hl_ou k WX WY) (h : ∀ (dep dly grd hgt : Int32) (wal kn am ex rm pt cl pb ca ou hd cd ce cb : Nat → Int32) (nc no nh na nr ns nl nw np nq : Nat → Nat), hl_C nc no nh na nr ns nl nw np nq rm pt hd → hl_D cl ca cd ce cb → hl_K kn → (∀ j, ns j ≤ k) → (∀ post : SX → Prop, post (dep, dly, grd, hgt, wal, kn, (hl_I nc), (hl_I no), (hl_I nh), am, ex, rm, (hl_I na), (hl_I nr), pt, (hl_I ns), (hl_I nl), (hl_I nw), (hl_I np), (hl_I nq), cl, pb, ca, ou) → WX post) → (∀ post : SY → Prop, post (dep, dly, grd, hgt, wal, kn, (hl_I nc), (hl_I no), (hl_I nh), am, ex, rm, pt, hd, (hl_I nl), (hl_I nw), cd, ce, pb, cb, ou) → WY post) → G) : G := by
  obtain ⟨u, v, hR, hX, hY⟩ := O
  refine hl_el (P := fun u v => (∀ post : SX → Prop, post u → WX post) → (∀ post : SY → Prop, post v → WY post) → G) ?_ hR hX hY
  intro dep dly grd hgt wal kn am ex rm pt cl pb ca ou hd cd ce cb nc no nh na nr ns nl nw np nq C D K hn
  exact h dep dly grd hgt wal kn am ex rm pt cl pb ca ou hd cd ce cb nc no nh na nr ns nl nw np nq C D K hn
theorem hl_claims {k e : Nat} (he : e < 6) : ∀ d i : Nat, i + d = 9 → ∀ (dep dly grd hgt : Int32) (wal kn am ex rm pt cl pb ca ou hd cd ce cb : Nat → Int32) (nc no nh na nr ns nl nw np nq : Nat → Nat), hl_C nc no nh na nr ns nl nw np nq rm pt hd → hl_D cl ca cd ce cb → hl_K kn → (∀ j, ns j ≤ k) → hl_ou k (fun post => wX_takeTurn_12 post (nI e) (d + 1) (nI i) dep dly grd hgt wal kn (hl_I nc) (hl_I no) (hl_I nh) am ex rm (hl_I na) (hl_I nr) pt (hl_I ns) (hl_I nl) (hl_I nw) (hl_I np) (hl_I nq) cl pb ca ou) (fun post => wY_turn_22 post (nI e) 0 0 (d + 1) (nI i) dep dly grd hgt wal kn (hl_I nc) (hl_I no) (hl_I nh) am ex rm pt hd (hl_I nl) (hl_I nw) cd ce pb cb ou) := by
  have ic : vp_in (nI (e / 2)) 3 := vp_in_nI (by omega) (by decide)
  intro d
  induction d with
  | zero =>
    intro i hi dep dly grd hgt wal kn am ex rm pt cl pb ca ou hd cd ce cb nc no nh na nr ns nl nw np nq C D K hn
    have z : i = 9 := by omega
    subst z
    refine hl_um (hl_in C D K hn) (fun post hp => br_t (nI_lt (a := 8) (by decide) (by decide)) hp) (fun post hp => br_t (nI_le (a := 9) (Nat.le_refl _) (by decide)) ⟨1, ?_⟩)
    have h100 : wY_turn_100 post (nI e) 0 dep dly grd hgt wal kn (hl_I nc) (hl_I no) (hl_I nh) am ex rm pt hd (hl_I nl) (hl_I nw) cd ce pb cb ou := br_t rfl hp
    rw [wY_turn_50]
    dsimp only
    rw [hl_e2 e he]
    exact ⟨hl_2n, ic, br_c (fun _ => h100) (fun _ => br_t rfl h100)⟩
  | succ d ih =>
    intro i hi dep dly grd hgt wal kn am ex rm pt cl pb ca ou hd cd ce cb nc no nh na nr ns nl nw np nq C D K hn
    refine hl_oe (hl_claim (dep := dep) (dly := dly) (grd := grd) (hgt := hgt) (wal := wal) (am := am) (ex := ex) (pb := pb) (ou := ou) C D K hn (nI e) (nI i)) ?_
    intro r dep2 dly2 grd2 hgt2 wal2 kn2 am2 ex2 rm2 pt2 cl2 pb2 ca2 ou2 hd2 cd2 ce2 cb2 nc2 no2 nh2 na2 nr2 ns2 nl2 nw2 np2 nq2 C2 D2 K2 hn2 hX hY
    obtain ⟨u, v, hR, lX, lY⟩ := ih (i + 1) (by omega) dep2 dly2 grd2 hgt2 wal2 kn2 am2 ex2 rm2 pt2 cl2 pb2 ca2 ou2 hd2 cd2 ce2 cb2 nc2 no2 nh2 na2 nr2 ns2 nl2 nw2 np2 nq2 C2 D2 K2 hn2
    refine hl_um hR (fun post hp => ?_) (fun post hp => ?_)
    · rw [wX_takeTurn_12]
      dsimp only
      exact br_f (nI_nlt (a := 8) (by omega) (by decide)) (hX _ (nm_r (nI_1 i) (lX post hp)))
    · rw [wY_turn_22]
      dsimp only
      exact br_f (nI_ge (b := 9) (by omega) (by decide)) (br_t rfl (hY _ (nm_r (nI_1 i) (lY post hp))))
theorem hl_turn {k e : Nat} (he : e < 6) : ∀ (dep dly grd hgt : Int32) (wal kn am ex rm pt cl pb ca ou hd cd ce cb : Nat → Int32) (nc no nh na nr ns nl nw np nq : Nat → Nat), hl_C nc no nh na nr ns nl nw np nq rm pt hd → hl_D cl ca cd ce cb → hl_K kn → (∀ j, ns j ≤ k) → hl_ou k (fun post => wpX_takeTurn post (dep, dly, grd, hgt, wal, kn, (hl_I nc), (hl_I no), (hl_I nh), am, ex, rm, (hl_I na), (hl_I nr), pt, (hl_I ns), (hl_I nl), (hl_I nw), (hl_I np), (hl_I nq), cl, pb, ca, ou) (nI e)) (fun post => wpY_turn post (dep, dly, grd, hgt, wal, kn, (hl_I nc), (hl_I no), (hl_I nh), am, ex, rm, pt, hd, (hl_I nl), (hl_I nw), cd, ce, pb, cb, ou) (nI e)) := by
  intro dep dly grd hgt wal kn am ex rm pt cl pb ca ou hd cd ce cb nc no nh na nr ns nl nw np nq C D K hn
  have n1 := hl_1n
  have n2 := hl_2n
  have hc3 : e / 2 < 3 := by omega
  have ie : vp_in (nI e) 6 := vp_in_nI he (by decide)
  have ic : vp_in (nI (e / 2)) 3 := vp_in_nI hc3 (by decide)
  have hcc : (nI (e / 2)).toNatClampNeg = e / 2 := nI_clamp (by omega)
  have hce : (nI e).toNatClampNeg = e := nI_clamp (by omega)
  rcases D (e / 2) hc3 with ⟨o1, o2, o3⟩ | ⟨o1, x, ox, o2, o3, o4⟩
  · obtain ⟨b, aX, aY⟩ := hl_any (dep := dep) (dly := dly) (grd := grd) (hgt := hgt) (wal := wal) (am := am) (ex := ex) (cl := cl) (pb := pb) (ca := ca) (ou := ou) (cd := cd) (ce := ce) (cb := cb) C K he (nc (e / 2)) 0 (by omega)
    have pX : ∀ post : Int32 → Prop, post (hl_b b) → wpX_isAnyDue post (dep, dly, grd, hgt, wal, kn, (hl_I nc), (hl_I no), (hl_I nh), am, ex, rm, (hl_I na), (hl_I nr), pt, (hl_I ns), (hl_I nl), (hl_I nw), (hl_I np), (hl_I nq), cl, pb, ca, ou) (nI e) := by
      intro post hp
      unfold wpX_isAnyDue; dsimp only; rw [hl_e2 e he]
      exact ⟨n2, nm_e ⟨_, aX post hp⟩⟩
    have pY : ∀ post : SY → Prop, wY_turn_100 post (nI e) (hl_b b) dep dly grd hgt wal kn (hl_I nc) (hl_I no) (hl_I nh) am ex rm pt hd (hl_I nl) (hl_I nw) cd ce pb cb ou → wpY_turn post (dep, dly, grd, hgt, wal, kn, (hl_I nc), (hl_I no), (hl_I nh), am, ex, rm, pt, hd, (hl_I nl), (hl_I nw), cd, ce, pb, cb, ou) (nI e) := by
      intro post hp
      unfold wpY_turn; dsimp only; rw [hl_e2 e he, hcc]
      refine ⟨n2, ic, br_t o1 ⟨1, ?_⟩⟩
      rw [wY_turn_22]
      dsimp only
      exact br_f (by decide) (br_f n1 ⟨_, aY post hp⟩)
    cases b
    · refine hl_um (hl_in C D K hn) (fun post hp => ?_) (fun post hp => pY post (br_t rfl hp))
      unfold wpX_takeTurn; dsimp only; rw [hl_e2 e he]
      exact ⟨n2, hl_xo1 hc3 o2 (br_f n1 (pX _ (br_t rfl hp)))⟩
    · refine hl_oe (hl_close (dep := dep) (dly := dly) (grd := grd) (hgt := hgt) (wal := wal) (am := am) (ex := ex) (pb := pb) (ou := ou) C D K hn (nI e) (nI (nw e))) ?_
      intro r dep2 dly2 grd2 hgt2 wal2 kn2 am2 ex2 rm2 pt2 cl2 pb2 ca2 ou2 hd2 cd2 ce2 cb2 nc2 no2 nh2 na2 nr2 ns2 nl2 nw2 np2 nq2 C2 D2 K2 hn2 hX hY
      have new : i_Rel k (dep2, dly2, grd2, hgt2, wal2, kn2, (hl_I nc2), (hl_I no2), (hl_I nh2), am2, ex2, rm2, (hl_I na2), (hl_I nr2), pt2, (hl_I ns2), (hl_I nl2), (hl_I nw2), (hl_I np2), (hl_I nq2), cl2, pb2, ca2, ou2) (dep2, dly2, grd2, hgt2, wal2, kn2, (hl_I nc2), (hl_I no2), (hl_I nh2), am2, ex2, rm2, pt2, hd2, (hl_I nl2), (hl_I nw2), cd2, ce2, pb2, cb2, ou2) := hl_in C2 D2 K2 hn2
      refine hl_um new (fun post hp => ?_) (fun post hp => pY post ?_)
      · unfold wpX_takeTurn; dsimp only; rw [hl_e2 e he, hce]
        exact ⟨n2, hl_xo1 hc3 o2 (br_f n1 (pX _ (br_f n1 ⟨ie, hX _ hp⟩)))⟩
      · unfold wY_turn_100; rw [hce]
        exact br_f n1 ⟨ie, hY _ hp⟩
  · have c0 : ¬ cd (e / 2) = 0 := by rw [o1]; decide
    obtain ⟨u, v, hR, lX, lY⟩ := hl_claims he 9 0 (by decide) dep dly grd hgt wal kn am ex rm pt cl pb ca ou hd cd ce cb nc no nh na nr ns nl nw np nq C D K hn
    refine hl_um hR (fun post hp => ?_) (fun post hp => ?_)
    · unfold wpX_takeTurn; dsimp only; rw [hl_e2 e he]
      exact ⟨n2, hl_xo0 hc3 ox o2 (br_t rfl ⟨_, lX post hp⟩)⟩
    · unfold wpY_turn; dsimp only; rw [hl_e2 e he, hcc]
      exact ⟨n2, ic, br_f c0 ⟨_, lY post hp⟩⟩
/-- Y's continuation behind its turns, over a state -/
def hl_jj (J : Int32 → Int32 → Int32 → Int32 → Int32 → (Nat → Int32) → (Nat → Int32) → (Nat → Int32) → (Nat → Int32) → (Nat → Int32) → (Nat → Int32) → (Nat → Int32) → (Nat → Int32) → (Nat → Int32) → (Nat → Int32) → (Nat → Int32) → (Nat → Int32) → (Nat → Int32) → (Nat → Int32) → (Nat → Int32) → (Nat → Int32) → (Nat → Int32) → Prop) (x : Int32) (v : SY) : Prop := match v with
  | (dep, dly, grd, hgt, wal, kn, nc, no, nh, am, ex, rm, pt, hd, nl, nw, cd, ce, pb, cb, ou) => J x dep dly grd hgt wal kn nc no nh am ex rm pt hd nl nw cd ce pb cb ou
theorem hl_turns {k : Nat} : ∀ d e : Nat, e + d = 6 → ∀ (dep dly grd hgt : Int32) (wal kn am ex rm pt cl pb ca ou hd cd ce cb : Nat → Int32) (nc no nh na nr ns nl nw np nq : Nat → Nat), hl_C nc no nh na nr ns nl nw np nq rm pt hd → hl_D cl ca cd ce cb → hl_K kn → (∀ j, ns j ≤ k) → ∃ (u : SX) (v : SY), i_Rel k u v ∧ (∀ post : SX → Prop, post u → wX_runTurns_2 post (d + 1) (nI e) dep dly grd hgt wal kn (hl_I nc) (hl_I no) (hl_I nh) am ex rm (hl_I na) (hl_I nr) pt (hl_I ns) (hl_I nl) (hl_I nw) (hl_I np) (hl_I nq) cl pb ca ou) ∧ (∀ post J x1 x2, hl_jj J (x2 + 1) v → wY_tick_35 post J x1 x2 (d + 1) (nI e) dep dly grd hgt wal kn (hl_I nc) (hl_I no) (hl_I nh) am ex rm pt hd (hl_I nl) (hl_I nw) cd ce pb cb ou) := by
  intro d
  induction d with
  | zero =>
    intro e he dep dly grd hgt wal kn am ex rm pt cl pb ca ou hd cd ce cb nc no nh na nr ns nl nw np nq C D K hn
    have z : e = 6 := by omega
    subst z
    exact ⟨_, _, hl_in C D K hn, fun post hp => br_t (nI_le (a := 6) (Nat.le_refl _) (by decide)) hp, fun post J x1 x2 hp => br_t (nI_le (a := 6) (Nat.le_refl _) (by decide)) (nm_e hp)⟩
  | succ d ih =>
    intro e hd1 dep dly grd hgt wal kn am ex rm pt cl pb ca ou hd cd ce cb nc no nh na nr ns nl nw np nq C D K hn
    have he : e < 6 := by omega
    have n1 := hl_1n
    have n2 := hl_2n
    rcases hl_g01 grd ((e + 1) / 2) with g | g
    · obtain ⟨u, v, hR, lX, lY⟩ := ih (e + 1) (by omega) dep dly grd hgt wal kn am ex rm pt cl pb ca ou hd cd ce cb nc no nh na nr ns nl nw np nq C D K hn
      refine ⟨u, v, hR, fun post hp => ?_, fun post J x1 x2 hp => ?_⟩
      · rw [wX_runTurns_2]
        dsimp only
        exact br_f (nI_ge (b := 6) he (by decide)) (hl_xge he (br_t g (nm_r (nI_1 e) (lX post hp))))
      · rw [wY_tick_35]
        dsimp only
        rw [hl_ep e he]
        exact br_f (nI_ge (b := 6) he (by decide)) ⟨n2, hl_yg (br_t g (nm_r (nI_1 e) (lY post J x1 x2 hp)))⟩
    · have g' : ¬ hl_g grd ((e + 1) / 2) = 0 := by rw [g]; decide
      refine hl_ue (hl_turn he dep dly grd hgt wal kn am ex rm pt cl pb ca ou hd cd ce cb nc no nh na nr ns nl nw np nq C D K hn) ?_
      intro dep2 dly2 grd2 hgt2 wal2 kn2 am2 ex2 rm2 pt2 cl2 pb2 ca2 ou2 hd2 cd2 ce2 cb2 nc2 no2 nh2 na2 nr2 ns2 nl2 nw2 np2 nq2 C2 D2 K2 hn2 hX hY
      obtain ⟨u, v, hR, lX, lY⟩ := ih (e + 1) (by omega) dep2 dly2 grd2 hgt2 wal2 kn2 am2 ex2 rm2 pt2 cl2 pb2 ca2 ou2 hd2 cd2 ce2 cb2 nc2 no2 nh2 na2 nr2 ns2 nl2 nw2 np2 nq2 C2 D2 K2 hn2
      refine ⟨u, v, hR, fun post hp => ?_, fun post J x1 x2 hp => ?_⟩
      · rw [wX_runTurns_2]
        dsimp only
        exact br_f (nI_ge (b := 6) he (by decide)) (hl_xge he (br_f g' (hX _ (nm_r (nI_1 e) (lX post hp)))))
      · rw [wY_tick_35]
        dsimp only
        rw [hl_ep e he]
        exact br_f (nI_ge (b := 6) he (by decide)) ⟨n2, hl_yg (br_f g' (hY _ (nm_r (nI_1 e) (lY post J x1 x2 hp))))⟩
theorem hl_ticks {k : Nat} (v1 : Int32) : ∀ d b : Nat, b + d = 8 → ∀ (dep dly grd hgt : Int32) (wal kn am ex rm pt cl pb ca ou hd cd ce cb : Nat → Int32) (nc no nh na nr ns nl nw np nq : Nat → Nat), hl_C nc no nh na nr ns nl nw np nq rm pt hd → hl_D cl ca cd ce cb → hl_K kn → (∀ j, ns j ≤ k) → hl_out k (fun post => wX_tick_2 post v1 (d + 1) (nI b) dep dly grd hgt wal kn (hl_I nc) (hl_I no) (hl_I nh) am ex rm (hl_I na) (hl_I nr) pt (hl_I ns) (hl_I nl) (hl_I nw) (hl_I np) (hl_I nq) cl pb ca ou) (fun post => wY_tick_2 post v1 (d + 1) (nI b) dep dly grd hgt wal kn (hl_I nc) (hl_I no) (hl_I nh) am ex rm pt hd (hl_I nl) (hl_I nw) cd ce pb cb ou) := by
  intro d
  induction d with
  | zero =>
    intro b hb dep dly grd hgt wal kn am ex rm pt cl pb ca ou hd cd ce cb nc no nh na nr ns nl nw np nq C D K hn
    have z : b = 8 := by omega
    subst z
    exact hl_mk hgt (hl_in C D K hn) (fun post hp => br_t (nI_le (a := 8) (Nat.le_refl _) (by decide)) hp) (fun post hp => br_t (nI_le (a := 8) (Nat.le_refl _) (by decide)) hp)
  | succ d ih =>
    intro b hb dep dly grd hgt wal kn am ex rm pt cl pb ca ou hd cd ce cb nc no nh na nr ns nl nw np nq C D K hn
    have b8 : ¬ (8 : Int32) ≤ nI b := nI_ge (b := 8) (by omega) (by decide)
    by_cases h1 : v1 ≤ nI b
    · exact hl_mk hgt (hl_in C D K hn) (fun post hp => br_f b8 (br_t h1 hp)) (fun post hp => br_f b8 (br_t h1 hp))
    by_cases h2 : 250 ≤ hgt
    · exact hl_mk hgt (hl_in C D K hn) (fun post hp => br_f b8 (br_f h1 (br_t h2 hp))) (fun post hp => br_f b8 (br_f h1 (br_t h2 hp)))
    obtain ⟨u, v, hR, tX, tY⟩ := hl_turns 6 0 (by decide) dep dly grd (hgt + 1) wal kn am ex rm pt cl pb ca ou hd cd ce cb nc no nh na nr ns nl nw np nq C D K hn
    refine hl_el (P := fun u v => (∀ post : SX → Prop, post u → wX_runTurns_2 post (6 + 1) (nI 0) dep dly grd (hgt + 1) wal kn (hl_I nc) (hl_I no) (hl_I nh) am ex rm (hl_I na) (hl_I nr) pt (hl_I ns) (hl_I nl) (hl_I nw) (hl_I np) (hl_I nq) cl pb ca ou) → (∀ post J x1 x2, hl_jj J (x2 + 1) v → wY_tick_35 post J x1 x2 (6 + 1) (nI 0) dep dly grd (hgt + 1) wal kn (hl_I nc) (hl_I no) (hl_I nh) am ex rm pt hd (hl_I nl) (hl_I nw) cd ce pb cb ou) → hl_out k (fun post => wX_tick_2 post v1 (d + 1 + 1) (nI b) dep dly grd hgt wal kn (hl_I nc) (hl_I no) (hl_I nh) am ex rm (hl_I na) (hl_I nr) pt (hl_I ns) (hl_I nl) (hl_I nw) (hl_I np) (hl_I nq) cl pb ca ou) (fun post => wY_tick_2 post v1 (d + 1 + 1) (nI b) dep dly grd hgt wal kn (hl_I nc) (hl_I no) (hl_I nh) am ex rm pt hd (hl_I nl) (hl_I nw) cd ce pb cb ou)) ?_ hR tX tY
    intro dep2 dly2 grd2 hgt2 wal2 kn2 am2 ex2 rm2 pt2 cl2 pb2 ca2 ou2 hd2 cd2 ce2 cb2 nc2 no2 nh2 na2 nr2 ns2 nl2 nw2 np2 nq2 C2 D2 K2 hn2 tX tY
    obtain ⟨r, u, v, hR2, lX, lY⟩ := ih (b + 1) (by omega) dep2 dly2 grd2 hgt2 wal2 kn2 am2 ex2 rm2 pt2 cl2 pb2 ca2 ou2 hd2 cd2 ce2 cb2 nc2 no2 nh2 na2 nr2 ns2 nl2 nw2 np2 nq2 C2 D2 K2 hn2
    refine hl_mk r hR2 (fun post hp => ?_) (fun post hp => ?_)
    · rw [wX_tick_2]
      dsimp only
      refine br_f b8 (br_f h1 (br_f h2 (nm_e ?_)))
      unfold wpX_runTurns
      exact ⟨_, tX _ (nm_r (nI_1 b) (lX post hp))⟩
    · rw [wY_tick_2]
      dsimp only
      refine br_f b8 (br_f h1 (br_f h2 (nm_e ⟨_, tY _ _ _ _ ?_⟩)))
      have z := lY post hp
      dsimp only at z
      rw [← nI_1] at z
      exact z
theorem hl_tick {k : Nat} (v1 : Int32) : ∀ (dep dly grd hgt : Int32) (wal kn am ex rm pt cl pb ca ou hd cd ce cb : Nat → Int32) (nc no nh na nr ns nl nw np nq : Nat → Nat), hl_C nc no nh na nr ns nl nw np nq rm pt hd → hl_D cl ca cd ce cb → hl_K kn → (∀ j, ns j ≤ k) → hl_out k (fun post => wpX_tick post (dep, dly, grd, hgt, wal, kn, (hl_I nc), (hl_I no), (hl_I nh), am, ex, rm, (hl_I na), (hl_I nr), pt, (hl_I ns), (hl_I nl), (hl_I nw), (hl_I np), (hl_I nq), cl, pb, ca, ou) v1) (fun post => wpY_tick post (dep, dly, grd, hgt, wal, kn, (hl_I nc), (hl_I no), (hl_I nh), am, ex, rm, pt, hd, (hl_I nl), (hl_I nw), cd, ce, pb, cb, ou) v1) := by
  intro dep dly grd hgt wal kn am ex rm pt cl pb ca ou hd cd ce cb nc no nh na nr ns nl nw np nq C D K hn
  obtain ⟨r, u, v, hR, hX, hY⟩ := hl_ticks v1 8 0 (by decide) dep dly grd hgt wal kn am ex rm pt cl pb ca ou hd cd ce cb nc no nh na nr ns nl nw np nq C D K hn
  exact hl_mk r hR (fun post hp => ⟨_, hX post hp⟩) (fun post hp => ⟨_, hY post hp⟩)
end
section
/-! the constructors -/
def hl_cv (p lo hi : Int32) : Int32 := if lo ≤ p then (if p ≤ hi then p else hi) else lo
section
variable {f1 f2 f3 f4 : Int32} {b1 b2 b3 b4 b5 b6 b7 b8 b9 b10 b11 b12 b13 b14 b15 b16 b17 b18 b19 b20 c1 c2 c3 c4 c5 c6 c7 c8 c9 c10 c11 c12 c13 c14 c15 c16 c17 : Nat → Int32}
theorem hl_clx {post : Int32 → Prop} {p lo hi : Int32} (h : post (hl_cv p lo hi)) : wpX_clamp post (f1, f2, f3, f4, b1, b2, b3, b4, b5, b6, b7, b8, b9, b10, b11, b12, b13, b14, b15, b16, b17, b18, b19, b20) p lo hi := by
  unfold hl_cv at h
  refine br_c (fun h0 => br_c (fun h1 => ?_) (fun h1 => ?_)) (fun h0 => ?_)
  · rw [if_pos h0, if_pos h1] at h; exact h
  · rw [if_pos h0, if_neg h1] at h; exact h
  · rw [if_neg h0] at h; exact h
theorem hl_y184 {post : SY → Prop} {p z0 : Int32} (h : ∃ n : Nat, wY_init_214 post f1 z0 (hl_cv p 0 15) f4 n 0 c1 c2 c3 c4 c5 c6 c7 c8 c9 c10 c11 c12 c13 c14 c15 c16 c17) : wY_init_184 post p z0 f1 f2 f3 f4 c1 c2 c3 c4 c5 c6 c7 c8 c9 c10 c11 c12 c13 c14 c15 c16 c17 := by
  unfold hl_cv at h
  refine br_c (fun h0 => br_c (fun h1 => ?_) (fun h1 => ?_)) (fun h0 => ?_)
  · rw [if_pos h0, if_pos h1] at h; exact h
  · rw [if_pos h0, if_neg h1] at h; exact h
  · rw [if_neg h0] at h; exact h
theorem hl_y159 {post : SY → Prop} {p q z0 : Int32} (h : ∃ n : Nat, wY_init_214 post z0 (hl_cv p 1 6) (hl_cv q 0 15) f4 n 0 c1 c2 c3 c4 c5 c6 c7 c8 c9 c10 c11 c12 c13 c14 c15 c16 c17) : wY_init_159 post p q z0 f1 f2 f3 f4 c1 c2 c3 c4 c5 c6 c7 c8 c9 c10 c11 c12 c13 c14 c15 c16 c17 := by
  unfold hl_cv at h
  refine br_c (fun h0 => br_c (fun h1 => hl_y184 ?_) (fun h1 => hl_y184 ?_)) (fun h0 => hl_y184 ?_)
  · rw [if_pos h0, if_pos h1] at h; exact h
  · rw [if_pos h0, if_neg h1] at h; exact h
  · rw [if_neg h0] at h; exact h
theorem hl_i8l : ∀ (d h : Nat) (kn : Nat → Int32), h + d = 8 → hl_K kn → ∃ kn' : Nat → Int32, hl_K kn' ∧ (∀ (post : SX → Prop) (cl ca : Nat → Int32), (∃ n : Nat, wX_init_231 post f1 f2 f3 f4 n 0 b1 kn' b3 b4 b5 b6 b7 b8 b9 b10 b11 b12 b13 b14 b15 b16 cl b18 ca b20) → wX_init_199 post f1 f2 f3 f4 (d + 1) (nI h) b1 kn b3 b4 b5 b6 b7 b8 b9 b10 b11 b12 b13 b14 b15 b16 cl b18 ca b20) ∧ (∀ post : SY → Prop, post (f1, f2, f3, f4, c1, kn', c3, c4, c5, c6, c7, c8, c9, c10, c11, c12, c13, c14, c15, c16, c17) → wY_init_214 post f1 f2 f3 f4 (d + 1) (nI h) c1 kn c3 c4 c5 c6 c7 c8 c9 c10 c11 c12 c13 c14 c15 c16 c17) := by
  intro d
  induction d with
  | zero =>
    intro h kn hh K
    have z : h = 8 := by omega
    subst z
    exact ⟨kn, K, fun post cl ca hp => br_t (nI_le (a := 8) (Nat.le_refl _) (by decide)) hp, fun post hp => br_t (nI_le (a := 8) (Nat.le_refl _) (by decide)) hp⟩
  | succ d ih =>
    intro h kn hh K
    have n4 : ¬ (4 : Int32) = 0 := by decide
    have r4 : nI h - nI h / 4 * 4 = nI (h % 4) := pk_rem (d := 4) (by omega) (by decide) (by decide)
    have ih8 : vp_in (nI (h % 4 * 8 + h)) 32 := vp_in_nI (by omega) (by decide)
    have hc8 : (nI (h % 4 * 8 + h)).toNatClampNeg = h % 4 * 8 + h := nI_clamp (by omega)
    obtain ⟨kn', K', hX, hY⟩ := ih (h + 1) (upd kn (h % 4 * 8 + h) 1) (by omega) (hl_Ku K _)
    refine ⟨kn', K', fun post cl ca hp => ?_, fun post hp => ?_⟩
    · rw [wX_init_199]
      dsimp only
      rw [r4, hl_i8, hc8, hl_v1]
      exact br_f (nI_ge (b := 8) (by omega) (by decide)) ⟨n4, ih8, nm_e (nm_r (nI_1 h) (hX post cl ca hp))⟩
    · rw [wY_init_214]
      dsimp only
      rw [r4, hl_i8, hc8, hl_v1]
      exact br_f (nI_ge (b := 8) (by omega) (by decide)) ⟨n4, ih8, nm_e (nm_r (nI_1 h) (hY post hp))⟩
theorem hl_i3l {kn : Nat → Int32} : ∀ (d c : Nat) (cl ca : Nat → Int32), c + d = 3 → (∀ j, j < c → cl j = -1 ∧ ca j = -1) → ∃ cl' ca' : Nat → Int32, (∀ j, j < 3 → cl' j = -1 ∧ ca' j = -1) ∧ (∀ post : SX → Prop, post (f1, f2, f3, f4, b1, kn, b3, b4, b5, b6, b7, b8, b9, b10, b11, b12, b13, b14, b15, b16, cl', b18, ca', b20) → wX_init_231 post f1 f2 f3 f4 (d + 1) (nI c) b1 kn b3 b4 b5 b6 b7 b8 b9 b10 b11 b12 b13 b14 b15 b16 cl b18 ca b20) := by
  intro d
  induction d with
  | zero =>
    intro c cl ca hc h
    have z : c = 3 := by omega
    subst z
    exact ⟨cl, ca, h, fun post hp => br_t (nI_le (a := 3) (Nat.le_refl _) (by decide)) hp⟩
  | succ d ih =>
    intro c cl ca hc h
    have ic : vp_in (nI c) 3 := vp_in_nI (by omega) (by decide)
    obtain ⟨cl', ca', h', hX⟩ := ih (c + 1) (upd cl c (-1)) (upd ca c (-1)) (by omega) (fun j hj => by
      by_cases z : j = c
      · rw [z, pk_us, pk_us]; exact ⟨rfl, rfl⟩
      · rw [pk_un z, pk_un z]; exact h j (by omega))
    refine ⟨cl', ca', h', fun post hp => ?_⟩
    rw [wX_init_231]
    dsimp only
    rw [nI_clamp (n := c) (by omega)]
    exact br_f (nI_ge (b := 3) (by omega) (by decide)) ⟨ic, nm_e ⟨ic, nm_e (nm_r (nI_1 c) (hX post hp))⟩⟩
end
theorem hl_C0 : hl_C (fun _ => 0) (fun _ => 0) (fun _ => 0) (fun _ => 0) (fun _ => 0) (fun _ => 0) (fun _ => 0) (fun _ => 0) (fun _ => 0) (fun _ => 0) (fun _ => 0) (fun _ => 0) (fun _ => 0) := by
  refine ⟨fun j => ⟨Nat.zero_le _, (by decide : 0 < 6), (by decide : 0 < 8), Nat.zero_le _, Nat.zero_le _, Nat.zero_le _, Nat.zero_le _, Nat.zero_le _⟩, fun j => ⟨Nat.le_refl _, Nat.zero_le _⟩, fun j => ⟨Or.inl rfl, Or.inl rfl⟩, fun c i _ hi => absurd hi (Nat.not_lt_zero _), fun _ _ _ _ _ => rfl, fun _ _ _ _ => ⟨Nat.le_refl _, Nat.le_refl _⟩, fun e p _ hp => absurd hp (Nat.not_lt_zero _), fun e q i _ _ _ => ?_, fun c i _ hi => absurd hi (Nat.not_lt_zero _)⟩
  have h0 : decide (i < 0) = false := decide_eq_false (Nat.not_lt_zero i)
  dsimp only
  rw [h0, Bool.false_and, Bool.false_and]
  exact ⟨rfl, rfl⟩
theorem i_vc0 (k0 : Int32) (k1 : Int32) (k2 : Int32) : wpX_init (fun u => wpY_init (fun v => i_Rel 3 u v) k0 k1 k2) k0 k1 k2 := by
  unfold wpX_init
  refine hl_clx (hl_clx (hl_clx ?_))
  obtain ⟨kn', K', lX, lY⟩ := hl_i8l (f1 := hl_cv k0 1 1000) (f2 := hl_cv k1 1 6) (f3 := hl_cv k2 0 15) (f4 := 0) (b1 := fun _ => 0) (b3 := fun _ => 0) (b4 := fun _ => 0) (b5 := fun _ => 0) (b6 := fun _ => 0) (b7 := fun _ => 0) (b8 := fun _ => 0) (b9 := fun _ => 0) (b10 := fun _ => 0) (b11 := fun _ => 0) (b12 := fun _ => 0) (b13 := fun _ => 0) (b14 := fun _ => 0) (b15 := fun _ => 0) (b16 := fun _ => 0) (b18 := fun _ => 0) (b20 := fun _ => 0) (c1 := fun _ => 0) (c3 := fun _ => 0) (c4 := fun _ => 0) (c5 := fun _ => 0) (c6 := fun _ => 0) (c7 := fun _ => 0) (c8 := fun _ => 0) (c9 := fun _ => 0) (c10 := fun _ => 0) (c11 := fun _ => 0) (c12 := fun _ => 0) (c13 := fun _ => 0) (c14 := fun _ => 0) (c15 := fun _ => 0) (c16 := fun _ => 0) (c17 := fun _ => 0) 8 0 (fun _ => 0) (by decide) (fun _ => Or.inl rfl)
  obtain ⟨cl', ca', h', l3⟩ := hl_i3l (kn := kn') (f1 := hl_cv k0 1 1000) (f2 := hl_cv k1 1 6) (f3 := hl_cv k2 0 15) (f4 := 0) (b1 := fun _ => 0) (b3 := fun _ => 0) (b4 := fun _ => 0) (b5 := fun _ => 0) (b6 := fun _ => 0) (b7 := fun _ => 0) (b8 := fun _ => 0) (b9 := fun _ => 0) (b10 := fun _ => 0) (b11 := fun _ => 0) (b12 := fun _ => 0) (b13 := fun _ => 0) (b14 := fun _ => 0) (b15 := fun _ => 0) (b16 := fun _ => 0) (b18 := fun _ => 0) (b20 := fun _ => 0) 3 0 (fun _ => 0) (fun _ => 0) (by decide) (fun j hj => absurd hj (Nat.not_lt_zero _))
  have D0 : hl_D cl' ca' (fun _ => 0) (fun _ => 0) (fun _ => 0) := fun c hc => Or.inl ⟨rfl, (h' c hc).1, (h' c hc).2⟩
  have fin := hl_in (k := 3) (dep := hl_cv k0 1 1000) (dly := hl_cv k1 1 6) (grd := hl_cv k2 0 15) (hgt := 0) (wal := fun _ => 0) (am := fun _ => 0) (ex := fun _ => 0) (pb := fun _ => 0) (ou := fun _ => 0) hl_C0 D0 K' (fun _ => Nat.zero_le _)
  refine ⟨9, lX _ _ _ ⟨4, l3 _ ?_⟩⟩
  have goY : ∃ n : Nat, wY_init_214 (fun v => i_Rel 3 ((hl_cv k0 1 1000), (hl_cv k1 1 6), (hl_cv k2 0 15), 0, (fun _ => 0), kn', (fun _ => 0), (fun _ => 0), (fun _ => 0), (fun _ => 0), (fun _ => 0), (fun _ => 0), (fun _ => 0), (fun _ => 0), (fun _ => 0), (fun _ => 0), (fun _ => 0), (fun _ => 0), (fun _ => 0), (fun _ => 0), cl', (fun _ => 0), ca', (fun _ => 0)) v) (hl_cv k0 1 1000) (hl_cv k1 1 6) (hl_cv k2 0 15) 0 n 0 (fun _ => 0) (fun _ => 0) (fun _ => 0) (fun _ => 0) (fun _ => 0) (fun _ => 0) (fun _ => 0) (fun _ => 0) (fun _ => 0) (fun _ => 0) (fun _ => 0) (fun _ => 0) (fun _ => 0) (fun _ => 0) (fun _ => 0) (fun _ => 0) (fun _ => 0) := ⟨9, lY _ fin⟩
  unfold hl_cv at goY ⊢
  refine br_c (fun h0 => br_c (fun h1 => ?_) (fun h1 => ?_)) (fun h0 => ?_)
  · rw [if_pos h0, if_pos h1] at goY ⊢; exact hl_y159 goY
  · rw [if_pos h0, if_neg h1] at goY ⊢; exact hl_y159 goY
  · rw [if_neg h0] at goY ⊢; exact hl_y159 goY
end
section
/-! the owed statements -/
theorem i_vc_add {k : Nat} {u : SX} {v : SY} (I : i_Rel k u v) (hk : k + 5 ≤ 2563) (v1 : Int32) (v2 : Int32) (v3 : Int32) (v4 : Int32) : wpX_add (fun r u' => wpY_add (fun r' v' => r' = r ∧ i_Rel (k + 5) u' v') v v1 v2 v3 v4) u v1 v2 v3 v4 := by
  refine hl_el (P := fun u v => wpX_add (fun r u' => wpY_add (fun r' v' => r' = r ∧ i_Rel (k + 5) u' v') v v1 v2 v3 v4) u v1 v2 v3 v4) ?_ I
  intro dep dly grd hgt wal kn am ex rm pt cl pb ca ou hd cd ce cb nc no nh na nr ns nl nw np nq C D K hn
  obtain ⟨r, u', v', hR, hX, hY⟩ : hl_out (k + 5) (fun post => wpX_add post (dep, dly, grd, hgt, wal, kn, (hl_I nc), (hl_I no), (hl_I nh), am, ex, rm, (hl_I na), (hl_I nr), pt, (hl_I ns), (hl_I nl), (hl_I nw), (hl_I np), (hl_I nq), cl, pb, ca, ou) v1 v2 v3 v4) (fun post => wpY_add post (dep, dly, grd, hgt, wal, kn, (hl_I nc), (hl_I no), (hl_I nh), am, ex, rm, pt, hd, (hl_I nl), (hl_I nw), cd, ce, pb, cb, ou) v1 v2 v3 v4) := hl_add C D K hn hk v1 v2 v3 v4
  exact hX _ (hY _ ⟨rfl, hR⟩)
theorem i_vc_forward {k : Nat} {u : SX} {v : SY} (I : i_Rel k u v) (hk : k + 5 ≤ 2563) (v1 : Int32) (v2 : Int32) (v3 : Int32) : wpX_forward (fun r u' => wpY_forward (fun r' v' => r' = r ∧ i_Rel (k + 5) u' v') v v1 v2 v3) u v1 v2 v3 := by
  refine hl_el (P := fun u v => wpX_forward (fun r u' => wpY_forward (fun r' v' => r' = r ∧ i_Rel (k + 5) u' v') v v1 v2 v3) u v1 v2 v3) ?_ I
  intro dep dly grd hgt wal kn am ex rm pt cl pb ca ou hd cd ce cb nc no nh na nr ns nl nw np nq C D K hn
  obtain ⟨r, u', v', hR, hX, hY⟩ : hl_out (k + 5) (fun post => wpX_forward post (dep, dly, grd, hgt, wal, kn, (hl_I nc), (hl_I no), (hl_I nh), am, ex, rm, (hl_I na), (hl_I nr), pt, (hl_I ns), (hl_I nl), (hl_I nw), (hl_I np), (hl_I nq), cl, pb, ca, ou) v1 v2 v3) (fun post => wpY_forward post (dep, dly, grd, hgt, wal, kn, (hl_I nc), (hl_I no), (hl_I nh), am, ex, rm, pt, hd, (hl_I nl), (hl_I nw), cd, ce, pb, cb, ou) v1 v2 v3) := hl_forward C D K hn hk v1 v2 v3
  exact hX _ (hY _ ⟨rfl, hR⟩)
theorem i_vc_fulfil {k : Nat} {u : SX} {v : SY} (I : i_Rel k u v) (hk : k + 5 ≤ 2563) (v1 : Int32) (v2 : Int32) : wpX_fulfil (fun r u' => wpY_fulfil (fun r' v' => r' = r ∧ i_Rel (k + 5) u' v') v v1 v2) u v1 v2 := by
  refine hl_el (P := fun u v => wpX_fulfil (fun r u' => wpY_fulfil (fun r' v' => r' = r ∧ i_Rel (k + 5) u' v') v v1 v2) u v1 v2) ?_ I
  intro dep dly grd hgt wal kn am ex rm pt cl pb ca ou hd cd ce cb nc no nh na nr ns nl nw np nq C D K hn
  obtain ⟨r, u', v', hR, hX, hY⟩ : hl_out (k + 5) (fun post => wpX_fulfil post (dep, dly, grd, hgt, wal, kn, (hl_I nc), (hl_I no), (hl_I nh), am, ex, rm, (hl_I na), (hl_I nr), pt, (hl_I ns), (hl_I nl), (hl_I nw), (hl_I np), (hl_I nq), cl, pb, ca, ou) v1 v2) (fun post => wpY_fulfil post (dep, dly, grd, hgt, wal, kn, (hl_I nc), (hl_I no), (hl_I nh), am, ex, rm, pt, hd, (hl_I nl), (hl_I nw), cd, ce, pb, cb, ou) v1 v2) := hl_fulfil C D K hn hk v1 v2
  exact hX _ (hY _ ⟨rfl, hR⟩)
theorem i_vc_fail {k : Nat} {u : SX} {v : SY} (I : i_Rel k u v) (hk : k + 5 ≤ 2563) (v1 : Int32) (v2 : Int32) : wpX_fail (fun r u' => wpY_fail (fun r' v' => r' = r ∧ i_Rel (k + 5) u' v') v v1 v2) u v1 v2 := by
  refine hl_el (P := fun u v => wpX_fail (fun r u' => wpY_fail (fun r' v' => r' = r ∧ i_Rel (k + 5) u' v') v v1 v2) u v1 v2) ?_ I
  intro dep dly grd hgt wal kn am ex rm pt cl pb ca ou hd cd ce cb nc no nh na nr ns nl nw np nq C D K hn
  obtain ⟨r, u', v', hR, hX, hY⟩ : hl_out (k + 5) (fun post => wpX_fail post (dep, dly, grd, hgt, wal, kn, (hl_I nc), (hl_I no), (hl_I nh), am, ex, rm, (hl_I na), (hl_I nr), pt, (hl_I ns), (hl_I nl), (hl_I nw), (hl_I np), (hl_I nq), cl, pb, ca, ou) v1 v2) (fun post => wpY_fail post (dep, dly, grd, hgt, wal, kn, (hl_I nc), (hl_I no), (hl_I nh), am, ex, rm, pt, hd, (hl_I nl), (hl_I nw), cd, ce, pb, cb, ou) v1 v2) := hl_fail C D K hn hk v1 v2
  exact hX _ (hY _ ⟨rfl, hR⟩)
theorem i_vc_commit {k : Nat} {u : SX} {v : SY} (I : i_Rel k u v) (hk : k + 5 ≤ 2563) (v1 : Int32) : wpX_commit (fun r u' => wpY_commit (fun r' v' => r' = r ∧ i_Rel (k + 5) u' v') v v1) u v1 := by
  refine hl_el (P := fun u v => wpX_commit (fun r u' => wpY_commit (fun r' v' => r' = r ∧ i_Rel (k + 5) u' v') v v1) u v1) ?_ I
  intro dep dly grd hgt wal kn am ex rm pt cl pb ca ou hd cd ce cb nc no nh na nr ns nl nw np nq C D K hn
  obtain ⟨r, u', v', hR, hX, hY⟩ : hl_out (k + 5) (fun post => wpX_commit post (dep, dly, grd, hgt, wal, kn, (hl_I nc), (hl_I no), (hl_I nh), am, ex, rm, (hl_I na), (hl_I nr), pt, (hl_I ns), (hl_I nl), (hl_I nw), (hl_I np), (hl_I nq), cl, pb, ca, ou) v1) (fun post => wpY_commit post (dep, dly, grd, hgt, wal, kn, (hl_I nc), (hl_I no), (hl_I nh), am, ex, rm, pt, hd, (hl_I nl), (hl_I nw), cd, ce, pb, cb, ou) v1) := hl_commit C D K hn v1
  exact hX _ (hY _ ⟨rfl, hR⟩)
theorem i_vc_revoke {k : Nat} {u : SX} {v : SY} (I : i_Rel k u v) (hk : k + 5 ≤ 2563) (v1 : Int32) : wpX_revoke (fun r u' => wpY_revoke (fun r' v' => r' = r ∧ i_Rel (k + 5) u' v') v v1) u v1 := by
  refine hl_el (P := fun u v => wpX_revoke (fun r u' => wpY_revoke (fun r' v' => r' = r ∧ i_Rel (k + 5) u' v') v v1) u v1) ?_ I
  intro dep dly grd hgt wal kn am ex rm pt cl pb ca ou hd cd ce cb nc no nh na nr ns nl nw np nq C D K hn
  obtain ⟨r, u', v', hR, hX, hY⟩ : hl_out (k + 5) (fun post => wpX_revoke post (dep, dly, grd, hgt, wal, kn, (hl_I nc), (hl_I no), (hl_I nh), am, ex, rm, (hl_I na), (hl_I nr), pt, (hl_I ns), (hl_I nl), (hl_I nw), (hl_I np), (hl_I nq), cl, pb, ca, ou) v1) (fun post => wpY_revoke post (dep, dly, grd, hgt, wal, kn, (hl_I nc), (hl_I no), (hl_I nh), am, ex, rm, pt, hd, (hl_I nl), (hl_I nw), cd, ce, pb, cb, ou) v1) := hl_revoke C D K hn v1
  exact hX _ (hY _ ⟨rfl, hR⟩)
theorem i_vc_close {k : Nat} {u : SX} {v : SY} (I : i_Rel k u v) (hk : k + 5 ≤ 2563) (v1 : Int32) (v2 : Int32) : wpX_close (fun r u' => wpY_close (fun r' v' => r' = r ∧ i_Rel (k + 5) u' v') v v1 v2) u v1 v2 := by
  refine hl_el (P := fun u v => wpX_close (fun r u' => wpY_close (fun r' v' => r' = r ∧ i_Rel (k + 5) u' v') v v1 v2) u v1 v2) ?_ I
  intro dep dly grd hgt wal kn am ex rm pt cl pb ca ou hd cd ce cb nc no nh na nr ns nl nw np nq C D K hn
  obtain ⟨r, u', v', hR, hX, hY⟩ : hl_out k (fun post => wpX_close post (dep, dly, grd, hgt, wal, kn, (hl_I nc), (hl_I no), (hl_I nh), am, ex, rm, (hl_I na), (hl_I nr), pt, (hl_I ns), (hl_I nl), (hl_I nw), (hl_I np), (hl_I nq), cl, pb, ca, ou) v1 v2) (fun post => wpY_close post (dep, dly, grd, hgt, wal, kn, (hl_I nc), (hl_I no), (hl_I nh), am, ex, rm, pt, hd, (hl_I nl), (hl_I nw), cd, ce, pb, cb, ou) v1 v2) := hl_close C D K hn v1 v2
  exact hX _ (hY _ ⟨rfl, i_up hR⟩)
theorem i_vc_claim {k : Nat} {u : SX} {v : SY} (I : i_Rel k u v) (hk : k + 5 ≤ 2563) (v1 : Int32) (v2 : Int32) : wpX_claim (fun r u' => wpY_claim (fun r' v' => r' = r ∧ i_Rel (k + 5) u' v') v v1 v2) u v1 v2 := by
  refine hl_el (P := fun u v => wpX_claim (fun r u' => wpY_claim (fun r' v' => r' = r ∧ i_Rel (k + 5) u' v') v v1 v2) u v1 v2) ?_ I
  intro dep dly grd hgt wal kn am ex rm pt cl pb ca ou hd cd ce cb nc no nh na nr ns nl nw np nq C D K hn
  obtain ⟨r, u', v', hR, hX, hY⟩ : hl_out k (fun post => wpX_claim post (dep, dly, grd, hgt, wal, kn, (hl_I nc), (hl_I no), (hl_I nh), am, ex, rm, (hl_I na), (hl_I nr), pt, (hl_I ns), (hl_I nl), (hl_I nw), (hl_I np), (hl_I nq), cl, pb, ca, ou) v1 v2) (fun post => wpY_claim post (dep, dly, grd, hgt, wal, kn, (hl_I nc), (hl_I no), (hl_I nh), am, ex, rm, pt, hd, (hl_I nl), (hl_I nw), cd, ce, pb, cb, ou) v1 v2) := hl_claim C D K hn v1 v2
  exact hX _ (hY _ ⟨rfl, i_up hR⟩)
theorem i_vc_tell {k : Nat} {u : SX} {v : SY} (I : i_Rel k u v) (hk : k + 5 ≤ 2563) (v1 : Int32) (v2 : Int32) (v3 : Int32) : wpX_tell (fun r u' => wpY_tell (fun r' v' => r' = r ∧ i_Rel (k + 5) u' v') v v1 v2 v3) u v1 v2 v3 := by
  refine hl_el (P := fun u v => wpX_tell (fun r u' => wpY_tell (fun r' v' => r' = r ∧ i_Rel (k + 5) u' v') v v1 v2 v3) u v1 v2 v3) ?_ I
  intro dep dly grd hgt wal kn am ex rm pt cl pb ca ou hd cd ce cb nc no nh na nr ns nl nw np nq C D K hn
  obtain ⟨r, u', v', hR, hX, hY⟩ : hl_out (k + 5) (fun post => wpX_tell post (dep, dly, grd, hgt, wal, kn, (hl_I nc), (hl_I no), (hl_I nh), am, ex, rm, (hl_I na), (hl_I nr), pt, (hl_I ns), (hl_I nl), (hl_I nw), (hl_I np), (hl_I nq), cl, pb, ca, ou) v1 v2 v3) (fun post => wpY_tell post (dep, dly, grd, hgt, wal, kn, (hl_I nc), (hl_I no), (hl_I nh), am, ex, rm, pt, hd, (hl_I nl), (hl_I nw), cd, ce, pb, cb, ou) v1 v2 v3) := hl_tell C D K hn v1 v2 v3
  exact hX _ (hY _ ⟨rfl, hR⟩)
theorem i_vc_tick {k : Nat} {u : SX} {v : SY} (I : i_Rel k u v) (hk : k + 5 ≤ 2563) (v1 : Int32) : wpX_tick (fun r u' => wpY_tick (fun r' v' => r' = r ∧ i_Rel (k + 5) u' v') v v1) u v1 := by
  refine hl_el (P := fun u v => wpX_tick (fun r u' => wpY_tick (fun r' v' => r' = r ∧ i_Rel (k + 5) u' v') v v1) u v1) ?_ I
  intro dep dly grd hgt wal kn am ex rm pt cl pb ca ou hd cd ce cb nc no nh na nr ns nl nw np nq C D K hn
  obtain ⟨r, u', v', hR, hX, hY⟩ : hl_out k (fun post => wpX_tick post (dep, dly, grd, hgt, wal, kn, (hl_I nc), (hl_I no), (hl_I nh), am, ex, rm, (hl_I na), (hl_I nr), pt, (hl_I ns), (hl_I nl), (hl_I nw), (hl_I np), (hl_I nq), cl, pb, ca, ou) v1) (fun post => wpY_tick post (dep, dly, grd, hgt, wal, kn, (hl_I nc), (hl_I no), (hl_I nh), am, ex, rm, pt, hd, (hl_I nl), (hl_I nw), cd, ce, pb, cb, ou) v1) := hl_tick v1 dep dly grd hgt wal kn am ex rm pt cl pb ca ou hd cd ce cb nc no nh na nr ns nl nw np nq C D K hn
  exact hX _ (hY _ ⟨rfl, i_up hR⟩)
theorem i_vc_view {k : Nat} {u : SX} {v : SY} (I : i_Rel k u v) (hk : k + 5 ≤ 2563) (v1 : Int32) (v2 : Int32) (v3 : Int32) : wpX_view (fun r => wpY_view (fun r' => r' = r ∧ i_Rel (k + 5) u v) v v1 v2 v3) u v1 v2 v3 := by
  refine hl_el (P := fun u v => wpX_view (fun r => wpY_view (fun r' => r' = r ∧ i_Rel (k + 5) u v) v v1 v2 v3) u v1 v2 v3) ?_ I
  intro dep dly grd hgt wal kn am ex rm pt cl pb ca ou hd cd ce cb nc no nh na nr ns nl nw np nq C D K hn
  obtain ⟨r, hX, hY⟩ : hl_ans (fun post => wpX_view post (dep, dly, grd, hgt, wal, kn, (hl_I nc), (hl_I no), (hl_I nh), am, ex, rm, (hl_I na), (hl_I nr), pt, (hl_I ns), (hl_I nl), (hl_I nw), (hl_I np), (hl_I nq), cl, pb, ca, ou) v1 v2 v3) (fun post => wpY_view post (dep, dly, grd, hgt, wal, kn, (hl_I nc), (hl_I no), (hl_I nh), am, ex, rm, pt, hd, (hl_I nl), (hl_I nw), cd, ce, pb, cb, ou) v1 v2 v3) := hl_view C v1 v2 v3
  exact hX _ (hY _ ⟨rfl, i_up (hl_in C D K hn)⟩)
theorem i_vc_transfer {k : Nat} {u : SX} {v : SY} (I : i_Rel k u v) (hk : k + 5 ≤ 2563) (v1 : Int32) (v2 : Int32) (v3 : Int32) : wpX_transfer (fun r => wpY_transfer (fun r' => r' = r ∧ i_Rel (k + 5) u v) v v1 v2 v3) u v1 v2 v3 := by
  refine hl_el (P := fun u v => wpX_transfer (fun r => wpY_transfer (fun r' => r' = r ∧ i_Rel (k + 5) u v) v v1 v2 v3) u v1 v2 v3) ?_ I
  intro dep dly grd hgt wal kn am ex rm pt cl pb ca ou hd cd ce cb nc no nh na nr ns nl nw np nq C D K hn
  obtain ⟨r, hX, hY⟩ : hl_ans (fun post => wpX_transfer post (dep, dly, grd, hgt, wal, kn, (hl_I nc), (hl_I no), (hl_I nh), am, ex, rm, (hl_I na), (hl_I nr), pt, (hl_I ns), (hl_I nl), (hl_I nw), (hl_I np), (hl_I nq), cl, pb, ca, ou) v1 v2 v3) (fun post => wpY_transfer post (dep, dly, grd, hgt, wal, kn, (hl_I nc), (hl_I no), (hl_I nh), am, ex, rm, pt, hd, (hl_I nl), (hl_I nw), cd, ce, pb, cb, ou) v1 v2 v3) := hl_transfer C v1 v2 v3
  exact hX _ (hY _ ⟨rfl, i_up (hl_in C D K hn)⟩)
theorem i_vc_output {k : Nat} {u : SX} {v : SY} (I : i_Rel k u v) (hk : k + 5 ≤ 2563) (v1 : Int32) (v2 : Int32) : wpX_output (fun r => wpY_output (fun r' => r' = r ∧ i_Rel (k + 5) u v) v v1 v2) u v1 v2 := by
  refine hl_el (P := fun u v => wpX_output (fun r => wpY_output (fun r' => r' = r ∧ i_Rel (k + 5) u v) v v1 v2) u v1 v2) ?_ I
  intro dep dly grd hgt wal kn am ex rm pt cl pb ca ou hd cd ce cb nc no nh na nr ns nl nw np nq C D K hn
  obtain ⟨r, hX, hY⟩ : hl_ans (fun post => wpX_output post (dep, dly, grd, hgt, wal, kn, (hl_I nc), (hl_I no), (hl_I nh), am, ex, rm, (hl_I na), (hl_I nr), pt, (hl_I ns), (hl_I nl), (hl_I nw), (hl_I np), (hl_I nq), cl, pb, ca, ou) v1 v2) (fun post => wpY_output post (dep, dly, grd, hgt, wal, kn, (hl_I nc), (hl_I no), (hl_I nh), am, ex, rm, pt, hd, (hl_I nl), (hl_I nw), cd, ce, pb, cb, ou) v1 v2) := hl_output v1 v2
  exact hX _ (hY _ ⟨rfl, i_up (hl_in C D K hn)⟩)
theorem i_vc_side {k : Nat} {u : SX} {v : SY} (I : i_Rel k u v) (hk : k + 5 ≤ 2563) (v1 : Int32) (v2 : Int32) : wpX_side (fun r => wpY_side (fun r' => r' = r ∧ i_Rel (k + 5) u v) v v1 v2) u v1 v2 := by
  refine hl_el (P := fun u v => wpX_side (fun r => wpY_side (fun r' => r' = r ∧ i_Rel (k + 5) u v) v v1 v2) u v1 v2) ?_ I
  intro dep dly grd hgt wal kn am ex rm pt cl pb ca ou hd cd ce cb nc no nh na nr ns nl nw np nq C D K hn
  obtain ⟨r, hX, hY⟩ : hl_ans (fun post => wpX_side post (dep, dly, grd, hgt, wal, kn, (hl_I nc), (hl_I no), (hl_I nh), am, ex, rm, (hl_I na), (hl_I nr), pt, (hl_I ns), (hl_I nl), (hl_I nw), (hl_I np), (hl_I nq), cl, pb, ca, ou) v1 v2) (fun post => wpY_side post (dep, dly, grd, hgt, wal, kn, (hl_I nc), (hl_I no), (hl_I nh), am, ex, rm, pt, hd, (hl_I nl), (hl_I nw), cd, ce, pb, cb, ou) v1 v2) := hl_side C D v1 v2
  exact hX _ (hY _ ⟨rfl, i_up (hl_in C D K hn)⟩)
theorem i_vc_wallet {k : Nat} {u : SX} {v : SY} (I : i_Rel k u v) (hk : k + 5 ≤ 2563) (v1 : Int32) : wpX_wallet (fun r => wpY_wallet (fun r' => r' = r ∧ i_Rel (k + 5) u v) v v1) u v1 := by
  refine hl_el (P := fun u v => wpX_wallet (fun r => wpY_wallet (fun r' => r' = r ∧ i_Rel (k + 5) u v) v v1) u v1) ?_ I
  intro dep dly grd hgt wal kn am ex rm pt cl pb ca ou hd cd ce cb nc no nh na nr ns nl nw np nq C D K hn
  obtain ⟨r, hX, hY⟩ : hl_ans (fun post => wpX_wallet post (dep, dly, grd, hgt, wal, kn, (hl_I nc), (hl_I no), (hl_I nh), am, ex, rm, (hl_I na), (hl_I nr), pt, (hl_I ns), (hl_I nl), (hl_I nw), (hl_I np), (hl_I nq), cl, pb, ca, ou) v1) (fun post => wpY_wallet post (dep, dly, grd, hgt, wal, kn, (hl_I nc), (hl_I no), (hl_I nh), am, ex, rm, pt, hd, (hl_I nl), (hl_I nw), cd, ce, pb, cb, ou) v1) := hl_wallet v1
  exact hX _ (hY _ ⟨rfl, i_up (hl_in C D K hn)⟩)
theorem i_vc_knows {k : Nat} {u : SX} {v : SY} (I : i_Rel k u v) (hk : k + 5 ≤ 2563) (v1 : Int32) (v2 : Int32) : wpX_knows (fun r => wpY_knows (fun r' => r' = r ∧ i_Rel (k + 5) u v) v v1 v2) u v1 v2 := by
  refine hl_el (P := fun u v => wpX_knows (fun r => wpY_knows (fun r' => r' = r ∧ i_Rel (k + 5) u v) v v1 v2) u v1 v2) ?_ I
  intro dep dly grd hgt wal kn am ex rm pt cl pb ca ou hd cd ce cb nc no nh na nr ns nl nw np nq C D K hn
  obtain ⟨r, hX, hY⟩ : hl_ans (fun post => wpX_knows post (dep, dly, grd, hgt, wal, kn, (hl_I nc), (hl_I no), (hl_I nh), am, ex, rm, (hl_I na), (hl_I nr), pt, (hl_I ns), (hl_I nl), (hl_I nw), (hl_I np), (hl_I nq), cl, pb, ca, ou) v1 v2) (fun post => wpY_knows post (dep, dly, grd, hgt, wal, kn, (hl_I nc), (hl_I no), (hl_I nh), am, ex, rm, pt, hd, (hl_I nl), (hl_I nw), cd, ce, pb, cb, ou) v1 v2) := hl_knows v1 v2
  exact hX _ (hY _ ⟨rfl, i_up (hl_in C D K hn)⟩)
end
