section
/-! pure rows to paste: stores, nI and lN arithmetic, masks, shifts, narrowing, branches by naturals (pk_le, pk_lt, pk_eq), loops (lp1 .. lp16: the measure of the state; rp1 ..: recursion), negatives. Take what you need -/
theorem pk_us {f : Nat → Int32} {k : Nat} {x : Int32} : upd f k x k = x := if_pos rfl
theorem pk_un {f : Nat → Int32} {k j : Nat} {x : Int32} (h : j ≠ k) : upd f k x j = f j := if_neg h
theorem pk_uLs {f : Nat → Int64} {k : Nat} {x : Int64} : vp_updL f k x k = x := if_pos rfl
theorem pk_uLn {f : Nat → Int64} {k j : Nat} {x : Int64} (h : j ≠ k) : vp_updL f k x j = f j := if_neg h
theorem pk_sub {a b : Nat} (h : b ≤ a) : nI a - nI b = nI (a - b) := by
  obtain ⟨c, rfl⟩ : ∃ c, a = c + b := ⟨a - b, by omega⟩
  rw [← nI_add, Int32.add_sub_cancel, Nat.add_sub_cancel]
theorem pk_m1 (n : Nat) : nI (n + 1) + (-1) = nI n := by
  rw [← nI_1, Int32.add_assoc, show (1 : Int32) + (-1) = 0 from rfl, Int32.add_zero]
theorem pk_mul (a b : Nat) : nI a * nI b = nI (a * b) := (Int32.ofNat_mul a b).symm
theorem pk_div {a d : Nat} (ha : a < 2 ^ 31) (h0 : 0 < d) (hd : d < 2 ^ 31) : nI a / nI d = nI (a / d) := by
  apply Int32.toInt_inj.mp
  rw [lg_idiv_nonneg (by rw [nI_toInt ha]; omega) (by rw [nI_toInt hd]; omega), nI_toInt ha, nI_toInt hd, nI_toInt (Nat.lt_of_le_of_lt (Nat.div_le_self a d) ha)]
  first | rfl | exact (Int.natCast_ediv _ _).symm
theorem pk_rem {a d : Nat} (ha : a < 2 ^ 31) (h0 : 0 < d) (hd : d < 2 ^ 31) : nI a - nI a / nI d * nI d = nI (a % d) := by
  rw [pk_div ha h0 hd, pk_mul, pk_sub (Nat.div_mul_le_self a d)]
  exact congrArg nI (by have := Nat.div_add_mod' a d; omega)
theorem pk_sub_toInt {a b : Nat} (ha : a < 2 ^ 30) (hb : b < 2 ^ 30) : (nI a - nI b).toInt = (a : Int) - b := by
  rw [Int32.toInt_sub, nI_toInt (by omega), nI_toInt (by omega)]
  exact Int.bmod_eq_of_le (by omega) (by omega)
theorem pk_sneg {a b : Nat} (hb : b < 2 ^ 30) (h : a < b) : nI a - nI b < 0 := by
  rw [Int32.lt_iff_toInt_lt, pk_sub_toInt (by omega) hb, show (0 : Int32).toInt = 0 from by decide]
  omega
theorem pk_ix (x : Int32) {n : Nat} (hn : n < 2 ^ 31) : x < 0 ∨ nI n ≤ x ∨ ∃ j : Nat, j < n ∧ x = nI j := by
  by_cases h : x < 0
  · exact Or.inl h
  · obtain ⟨j, hj, rfl⟩ := nI_of h
    by_cases h2 : j < n
    · exact Or.inr (Or.inr ⟨j, h2, rfl⟩)
    · exact Or.inr (Or.inl (nI_le (by omega) hj))
theorem pk_le {x y : Int32} {A B : Prop} (a b : Nat) (f : a ≤ b → A) (g : b < a → B) (hx : x = nI a := by rfl) (hy : y = nI b := by rfl) (ha : a < 2 ^ 31 := by omega) (hb : b < 2 ^ 31 := by omega) : (x ≤ y → A) ∧ (¬ x ≤ y → B) := by
  subst hx hy
  rw [nI_leI ha hb]
  exact ⟨f, fun z => g (by omega)⟩
theorem pk_lt {x y : Int32} {A B : Prop} (a b : Nat) (f : a < b → A) (g : b ≤ a → B) (hx : x = nI a := by rfl) (hy : y = nI b := by rfl) (ha : a < 2 ^ 31 := by omega) (hb : b < 2 ^ 31 := by omega) : (x < y → A) ∧ (¬ x < y → B) := by
  subst hx hy
  rw [nI_ltI ha hb]
  exact ⟨f, fun z => g (by omega)⟩
theorem pk_eq {x y : Int32} {A B : Prop} (a b : Nat) (f : a = b → A) (g : a ≠ b → B) (hx : x = nI a := by rfl) (hy : y = nI b := by rfl) (ha : a < 2 ^ 31 := by omega) (hb : b < 2 ^ 31 := by omega) : (x = y → A) ∧ (¬ x = y → B) := by
  subst hx hy
  rw [nI_eq ha hb]
  exact ⟨f, g⟩
theorem pk_in {x : Int32} (n N : Nat) (h : n < N) (hx : x = nI n := by rfl) (hN : N < 2 ^ 31 := by omega) : vp_in x N := by
  subst hx
  exact vp_in_nI h hN
theorem pk_cl {x : Int32} (n : Nat) (hx : x = nI n := by rfl) (h : n < 2 ^ 31 := by omega) : x.toNatClampNeg = n := by
  subst hx
  exact nI_clamp h
theorem pk_vb (z : Int32) : vp_nar .byte z.toInt8.toInt32 = z.toInt8.toInt32 := by rw [vp_nar_byte]; simp
theorem pk_vs (z : Int32) : vp_nar .short z.toInt16.toInt32 = z.toInt16.toInt32 := by rw [vp_nar_short]; simp
end
section
/-! base: arrays over naturals, stores and reads, the order of items, counting -/
def hs_A (f : Nat → Nat) : Nat → Int32 := fun i => nI (f i)
def hs_s {α : Type} (f : Nat → α) (k : Nat) (v : α) : Nat → α := fun j => if j = k then v else f j
theorem hs_ss {α : Type} {f : Nat → α} {k : Nat} {v : α} : hs_s f k v k = v := if_pos rfl
theorem hs_sn {α : Type} {f : Nat → α} {k j : Nat} {v : α} (h : j ≠ k) : hs_s f k v j = f j := if_neg h
theorem hs_se {α : Type} {f : Nat → α} {k j : Nat} {v : α} (h : j = k) : hs_s f k v j = v := if_pos h
theorem hs_self {α : Type} {f : Nat → α} {k : Nat} : hs_s f k (f k) = f := by
  funext j; unfold hs_s; split
  · rename_i h; rw [h]
  · rfl
theorem hs_up {f : Nat → Nat} {k v : Nat} : upd (hs_A f) k (nI v) = hs_A (hs_s f k v) := by
  funext j; unfold upd hs_A hs_s; split <;> rfl
theorem hs_rd {f : Nat → Nat} {x : Int32} (i : Nat) (hi : i < 2 ^ 31) (hx : x = nI i := by rfl) : hs_A f x.toNatClampNeg = nI (f i) := by
  rw [hx, nI_clamp hi]; rfl
theorem hs_i8 {v : Nat} (h : v < 128) : (nI v).toInt8.toInt32 = nI v := by
  refine lg_i2b_small ?_ ?_ <;> rw [nI_toInt (by omega)] <;> omega
theorem hs_nb {v : Nat} (h : v < 128) : vp_nar .byte (nI v) = nI v := by
  rw [vp_nar_byte, hs_i8 h]
theorem hs_nc {v : Nat} (h : v < 128) : vp_nar .byte (nI v).toInt8.toInt32 = nI v := by
  rw [hs_i8 h, hs_nb h]
theorem hs_w {P : (Nat → Int32) → Prop} {f : Nat → Nat} {x y : Int32} {N : Nat} (i v : Nat) (hi : i < N) (hv : v < 128) (h : P (hs_A (hs_s f i v))) (hx : x = nI i := by rfl) (hy : y = nI v := by rfl) (hN : N < 2 ^ 31 := by decide) : vp_in x N ∧ ∀ a : Nat → Int32, a = upd (hs_A f) x.toNatClampNeg (vp_nar .byte y.toInt8.toInt32) → P a := by
  subst hx; subst hy
  refine ⟨vp_in_nI hi hN, fun a e => ?_⟩
  rw [e, nI_clamp (by omega), hs_nc hv, hs_up]; exact h
theorem hs_wn {P : (Nat → Int32) → Prop} {f : Nat → Nat} {x y : Int32} {N : Nat} (i v : Nat) (hi : i < N) (hv : v < 128) (h : P (hs_A (hs_s f i v))) (hx : x = nI i := by rfl) (hy : y = nI v := by rfl) (hN : N < 2 ^ 31 := by decide) : vp_in x N ∧ ∀ a : Nat → Int32, a = upd (hs_A f) x.toNatClampNeg (vp_nar .byte y) → P a := by
  subst hx; subst hy
  refine ⟨vp_in_nI hi hN, fun a e => ?_⟩
  rw [e, nI_clamp (by omega), hs_nb hv, hs_up]; exact h
theorem hs_nz {v : Nat} (h : v < 2) : vp_nar .boolean (nI v) = nI v := by
  rcases (by omega : v = 0 ∨ v = 1) with h | h <;> rw [h] <;> rfl
theorem hs_wz {P : (Nat → Int32) → Prop} {f : Nat → Nat} {x y : Int32} {N : Nat} (i v : Nat) (hi : i < N) (hv : v < 2) (h : P (hs_A (hs_s f i v))) (hx : x = nI i := by rfl) (hy : y = nI v := by rfl) (hN : N < 2 ^ 31 := by decide) : vp_in x N ∧ ∀ a : Nat → Int32, a = upd (hs_A f) x.toNatClampNeg (vp_nar .boolean y) → P a := by
  subst hx; subst hy
  refine ⟨vp_in_nI hi hN, fun a e => ?_⟩
  rw [e, nI_clamp (by omega), hs_nz hv, hs_up]; exact h
theorem hs_r {P : Int32 → Prop} {f : Nat → Nat} {x : Int32} {N : Nat} (i : Nat) (hi : i < N) (h : P (nI (f i))) (hx : x = nI i := by rfl) (hN : N < 2 ^ 31 := by decide) : vp_in x N ∧ ∀ y : Int32, y = hs_A f x.toNatClampNeg → P y := by
  subst hx
  refine ⟨vp_in_nI hi hN, fun a e => ?_⟩
  rw [e, nI_clamp (by omega)]; exact h
theorem hs_in {x : Int32} {N : Nat} {B : Prop} (i : Nat) (hi : i < N) (h : B) (hx : x = nI i := by rfl) (hN : N < 2 ^ 31 := by decide) : vp_in x N ∧ B := by
  subst hx; exact ⟨vp_in_nI hi hN, h⟩
/-! the order of items -/
def hs_bef (K : Nat → Int32) (x y : Nat) : Prop := K x < K y ∨ (K x = K y ∧ x < y)
theorem hs_bef_i {K : Nat → Int32} {x y : Nat} : hs_bef K x y ↔ (K x).toInt < (K y).toInt ∨ ((K x).toInt = (K y).toInt ∧ x < y) := by
  unfold hs_bef; rw [Int32.lt_iff_toInt_lt, Int32.toInt_inj]
theorem hs_bef_irr {K : Nat → Int32} {x : Nat} : ¬ hs_bef K x x := by
  rw [hs_bef_i]; omega
theorem hs_bef_tr {K : Nat → Int32} {x y z : Nat} (h : hs_bef K x y) (h' : hs_bef K y z) : hs_bef K x z := by
  rw [hs_bef_i] at *; omega
theorem hs_bef_as {K : Nat → Int32} {x y : Nat} (h : hs_bef K x y) : ¬ hs_bef K y x := by
  rw [hs_bef_i] at *; omega
theorem hs_bef_tot {K : Nat → Int32} {x y : Nat} (h : ¬ hs_bef K x y) (hn : x ≠ y) : hs_bef K y x := by
  rw [hs_bef_i] at *; omega
theorem hs_bef_ne {K : Nat → Int32} {x y : Nat} (h : hs_bef K x y) : x ≠ y := by
  intro e; rw [e] at h; exact hs_bef_irr h
/-- keys that differ at x alone, where the new one is not larger -/
theorem hs_bef_low {K K' : Nat → Int32} {x y z : Nat} (hx : ∀ j, j ≠ x → K' j = K j) (hl : K' x ≤ K x) (hz : z ≠ x) (h : hs_bef K y z) : hs_bef K' y z := by
  rw [hs_bef_i] at *; rw [hx z hz]
  by_cases e : y = x
  · subst e; rw [Int32.le_iff_toInt_le] at hl; omega
  · rw [hx y e]; exact h
theorem hs_bef_same {K K' : Nat → Int32} {x y z : Nat} (hx : ∀ j, j ≠ x → K' j = K j) (hy : y ≠ x) (hz : z ≠ x) : hs_bef K' y z ↔ hs_bef K y z := by
  unfold hs_bef; rw [hx z hz, hx y hy]
section
variable {st : Nat} {K A : Nat → Int32} {sz hp pl pr pc pn pb rF rI rN rU rC rX rP rD gF gC gL gR gP gD gM gO lr ll lR lp lk wn sk : Nat → Nat}
theorem hs_cb {post : Int32 → Prop} {x' y' : Int32} (x y : Nat) (hx : x < 24) (hy : y < 24) (h1 : hs_bef K x y → post 1) (h0 : ¬ hs_bef K x y → post 0) (ex : x' = nI x := by rfl) (ey : y' = nI y := by rfl) : wpX_comesBefore post ((nI st), K, A, (hs_A sz), (hs_A hp), (hs_A pl), (hs_A pr), (hs_A pc), (hs_A pn), (hs_A pb), (hs_A rF), (hs_A rI), (hs_A rN), (hs_A rU), (hs_A rC), (hs_A rX), (hs_A rP), (hs_A rD), (hs_A gF), (hs_A gC), (hs_A gL), (hs_A gR), (hs_A gP), (hs_A gD), (hs_A gM), (hs_A gO), (hs_A lr), (hs_A ll), (hs_A lR), (hs_A lp), (hs_A lk), (hs_A wn), (hs_A sk)) x' y' := by
  subst ex; subst ey
  have cx : (nI x).toNatClampNeg = x := nI_clamp (by omega)
  have cy : (nI y).toNatClampNeg = y := nI_clamp (by omega)
  have ix : vp_in (nI x) 24 := vp_in_nI hx (by decide)
  have iy : vp_in (nI y) 24 := vp_in_nI hy (by decide)
  unfold wpX_comesBefore
  dsimp only
  rw [cx, cy]
  refine ⟨ix, iy, br_c (fun h => h1 (Or.inl h)) (fun h => ⟨ix, iy, br_c (fun e => ?_) (fun e => h0 (fun b => b.elim h (fun b => e b.1)))⟩)⟩
  refine pk_le y x (fun hl => h0 (fun b => b.elim h (fun b => by omega))) (fun hl => h1 (Or.inr ⟨e, hl⟩))
theorem hs_cbb {A1 B1 : Int32 → Prop} {x' y' : Int32} (x y : Nat) (hx : x < 24) (hy : y < 24) (h1 : hs_bef K x y → B1 1) (h0 : ¬ hs_bef K x y → A1 0) (ex : x' = nI x := by rfl) (ey : y' = nI y := by rfl) : wpX_comesBefore (fun r => (r = 0 → A1 r) ∧ (¬ r = 0 → B1 r)) ((nI st), K, A, (hs_A sz), (hs_A hp), (hs_A pl), (hs_A pr), (hs_A pc), (hs_A pn), (hs_A pb), (hs_A rF), (hs_A rI), (hs_A rN), (hs_A rU), (hs_A rC), (hs_A rX), (hs_A rP), (hs_A rD), (hs_A gF), (hs_A gC), (hs_A gL), (hs_A gR), (hs_A gP), (hs_A gD), (hs_A gM), (hs_A gO), (hs_A lr), (hs_A ll), (hs_A lR), (hs_A lp), (hs_A lk), (hs_A wn), (hs_A sk)) x' y' :=
  hs_cb x y hx hy (fun h => br_f (by decide) (h1 h)) (fun h => br_t rfl (h0 h)) ex ey
end
/-! counting -/
def hs_cn (P : Nat → Bool) : Nat → Nat
  | 0 => 0
  | n + 1 => hs_cn P n + (if P n = true then 1 else 0)
theorem hs_cn_le {P P' : Nat → Bool} : ∀ {n : Nat}, (∀ x, x < n → P x = true → P' x = true) → hs_cn P n ≤ hs_cn P' n
  | 0, _ => Nat.le_refl _
  | n + 1, h => by
    have ih := hs_cn_le (n := n) (fun x hx => h x (by omega))
    have := h n (by omega)
    unfold hs_cn
    by_cases e : P n = true
    · rw [if_pos e, if_pos (this e)]; omega
    · rw [if_neg e]; omega
theorem hs_cn_bd {P : Nat → Bool} : ∀ {n : Nat}, hs_cn P n ≤ n
  | 0 => Nat.le_refl _
  | n + 1 => by
    have ih := hs_cn_bd (P := P) (n := n)
    unfold hs_cn; split <;> omega
theorem hs_cn_cg {P P' : Nat → Bool} {n : Nat} (h : ∀ x, x < n → P x = P' x) : hs_cn P n = hs_cn P' n :=
  Nat.le_antisymm (hs_cn_le (fun x hx e => by rw [← h x hx]; exact e)) (hs_cn_le (fun x hx e => by rw [h x hx]; exact e))
theorem hs_cn_1 {P P' : Nat → Bool} {y : Nat} (h0 : P y = false) (h1 : P' y = true) : ∀ {n : Nat}, (∀ x, x < n → x ≠ y → P x = P' x) → y < n → hs_cn P' n = hs_cn P n + 1
  | 0, _, hy => by omega
  | n + 1, h, hy => by
    unfold hs_cn
    by_cases e : y = n
    · subst e
      rw [hs_cn_cg (P := P) (P' := P') (n := y) (fun x hx => h x (by omega) (by omega)), h0, h1]; simp
    · rw [hs_cn_1 h0 h1 (n := n) (fun x hx => h x (by omega)) (by omega), h n (by omega) (by omega)]; omega
theorem hs_cn_lt {P P' : Nat → Bool} {n y : Nat} (h : ∀ x, x < n → P x = true → P' x = true) (hy : y < n) (h0 : P y = false) (h1 : P' y = true) : hs_cn P n < hs_cn P' n := by
  have := hs_cn_1 (P := P) (P' := fun x => if x = y then true else P x) (y := y) h0 (by simp) (n := n) (fun x _ e => by simp [e]) hy
  have h2 : hs_cn (fun x => if x = y then true else P x) n ≤ hs_cn P' n := hs_cn_le (fun x hx e => by
    by_cases c : x = y
    · rw [c]; exact h1
    · rw [if_neg c] at e; exact h x hx e)
  omega
theorem hs_cn_0 {P : Nat → Bool} {n : Nat} (h : ∀ x, x < n → P x = false) : hs_cn P n = 0 := by
  induction n with
  | zero => rfl
  | succ n ih => unfold hs_cn; rw [ih (fun x hx => h x (by omega)), h n (by omega)]; simp
theorem hs_cn_pos {P : Nat → Bool} {n y : Nat} (hy : y < n) (h : P y = true) : 0 < hs_cn P n := by
  have := hs_cn_lt (P := fun _ => false) (P' := P) (n := n) (y := y) (fun _ _ e => by simp at e) hy rfl h
  omega
theorem hs_cn_or {P P1 P2 : Nat → Bool} : ∀ {n : Nat}, (∀ x, x < n → P x = (P1 x || P2 x)) → (∀ x, x < n → ¬ (P1 x = true ∧ P2 x = true)) → hs_cn P n = hs_cn P1 n + hs_cn P2 n
  | 0, _, _ => rfl
  | n + 1, h, hd => by
    unfold hs_cn
    rw [hs_cn_or (n := n) (fun x hx => h x (by omega)) (fun x hx => hd x (by omega)), h n (by omega)]
    have := hd n (by omega)
    cases h1 : P1 n <;> cases h2 : P2 n <;> simp [h1, h2] at this ⊢ <;> omega
theorem hs_cn_ls {P : Nat → Bool} : ∀ {n : Nat} {l : List Nat}, l.Nodup → (∀ x, x ∈ l ↔ x < n ∧ P x = true) → l.length = hs_cn P n
  | 0, l, _, h => by
    cases l with
    | nil => rfl
    | cons a t => exact absurd ((h a).1 (by simp)).1 (by omega)
  | n + 1, l, hd, h => by
    by_cases e : P n = true
    · have hn : n ∈ l := (h n).2 ⟨by omega, e⟩
      have := hs_cn_ls (P := P) (n := n) (l := l.erase n) (hd.erase n) (fun x => by
        rw [hd.mem_erase_iff, h x]
        constructor
        · intro ⟨a, b, c⟩; exact ⟨by omega, c⟩
        · intro ⟨a, b⟩; exact ⟨by omega, by omega, b⟩)
      rw [List.length_erase_of_mem hn] at this
      have hp := List.length_pos_of_mem hn
      unfold hs_cn; rw [if_pos e]; omega
    · have := hs_cn_ls (P := P) (n := n) (l := l) hd (fun x => by
        rw [h x]
        constructor
        · intro ⟨a, b⟩
          refine ⟨?_, b⟩
          by_cases c : x = n
          · rw [c] at b; exact absurd b e
          · omega
        · intro ⟨a, b⟩; exact ⟨by omega, b⟩)
      unfold hs_cn; rw [if_neg e]; omega
theorem hs_len {l : List Nat} {n : Nat} (hd : l.Nodup) (h : ∀ x, x ∈ l → x < n) : l.length ≤ n := by
  have := List.Nodup.length_le_of_subset (l₂ := List.range n) hd (fun x hx => List.mem_range.2 (h x hx))
  rwa [List.length_range] at this
noncomputable def hs_dc (p : Prop) : Bool := @decide p (Classical.propDecidable p)
theorem hs_dc_t {p : Prop} : hs_dc p = true ↔ p := by
  unfold hs_dc; exact @decide_eq_true_iff p (Classical.propDecidable p)
theorem hs_dc_f {p : Prop} : hs_dc p = false ↔ ¬ p := by
  unfold hs_dc; exact @decide_eq_false_iff_not p (Classical.propDecidable p)
/-- how many items come before -/
noncomputable def hs_rk (K : Nat → Int32) (x : Nat) : Nat := hs_cn (fun y => hs_dc (hs_bef K y x)) 24
theorem hs_rk_lt {K : Nat → Int32} {p c : Nat} (h : hs_bef K p c) (hp : p < 24) : hs_rk K p < hs_rk K c :=
  hs_cn_lt (y := p) (fun x _ e => hs_dc_t.2 (hs_bef_tr (hs_dc_t.1 e) h)) hp (hs_dc_f.2 hs_bef_irr) (hs_dc_t.2 h)
theorem hs_rk_24 {K : Nat → Int32} {x : Nat} (h : x < 24) : hs_rk K x < 24 := by
  have a := hs_cn_lt (P := fun y => hs_dc (hs_bef K y x)) (P' := fun _ => true) (n := 24) (y := x) (fun _ _ _ => rfl) h (hs_dc_f.2 hs_bef_irr) rfl
  have b := hs_cn_bd (P := fun _ => true) (n := 24)
  unfold hs_rk; omega
theorem hs_q24 (q i : Nat) : nI q * 24 + nI i = nI (q * 24 + i) := by
  show nI q * nI 24 + nI i = _; rw [pk_mul, nI_add]
theorem hs_q64 (q i : Nat) : nI q * 64 + nI i = nI (q * 64 + i) := by
  show nI q * nI 64 + nI i = _; rw [pk_mul, nI_add]
theorem hs_2 (i : Nat) : 2 * nI i = nI (2 * i) := by
  show nI 2 * nI i = _; rw [pk_mul]
theorem hs_h {i : Nat} (h : i < 2 ^ 31) : nI i / 2 = nI (i / 2) := by
  show nI i / nI 2 = _; rw [pk_div h (by decide) (by decide)]
end
section
/-! forests by parents, the walk with a stack, lists -/
def hs_F (K : Nat → Int32) (g : Nat → Nat) (T R : Nat → Prop) (par : Nat → Nat) : Prop :=
  (∀ x, T x → x < 24) ∧ ∀ c, T c → ¬ R c → T (par c) ∧ hs_bef K (par c) c ∧ g (par c) = g c
theorem hs_F_root {K : Nat → Int32} {g : Nat → Nat} {T R : Nat → Prop} {par : Nat → Nat} (h : hs_F K g T R par) : ∀ (n x : Nat), hs_rk K x ≤ n → T x → ∃ y, T y ∧ R y ∧ g y = g x ∧ (y = x ∨ hs_bef K y x) := by
  intro n
  induction n with
  | zero =>
    intro x hx tx
    by_cases r : R x
    · exact ⟨x, tx, r, rfl, Or.inl rfl⟩
    · obtain ⟨tp, b, e⟩ := h.2 x tx r
      have := hs_rk_lt b (h.1 _ tp)
      omega
  | succ n ih =>
    intro x hx tx
    by_cases r : R x
    · exact ⟨x, tx, r, rfl, Or.inl rfl⟩
    · obtain ⟨tp, b, e⟩ := h.2 x tx r
      have := hs_rk_lt b (h.1 _ tp)
      obtain ⟨y, ty, ry, gy, o⟩ := ih (par x) (by omega) tp
      refine ⟨y, ty, ry, gy.trans e, Or.inr ?_⟩
      rcases o with o | o
      · rw [o]; exact b
      · exact hs_bef_tr o b
/-- the first of the items of queue q (24: none) -/
def hs_min (K : Nat → Int32) (Q : Nat → Nat) (q r : Nat) : Prop :=
  (r = 24 ∧ ∀ x, x < 24 → Q x ≠ q + 1) ∨ (r < 24 ∧ Q r = q + 1 ∧ ∀ x, x < 24 → Q x = q + 1 → x ≠ r → hs_bef K r x)
theorem hs_min_u {K : Nat → Int32} {Q : Nat → Nat} {q r r' : Nat} (h : hs_min K Q q r) (h' : hs_min K Q q r') : r = r' := by
  rcases h with ⟨h1, h2⟩ | ⟨h1, h2, h3⟩ <;> rcases h' with ⟨k1, k2⟩ | ⟨k1, k2, k3⟩
  · omega
  · exact absurd k2 (h2 _ k1)
  · exact absurd h2 (k2 _ h1)
  · by_cases e : r = r'
    · exact e
    · exact absurd (h3 r' k1 k2 (Ne.symm e)) (hs_bef_as (k3 r h1 h2 e))
/-- roots by queue: R x iff ro (Q x - 1) = x -/
def hs_RQ (Q ro : Nat → Nat) : Prop := ∀ q, q < 4 → ro q = 24 ∨ (ro q < 24 ∧ Q (ro q) = q + 1)
def hs_T (Q : Nat → Nat) (x : Nat) : Prop := x < 24 ∧ Q x ≠ 0
def hs_R (Q ro : Nat → Nat) (x : Nat) : Prop := ro (Q x - 1) = x
theorem hs_RQ_min {K : Nat → Int32} {Q ro par : Nat → Nat} (hr : hs_RQ Q ro) (h : hs_F K Q (hs_T Q) (hs_R Q ro) par) {q : Nat} (hq : q < 4) : hs_min K Q q (ro q) := by
  have key : ∀ x, x < 24 → Q x = q + 1 → (ro q = x ∨ hs_bef K (ro q) x) := by
    intro x hx e
    obtain ⟨y, ty, ry, gy, o⟩ := hs_F_root h (hs_rk K x) x (Nat.le_refl _) ⟨hx, by omega⟩
    unfold hs_R at ry
    rw [gy, e] at ry
    rw [Nat.add_sub_cancel] at ry
    rw [ry]; exact o
  rcases hr q hq with e | ⟨e1, e2⟩
  · refine Or.inl ⟨e, fun x hx ex => ?_⟩
    obtain ⟨y, ty, ry, gy, o⟩ := hs_F_root h (hs_rk K x) x (Nat.le_refl _) ⟨hx, by omega⟩
    unfold hs_R at ry
    rw [gy, ex] at ry
    rw [Nat.add_sub_cancel] at ry
    have := ty.1
    omega
  · refine Or.inr ⟨e1, e2, fun x hx ex ne => ?_⟩
    rcases key x hx ex with o | o
    · exact absurd o.symm ne
    · exact o
/-! the stack as a list, its top first -/
def hs_K (sk : Nat → Nat) : List Nat → Prop
  | [] => True
  | x :: t => sk t.length = x ∧ hs_K sk t
theorem hs_K_fr {sk sk' : Nat → Nat} : ∀ {l : List Nat}, (∀ i, i < l.length → sk' i = sk i) → hs_K sk l → hs_K sk' l
  | [], _, _ => trivial
  | x :: t, h, hk => ⟨(h t.length (by simp)).trans hk.1, hs_K_fr (fun i hi => h i (by simp; omega)) hk.2⟩
theorem hs_K_push {sk : Nat → Nat} {l : List Nat} {x : Nat} (h : hs_K sk l) : hs_K (hs_s sk l.length x) (x :: l) :=
  ⟨hs_ss, hs_K_fr (fun i hi => hs_sn (by omega)) h⟩
/-! the walk over a forest with a stack -/
def hs_D (T rt : Nat → Prop) (C : Nat → Nat → Prop) (vis stk : List Nat) : Prop :=
  (vis ++ stk).Nodup ∧ (∀ x, x ∈ vis ++ stk → T x) ∧ (∀ x, rt x → x ∈ vis ++ stk) ∧ (∀ x, x ∈ vis → ∀ c, C x c → c ∈ vis ++ stk) ∧ (∀ y, y ∈ vis ++ stk → rt y ∨ ∃ p, p ∈ vis ∧ C p y)
def hs_DF (T rt : Nat → Prop) (C : Nat → Nat → Prop) (rk : Nat → Nat) : Prop :=
  (∀ p c, T p → C p c → T c) ∧ (∀ p p' c, C p c → C p' c → p = p') ∧ (∀ p c, C p c → ¬ rt c) ∧ (∀ c, T c → rt c ∨ ∃ p, T p ∧ C p c ∧ rk p < rk c) ∧ (∀ x, T x → x < 24) ∧ (∀ x, rt x → T x)
theorem hs_D_0 {T rt : Nat → Prop} {C : Nat → Nat → Prop} {l : List Nat} {rk : Nat → Nat} (hf : hs_DF T rt C rk) (hd : l.Nodup) (hl : ∀ x, x ∈ l ↔ rt x) : hs_D T rt C [] l := by
  refine ⟨by simpa using hd, fun x hx => ?_, fun x hx => ?_, fun x hx => by simp at hx, fun y hy => ?_⟩
  · exact hf.2.2.2.2.2 x ((hl x).1 (by simpa using hx))
  · simpa using (hl x).2 hx
  · exact Or.inl ((hl y).1 (by simpa using hy))
theorem hs_D_s {T rt : Nat → Prop} {C : Nat → Nat → Prop} {vis stk l : List Nat} {x : Nat} {rk : Nat → Nat} (hf : hs_DF T rt C rk) (h : hs_D T rt C vis (x :: stk)) (hd : l.Nodup) (hl : ∀ c, c ∈ l ↔ C x c) : hs_D T rt C (x :: vis) (l ++ stk) := by
  obtain ⟨h1, h2, h3, h4, h5⟩ := h
  obtain ⟨f1, f2, f3, f4, f5, f6⟩ := hf
  have tx : T x := h2 x (by simp)
  have xv : x ∉ vis := by
    intro hx
    rw [List.nodup_append] at h1
    exact h1.2.2 x hx x (by simp) rfl
  have new : ∀ c, c ∈ l → c ∉ vis ++ x :: stk := by
    intro c hc hm
    have cc := (hl c).1 hc
    rcases h5 c hm with r | ⟨p, hp, cp⟩
    · exact f3 _ _ cc r
    · exact xv (f2 _ _ _ cc cp ▸ hp)
  refine ⟨?_, ?_, ?_, ?_, ?_⟩
  · have : (vis ++ x :: stk).Perm (x :: (vis ++ stk)) := List.perm_middle
    have n1 := this.nodup h1
    rw [List.nodup_cons] at n1
    have n2 := List.nodup_append.1 n1.2
    rw [List.cons_append, List.nodup_cons]
    constructor
    · intro hm
      rw [List.mem_append, List.mem_append] at hm
      rcases hm with hm | hm | hm
      · exact xv hm
      · exact new x hm (by simp)
      · exact n1.1 (by simp [hm])
    · rw [List.nodup_append, List.nodup_append]
      refine ⟨n2.1, ⟨hd, n2.2.1, ?_⟩, ?_⟩
      · intro a ha b hb e
        exact new a ha (by rw [e]; simp [hb])
      · intro a ha b hb e
        rw [List.mem_append] at hb
        rcases hb with hb | hb
        · exact new b hb (by rw [← e]; simp [ha])
        · exact n2.2.2 a ha b hb e
  · intro y hy
    simp only [List.cons_append, List.mem_cons, List.mem_append] at hy
    rcases hy with hy | hy | hy | hy
    · rw [hy]; exact tx
    · exact h2 y (by simp [hy])
    · exact f1 _ _ tx ((hl y).1 hy)
    · exact h2 y (by simp [hy])
  · intro y hy
    have := h3 y hy
    simp only [List.cons_append, List.mem_cons, List.mem_append] at this ⊢
    rcases this with a | a | a
    · exact Or.inr (Or.inl a)
    · exact Or.inl a
    · exact Or.inr (Or.inr (Or.inr a))
  · intro y hy c hc
    simp only [List.cons_append, List.mem_cons, List.mem_append] at hy ⊢
    rcases hy with hy | hy
    · rw [hy] at hc; exact Or.inr (Or.inr (Or.inl ((hl c).2 hc)))
    · have := h4 y hy c hc
      simp only [List.mem_cons, List.mem_append] at this
      rcases this with a | a | a
      · exact Or.inr (Or.inl a)
      · exact Or.inl a
      · exact Or.inr (Or.inr (Or.inr a))
  · intro y hy
    simp only [List.cons_append, List.mem_cons, List.mem_append] at hy
    have old : y ∈ vis ++ x :: stk → rt y ∨ ∃ p, p ∈ x :: vis ∧ C p y := by
      intro hm
      rcases h5 y hm with r | ⟨p, hp, cp⟩
      · exact Or.inl r
      · exact Or.inr ⟨p, by simp [hp], cp⟩
    rcases hy with hy | hy | hy | hy
    · exact old (by simp [hy])
    · exact old (by simp [hy])
    · exact Or.inr ⟨x, by simp, (hl y).1 hy⟩
    · exact old (by simp [hy])
theorem hs_D_e {T rt : Nat → Prop} {C : Nat → Nat → Prop} {vis : List Nat} {rk : Nat → Nat} (hf : hs_DF T rt C rk) (h : hs_D T rt C vis []) : vis.Nodup ∧ ∀ x, x ∈ vis ↔ T x := by
  obtain ⟨h1, h2, h3, h4, h5⟩ := h
  obtain ⟨f1, f2, f3, f4, f5, f6⟩ := hf
  simp only [List.append_nil] at *
  refine ⟨h1, fun x => ⟨h2 x, ?_⟩⟩
  have : ∀ n x, rk x ≤ n → T x → x ∈ vis := by
    intro n
    induction n with
    | zero =>
      intro x hx tx
      rcases f4 x tx with r | ⟨p, tp, cp, lt⟩
      · exact h3 x r
      · omega
    | succ n ih =>
      intro x hx tx
      rcases f4 x tx with r | ⟨p, tp, cp, lt⟩
      · exact h3 x r
      · exact h4 p (ih p (by omega) tp) x cp
  exact this (rk x) x (Nat.le_refl _)
theorem hs_D_len {T rt : Nat → Prop} {C : Nat → Nat → Prop} {vis stk : List Nat} {rk : Nat → Nat} (hf : hs_DF T rt C rk) (h : hs_D T rt C vis stk) : vis.length + stk.length ≤ 24 := by
  have := hs_len (n := 24) h.1 (fun x hx => hf.2.2.2.2.1 x (h.2.1 x hx))
  rwa [List.length_append] at this
end
section
/-! engine 6: tournaments -/
def h6_sub (i x : Nat) : Prop := ∃ k, (32 + x) / 2 ^ k = i
theorem h6_sub_up {i x : Nat} (h : h6_sub i x) : h6_sub (i / 2) x := by
  obtain ⟨k, h⟩ := h
  exact ⟨k + 1, by rw [Nat.pow_succ, ← Nat.div_div_eq_div_mul, h]⟩
theorem h6_sub_dn {i x : Nat} (hi : i < 32) (h : h6_sub i x) : h6_sub (2 * i) x ∨ h6_sub (2 * i + 1) x := by
  obtain ⟨k, h⟩ := h
  cases k with
  | zero => simp at h; omega
  | succ k =>
    rw [Nat.pow_succ, ← Nat.div_div_eq_div_mul] at h
    rcases (by omega : (32 + x) / 2 ^ k = 2 * i ∨ (32 + x) / 2 ^ k = 2 * i + 1) with e | e
    · exact Or.inl ⟨k, e⟩
    · exact Or.inr ⟨k, e⟩
theorem h6_sub_2 {i j x : Nat} (h : h6_sub i x) (h' : h6_sub j x) : i = j ∨ j ≤ i / 2 ∨ i ≤ j / 2 := by
  obtain ⟨k, h⟩ := h
  obtain ⟨k', h'⟩ := h'
  have key : ∀ a b i' j', (32 + x) / 2 ^ a = i' → (32 + x) / 2 ^ (a + (b + 1)) = j' → j' ≤ i' / 2 := by
    intro a b i' j' e1 e2
    rw [Nat.pow_add, ← Nat.div_div_eq_div_mul, e1, Nat.pow_succ, Nat.mul_comm, ← Nat.div_div_eq_div_mul] at e2
    have := Nat.div_le_self (i' / 2) (2 ^ b)
    omega
  rcases Nat.lt_trichotomy k k' with l | l | l
  · obtain ⟨b, e⟩ : ∃ b, k' = k + (b + 1) := ⟨k' - k - 1, by omega⟩
    rw [e] at h'
    exact Or.inr (Or.inl (key k b i j h h'))
  · rw [l] at h; exact Or.inl (h.symm.trans h')
  · obtain ⟨b, e⟩ : ∃ b, k = k' + (b + 1) := ⟨k - k' - 1, by omega⟩
    rw [e] at h
    exact Or.inr (Or.inr (key k' b j i h' h))
theorem h6_sub_l {x y : Nat} (hx : x < 32) : h6_sub (32 + y) x ↔ x = y := by
  constructor
  · intro ⟨k, h⟩
    cases k with
    | zero => simp at h; omega
    | succ k =>
      rw [Nat.pow_succ, Nat.mul_comm, ← Nat.div_div_eq_div_mul] at h
      have : (32 + x) / 2 / 2 ^ k ≤ (32 + x) / 2 := Nat.div_le_self _ _
      omega
  · intro e; exact ⟨0, by rw [e]; simp⟩
theorem h6_sub_1 {x : Nat} (hx : x < 32) : h6_sub 1 x := ⟨5, by show (32 + x) / 32 = 1; omega⟩
def h6_min (K : Nat → Int32) (Q : Nat → Nat) (q i r : Nat) : Prop :=
  (r = 24 ∧ ∀ x, x < 24 → h6_sub i x → Q x ≠ q + 1) ∨ (r < 24 ∧ h6_sub i r ∧ Q r = q + 1 ∧ ∀ x, x < 24 → h6_sub i x → Q x = q + 1 → x ≠ r → hs_bef K r x)
def h6_I (K : Nat → Int32) (Q wn : Nat → Nat) : Prop := ∀ q, q < 4 → ∀ i, 1 ≤ i → i < 64 → h6_min K Q q i (wn (q * 64 + i))
theorem h6_first {K : Nat → Int32} {Q wn : Nat → Nat} (h : h6_I K Q wn) {q : Nat} (hq : q < 4) : hs_min K Q q (wn (q * 64 + 1)) := by
  rcases h q hq 1 (by omega) (by omega) with ⟨h1, h2⟩ | ⟨h1, h2, h3, h4⟩
  · exact Or.inl ⟨h1, fun x hx => h2 x hx (h6_sub_1 (by omega))⟩
  · exact Or.inr ⟨h1, h3, fun x hx => h4 x hx (h6_sub_1 (by omega))⟩
theorem h6_le {K : Nat → Int32} {Q : Nat → Nat} {q i r : Nat} (h : h6_min K Q q i r) : r ≤ 24 := by
  rcases h with ⟨h1, _⟩ | ⟨h1, _⟩ <;> omega
def h6_bt (K : Nat → Int32) (a b r : Nat) : Prop := (a = 24 → r = b) ∧ (a ≠ 24 → b = 24 → r = a) ∧ (a ≠ 24 → b ≠ 24 → (hs_bef K a b → r = a) ∧ (¬ hs_bef K a b → r = b))
theorem h6_min_bt {K : Nat → Int32} {Q : Nat → Nat} {q i a b r : Nat} (hi : i < 32) (ha : h6_min K Q q (2 * i) a) (hb : h6_min K Q q (2 * i + 1) b) (h : h6_bt K a b r) : h6_min K Q q i r := by
  obtain ⟨h1, h2, h3⟩ := h
  have up1 : ∀ x, h6_sub (2 * i) x → h6_sub i x := fun x hx => by
    have := h6_sub_up hx; rwa [(by omega : 2 * i / 2 = i)] at this
  have up2 : ∀ x, h6_sub (2 * i + 1) x → h6_sub i x := fun x hx => by
    have := h6_sub_up hx; rwa [(by omega : (2 * i + 1) / 2 = i)] at this
  rcases ha with ⟨a1, a2⟩ | ⟨a1, a2, a3, a4⟩ <;> rcases hb with ⟨b1, b2⟩ | ⟨b1, b2, b3, b4⟩
  · refine Or.inl ⟨by rw [h1 a1]; exact b1, fun x hx s => ?_⟩
    rcases h6_sub_dn hi s with s | s
    · exact a2 x hx s
    · exact b2 x hx s
  · rw [h1 a1]
    refine Or.inr ⟨b1, up2 _ b2, b3, fun x hx s => ?_⟩
    rcases h6_sub_dn hi s with s | s
    · exact fun e => absurd e (a2 x hx s)
    · exact b4 x hx s
  · rw [h2 (by omega) b1]
    refine Or.inr ⟨a1, up1 _ a2, a3, fun x hx s => ?_⟩
    rcases h6_sub_dn hi s with s | s
    · exact a4 x hx s
    · exact fun e => absurd e (b2 x hx s)
  · have := h3 (by omega) (by omega)
    by_cases c : hs_bef K a b
    · rw [this.1 c]
      refine Or.inr ⟨a1, up1 _ a2, a3, fun x hx s e n => ?_⟩
      rcases h6_sub_dn hi s with s | s
      · exact a4 x hx s e n
      · by_cases xb : x = b
        · rw [xb]; exact c
        · exact hs_bef_tr c (b4 x hx s e xb)
    · rw [this.2 c]
      refine Or.inr ⟨b1, up2 _ b2, b3, fun x hx s e n => ?_⟩
      rcases h6_sub_dn hi s with s | s
      · by_cases ab : a = b
        · rw [ab] at a4; exact a4 x hx s e n
        · by_cases xa : x = a
          · rw [xa]; exact hs_bef_tot c ab
          · exact hs_bef_tr (hs_bef_tot c ab) (a4 x hx s e xa)
      · exact b4 x hx s e n
section
variable {st : Nat} {K A : Nat → Int32} {sz hp pl pr pc pn pb rF rI rN rU rC rX rP rD gF gC gL gR gP gD gM gO lr ll lR lp lk wn sk : Nat → Nat}
theorem h6_better {post : Int32 → Prop} {a' b' : Int32} (a b : Nat) (ha : a ≤ 24) (hb : b ≤ 24) (h : ∀ r, h6_bt K a b r → r ≤ 24 → post (nI r)) (ea : a' = nI a) (eb : b' = nI b) : wpX_better post ((nI st), K, A, (hs_A sz), (hs_A hp), (hs_A pl), (hs_A pr), (hs_A pc), (hs_A pn), (hs_A pb), (hs_A rF), (hs_A rI), (hs_A rN), (hs_A rU), (hs_A rC), (hs_A rX), (hs_A rP), (hs_A rD), (hs_A gF), (hs_A gC), (hs_A gL), (hs_A gR), (hs_A gP), (hs_A gD), (hs_A gM), (hs_A gO), (hs_A lr), (hs_A ll), (hs_A lR), (hs_A lp), (hs_A lk), (hs_A wn), (hs_A sk)) a' b' := by
  subst ea; subst eb
  unfold wpX_better
  dsimp only
  refine pk_eq a 24 (fun e => ?_) (fun e => pk_eq b 24 (fun e' => ?_) (fun e' => ?_))
  · unfold wX_better_12
    exact pk_eq a 24 (fun _ => h b ⟨fun _ => rfl, fun n => absurd e n, fun n => absurd e n⟩ hb) (fun n => absurd e n)
  · unfold wX_better_12
    exact pk_eq a 24 (fun n => absurd n e) (fun _ => h a ⟨fun n => absurd n e, fun _ _ => rfl, fun _ n => absurd e' n⟩ ha)
  · exact hs_cbb a b (by omega) (by omega) (fun c => h a ⟨fun n => absurd n e, fun _ n => absurd n e', fun _ _ => ⟨fun _ => rfl, fun n => absurd c n⟩⟩ ha) (fun c => h b ⟨fun n => absurd n e, fun _ n => absurd n e', fun _ _ => ⟨fun n => absurd n c, fun _ => rfl⟩⟩ hb)
theorem h6_loop {post : SX → Prop} {Q : Nat → Nat} {q x : Nat} (hq : q < 4) (hx : x < 24) (hpo : ∀ wn', h6_I K Q wn' → post ((nI st), K, A, (hs_A sz), (hs_A hp), (hs_A pl), (hs_A pr), (hs_A pc), (hs_A pn), (hs_A pb), (hs_A rF), (hs_A rI), (hs_A rN), (hs_A rU), (hs_A rC), (hs_A rX), (hs_A rP), (hs_A rD), (hs_A gF), (hs_A gC), (hs_A gL), (hs_A gR), (hs_A gP), (hs_A gD), (hs_A gM), (hs_A gO), (hs_A lr), (hs_A ll), (hs_A lR), (hs_A lp), (hs_A lk), (hs_A wn'), (hs_A sk))) : ∀ (n i : Nat) (wn : Nat → Nat), i < n → 1 ≤ i → i < 64 → h6_sub i x → (∀ q', q' < 4 → ∀ j, 1 ≤ j → j < 64 → ¬ (q' = q ∧ h6_sub j x ∧ j < i) → h6_min K Q q' j (wn (q' * 64 + j))) → wX_play_29 post (nI q) (nI st) n (nI i) K A (hs_A sz) (hs_A hp) (hs_A pl) (hs_A pr) (hs_A pc) (hs_A pn) (hs_A pb) (hs_A rF) (hs_A rI) (hs_A rN) (hs_A rU) (hs_A rC) (hs_A rX) (hs_A rP) (hs_A rD) (hs_A gF) (hs_A gC) (hs_A gL) (hs_A gR) (hs_A gP) (hs_A gD) (hs_A gM) (hs_A gO) (hs_A lr) (hs_A ll) (hs_A lR) (hs_A lp) (hs_A lk) (hs_A wn) (hs_A sk) := by
  intro n
  induction n with
  | zero => intro i wn h; omega
  | succ n ih =>
    intro i wn hn h1 h64 hs hI
    rw [wX_play_29]
    refine pk_le i 1 (fun e => ?_) (fun e => ?_)
    · exact hpo wn (fun q' hq' j hj1 hj2 => hI q' hq' j hj1 hj2 (by omega))
    · have b1 := hI q hq (2 * (i / 2)) (by omega) (by omega)
      have b2 := hI q hq (2 * (i / 2) + 1) (by omega) (by omega)
      have e1 : nI q * 64 + 2 * nI (i / 2) = nI (q * 64 + 2 * (i / 2)) := by rw [hs_2, hs_q64]
      have e2 : nI q * 64 + 2 * nI (i / 2) + 1 = nI (q * 64 + (2 * (i / 2) + 1)) := by rw [e1, nI_1, Nat.add_assoc]
      have c1 := b1 (fun ⟨_, s, l⟩ => by
        have := h6_sub_2 hs s
        omega)
      have c2 := b2 (fun ⟨_, s, l⟩ => by
        have := h6_sub_2 hs s
        omega)
      refine ⟨by decide, nm_r (hs_h (i := i) (by omega)) ?_⟩
      refine hs_in (q * 64 + 2 * (i / 2)) (by omega) (hs_in (q * 64 + (2 * (i / 2) + 1)) (by omega) ?_ e2) e1
      refine h6_better _ _ (h6_le c1) (h6_le c2) (fun r hr hr24 => ?_) (hs_rd _ (by omega) e1) (hs_rd _ (by omega) e2)
      have c3 := h6_min_bt (by omega) c1 c2 hr
      refine hs_w (q * 64 + i / 2) r (by omega) (by omega) ?_ (hs_q64 _ _)
      refine ih (i / 2) _ (by omega) (by omega) (by omega) (h6_sub_up hs) (fun q' hq' j hj1 hj2 hn' => ?_)
      by_cases c : q' = q ∧ j = i / 2
      · rw [c.1, c.2, hs_ss]; exact c3
      · rw [hs_sn (by omega)]
        refine hI q' hq' j hj1 hj2 (fun ⟨a1, a2, a3⟩ => ?_)
        have := h6_sub_2 hs a2
        exact hn' ⟨a1, a2, by omega⟩
theorem h6_play {post : SX → Prop} {Q : Nat → Nat} {q x b : Nat} (hq : q < 4) (hx : x < 24) (hb : b < 2) (hQ : b = 1 ↔ Q x = q + 1) (hI : ∀ q', q' < 4 → ∀ j, 1 ≤ j → j < 64 → ¬ (q' = q ∧ h6_sub j x) → h6_min K Q q' j (wn (q' * 64 + j))) (hpo : ∀ wn', h6_I K Q wn' → post ((nI st), K, A, (hs_A sz), (hs_A hp), (hs_A pl), (hs_A pr), (hs_A pc), (hs_A pn), (hs_A pb), (hs_A rF), (hs_A rI), (hs_A rN), (hs_A rU), (hs_A rC), (hs_A rX), (hs_A rP), (hs_A rD), (hs_A gF), (hs_A gC), (hs_A gL), (hs_A gR), (hs_A gP), (hs_A gD), (hs_A gM), (hs_A gO), (hs_A lr), (hs_A ll), (hs_A lR), (hs_A lp), (hs_A lk), (hs_A wn'), (hs_A sk))) : wpX_play post ((nI st), K, A, (hs_A sz), (hs_A hp), (hs_A pl), (hs_A pr), (hs_A pc), (hs_A pn), (hs_A pb), (hs_A rF), (hs_A rI), (hs_A rN), (hs_A rU), (hs_A rC), (hs_A rX), (hs_A rP), (hs_A rD), (hs_A gF), (hs_A gC), (hs_A gL), (hs_A gR), (hs_A gP), (hs_A gD), (hs_A gM), (hs_A gO), (hs_A lr), (hs_A ll), (hs_A lR), (hs_A lp), (hs_A lk), (hs_A wn), (hs_A sk)) (nI q) (nI x) (nI b) := by
  unfold wpX_play
  dsimp only
  refine nm_r (e' := nI (32 + x)) (nI_add 32 x) ?_
  have leaf : ∀ r, h6_min K Q q (32 + x) r → ∀ q', q' < 4 → ∀ j, 1 ≤ j → j < 64 → ¬ (q' = q ∧ h6_sub j x ∧ j < 32 + x) → h6_min K Q q' j (hs_s wn (q * 64 + (32 + x)) r (q' * 64 + j)) := by
    intro r hr q' hq' j hj1 hj2 hn
    by_cases c : q' = q ∧ j = 32 + x
    · rw [c.1, c.2, hs_ss]; exact hr
    · rw [hs_sn (by omega)]
      refine hI q' hq' j hj1 hj2 (fun ⟨a1, a2⟩ => hn ⟨a1, a2, ?_⟩)
      obtain ⟨k, e⟩ := a2
      have : (32 + x) / 2 ^ k ≤ 32 + x := Nat.div_le_self _ _
      omega
  have s0 : h6_sub (32 + x) x := (h6_sub_l (by omega)).2 rfl
  refine pk_eq b 0 (fun e => ?_) (fun e => ?_)
  · refine hs_w (q * 64 + (32 + x)) 24 (by omega) (by omega) ⟨_, h6_loop hq hx hpo _ (32 + x) _ (Nat.lt_succ_self _) (by omega) (by omega) s0 (leaf 24 ?_)⟩ (hs_q64 _ _)
    refine Or.inl ⟨rfl, fun y hy s => ?_⟩
    rw [(h6_sub_l (by omega)).1 s]
    intro h; have := hQ.2 h; omega
  · refine hs_w (q * 64 + (32 + x)) x (by omega) (by omega) ⟨_, h6_loop hq hx hpo _ (32 + x) _ (Nat.lt_succ_self _) (by omega) (by omega) s0 (leaf x ?_)⟩ (hs_q64 _ _)
    refine Or.inr ⟨hx, s0, hQ.1 (by omega), fun y hy s _ n => ?_⟩
    exact absurd ((h6_sub_l (by omega)).1 s) n
end
/-- what play asks, from the whole: x alone has changed, and only in queue q -/
theorem h6_pre {K K' : Nat → Int32} {Q Q' wn : Nat → Nat} {q x : Nat} (h : h6_I K Q wn) (hK : ∀ j, j ≠ x → K' j = K j) (hQ : ∀ j, j ≠ x → Q' j = Q j) (h0 : ∀ q', q' < 4 → q' ≠ q → Q x ≠ q' + 1 ∧ Q' x ≠ q' + 1) : ∀ q', q' < 4 → ∀ j, 1 ≤ j → j < 64 → ¬ (q' = q ∧ h6_sub j x) → h6_min K' Q' q' j (wn (q' * 64 + j)) := by
  intro q' hq' j hj1 hj2 hn
  have ok : ∀ y, h6_sub j y → Q y = q' + 1 → y ≠ x := by
    intro y s e n
    rw [n] at s e
    by_cases c : q' = q
    · exact hn ⟨c, s⟩
    · exact (h0 q' hq' c).1 e
  have ok' : ∀ y, h6_sub j y → Q' y = q' + 1 → y ≠ x := by
    intro y s e n
    rw [n] at s e
    by_cases c : q' = q
    · exact hn ⟨c, s⟩
    · exact (h0 q' hq' c).2 e
  rcases h q' hq' j hj1 hj2 with ⟨h1, h2⟩ | ⟨h1, h2, h3, h4⟩
  · refine Or.inl ⟨h1, fun y hy s e => ?_⟩
    exact h2 y hy s (by rw [← hQ y (ok' y s e)]; exact e)
  · have rx := ok _ h2 h3
    refine Or.inr ⟨h1, h2, by rw [hQ _ rx]; exact h3, fun y hy s e n => ?_⟩
    have yx := ok' y s e
    rw [hs_bef_same hK rx yx]
    exact h4 y hy s (by rw [← hQ y yx]; exact e) n
end
section
/-! engine 0: arrays -/
def h0_C (Q c hp pl : Nat → Nat) : Prop := ∀ q, q < 4 → c q ≤ 24 ∧ (∀ i, i < c q → hp (q * 24 + i) < 24 ∧ Q (hp (q * 24 + i)) = q + 1 ∧ pl (hp (q * 24 + i)) = i) ∧ (∀ x, x < 24 → Q x = q + 1 → pl x < c q ∧ hp (q * 24 + pl x) = x)
/-- order on every edge with a parent from lo on that does not touch i, and past i -/
def h0_N (K : Nat → Int32) (H : Nat → Nat) (n lo i : Nat) : Prop :=
  (∀ j, 0 < j → j < n → j ≠ i → (j - 1) / 2 ≠ i → lo ≤ (j - 1) / 2 → hs_bef K (H ((j - 1) / 2)) (H j)) ∧ (∀ j, 0 < j → j < n → (j - 1) / 2 = i → 0 < i → lo ≤ (i - 1) / 2 → hs_bef K (H ((i - 1) / 2)) (H j))
def h0_U (K : Nat → Int32) (H : Nat → Nat) (n i : Nat) : Prop :=
  (∀ j, 0 < j → j < n → j ≠ i → hs_bef K (H ((j - 1) / 2)) (H j)) ∧ (∀ j, 0 < j → j < n → (j - 1) / 2 = i → 0 < i → hs_bef K (H ((i - 1) / 2)) (H j))
def h0_O (K : Nat → Int32) (H : Nat → Nat) (n : Nat) : Prop := ∀ j, 0 < j → j < n → hs_bef K (H ((j - 1) / 2)) (H j)
def h0_v (hp : Nat → Nat) (q : Nat) : Nat → Nat := fun i => hp (q * 24 + i)
def h0_sw (H : Nat → Nat) (i p : Nat) : Nat → Nat := hs_s (hs_s H i (H p)) p (H i)
def h0_I (K : Nat → Int32) (Q c hp pl : Nat → Nat) : Prop := h0_C Q c hp pl ∧ ∀ q, q < 4 → h0_O K (h0_v hp q) (c q)
theorem h0_sw1 {H : Nat → Nat} {i p : Nat} (h : i ≠ p) : h0_sw H i p i = H p := by
  unfold h0_sw; rw [hs_sn h, hs_ss]
theorem h0_sw2 {H : Nat → Nat} {i p : Nat} : h0_sw H i p p = H i := by
  unfold h0_sw; rw [hs_ss]
theorem h0_sw3 {H : Nat → Nat} {i p j : Nat} (h : j ≠ i) (h' : j ≠ p) : h0_sw H i p j = H j := by
  unfold h0_sw; rw [hs_sn h', hs_sn h]
theorem h0_rise_s {K : Nat → Int32} {H : Nat → Nat} {n i : Nat} (h : h0_U K H n i) (hi : 0 < i) (hn : i < n) (hb : hs_bef K (H i) (H ((i - 1) / 2))) : h0_U K (h0_sw H i ((i - 1) / 2)) n ((i - 1) / 2) := by
  obtain ⟨h1, h2⟩ := h
  have ne : i ≠ (i - 1) / 2 := by omega
  constructor
  · intro j hj hjn hjp
    by_cases ji : j = i
    · rw [ji, h0_sw1 ne, h0_sw2]; exact hb
    · rw [h0_sw3 (j := j) ji hjp]
      by_cases c1 : (j - 1) / 2 = i
      · rw [c1, h0_sw1 ne]; exact h2 j hj hjn c1 hi
      · by_cases c2 : (j - 1) / 2 = (i - 1) / 2
        · rw [c2, h0_sw2]
          exact hs_bef_tr hb (c2 ▸ h1 j hj hjn ji)
        · rw [h0_sw3 c1 c2]; exact h1 j hj hjn ji
  · intro j hj hjn hjp hp
    have e1 : h0_sw H i ((i - 1) / 2) (((i - 1) / 2 - 1) / 2) = H (((i - 1) / 2 - 1) / 2) := h0_sw3 (by omega) (by omega)
    have e2 := h1 ((i - 1) / 2) hp (by omega) (by omega)
    rw [e1]
    by_cases ji : j = i
    · rw [ji, h0_sw1 ne]; exact e2
    · rw [h0_sw3 (j := j) ji (by omega)]
      exact hs_bef_tr e2 (hjp ▸ h1 j hj hjn ji)
theorem h0_rise_e {K : Nat → Int32} {H : Nat → Nat} {n i : Nat} (h : h0_U K H n i) (hb : i = 0 ∨ hs_bef K (H ((i - 1) / 2)) (H i)) : h0_O K H n := by
  intro j hj hjn
  by_cases ji : j = i
  · rw [ji]; rcases hb with hb | hb
    · omega
    · exact hb
  · exact h.1 j hj hjn ji
theorem h0_sink_s {K : Nat → Int32} {H : Nat → Nat} {n lo i c : Nat} (h : h0_N K H n lo i) (hl : lo ≤ i) (hc : (c - 1) / 2 = i) (h0 : 0 < c) (hcn : c < n) (hm : ∀ j, 0 < j → j < n → (j - 1) / 2 = i → j ≠ c → hs_bef K (H c) (H j)) : h0_N K (h0_sw H i c) n lo c := by
  obtain ⟨h1, h2⟩ := h
  have ne : i ≠ c := by omega
  constructor
  · intro j hj hjn hjc hpc hlo
    by_cases ji : j = i
    · have e : h0_sw H i c ((j - 1) / 2) = H ((j - 1) / 2) := h0_sw3 (by omega) (by omega)
      rw [e, ji, h0_sw1 ne]
      exact h2 c h0 hcn hc (by omega) (by rw [← ji]; exact hlo)
    · rw [h0_sw3 (j := j) ji hjc]
      by_cases c1 : (j - 1) / 2 = i
      · rw [c1, h0_sw1 ne]; exact hm j hj hjn c1 hjc
      · rw [h0_sw3 c1 hpc]; exact h1 j hj hjn ji c1 hlo
  · intro j hj hjn hjc hc0 hlo
    have e : h0_sw H i c j = H j := h0_sw3 (by omega) (by omega)
    rw [e, hc, h0_sw1 ne]
    have := h1 j hj hjn (by omega) (by omega) (by omega)
    rwa [hjc] at this
theorem h0_C_sw {Q c hp pl : Nat → Nat} {q i p : Nat} (h : h0_C Q c hp pl) (hq : q < 4) (hi : i < c q) (hp' : p < c q) (hn : i ≠ p) : h0_C Q c (hs_s (hs_s hp (q * 24 + i) (hp (q * 24 + p))) (q * 24 + p) (hp (q * 24 + i))) (hs_s (hs_s pl (hp (q * 24 + p)) i) (hp (q * 24 + i)) p) := by
  have c24 := (h q hq).1
  obtain ⟨i1, i2, i3⟩ := (h q hq).2.1 i hi
  obtain ⟨p1, p2, p3⟩ := (h q hq).2.1 p hp'
  have nn : hp (q * 24 + i) ≠ hp (q * 24 + p) := by
    intro e; rw [e] at i3; omega
  intro q' hq'
  obtain ⟨a, b, d⟩ := h q' hq'
  refine ⟨a, fun j hj => ?_, fun x hx hQ => ?_⟩
  · by_cases c1 : q' = q ∧ j = p
    · rw [c1.1, c1.2, hs_ss, hs_ss]; exact ⟨i1, i2, rfl⟩
    · rw [hs_sn (by omega : q' * 24 + j ≠ q * 24 + p)]
      by_cases c2 : q' = q ∧ j = i
      · rw [c2.1, c2.2, hs_ss, hs_sn (Ne.symm nn), hs_ss]; exact ⟨p1, p2, rfl⟩
      · rw [hs_sn (by omega : q' * 24 + j ≠ q * 24 + i)]
        obtain ⟨b1, b2, b3⟩ := b j hj
        have n1 : hp (q' * 24 + j) ≠ hp (q * 24 + i) := by
          intro e; rw [e] at b2 b3; omega
        have n2 : hp (q' * 24 + j) ≠ hp (q * 24 + p) := by
          intro e; rw [e] at b2 b3; omega
        rw [hs_sn n1, hs_sn n2]; exact ⟨b1, b2, b3⟩
  · obtain ⟨d1, d2⟩ := d x hx hQ
    by_cases c1 : x = hp (q * 24 + i)
    · rw [c1] at hQ ⊢
      have : q' = q := by omega
      rw [hs_ss, this, hs_ss]; exact ⟨hp', rfl⟩
    · rw [hs_sn c1]
      by_cases c2 : x = hp (q * 24 + p)
      · rw [c2] at hQ ⊢
        have : q' = q := by omega
        rw [hs_ss, this, hs_sn (by omega), hs_ss]; exact ⟨hi, rfl⟩
      · rw [hs_sn c2]
        have n1 : q' * 24 + pl x ≠ q * 24 + i := by
          intro e; rw [e] at d2; exact c1 d2.symm
        have n2 : q' * 24 + pl x ≠ q * 24 + p := by
          intro e; rw [e] at d2; exact c2 d2.symm
        rw [hs_sn n2, hs_sn n1]; exact ⟨d1, d2⟩
theorem h0_v_sw {hp : Nat → Nat} {q i p : Nat} : h0_v (hs_s (hs_s hp (q * 24 + i) (hp (q * 24 + p))) (q * 24 + p) (hp (q * 24 + i))) q = h0_sw (h0_v hp q) i p := by
  funext j; unfold h0_v h0_sw hs_s
  by_cases c1 : j = p
  · rw [if_pos (by omega), if_pos c1]
  · rw [if_neg (by omega), if_neg c1]
    by_cases c2 : j = i
    · rw [if_pos (by omega), if_pos c2]
    · rw [if_neg (by omega), if_neg c2]
/-- what stands in the other queues' places -/
theorem h0_v_o {hp : Nat → Nat} {q q' k v n : Nat} {K : Nat → Int32} (hk : k < 24) (hn : n ≤ 24) (hq : q' ≠ q) (h : h0_O K (h0_v hp q') n) : h0_O K (h0_v (hs_s hp (q * 24 + k) v) q') n := by
  intro j hj hjn
  have := h j hj hjn
  unfold h0_v at *
  rw [hs_sn (by omega), hs_sn (by omega)]; exact this
theorem h0_s2 {f : Nat → Nat} {k u v : Nat} : hs_s (hs_s f k u) k v = hs_s f k v := by
  funext j; unfold hs_s; split <;> rfl
theorem h0_sc {f : Nat → Nat} {k l u v : Nat} (h : k ≠ l) : hs_s (hs_s f k u) l v = hs_s (hs_s f l v) k u := by
  funext j; unfold hs_s
  by_cases a : j = l
  · rw [if_pos a, if_neg (by omega), if_pos a]
  · rw [if_neg a, if_neg a]
section
variable {st : Nat} {K A : Nat → Int32} {sz hp pl pr pc pn pb rF rI rN rU rC rX rP rD gF gC gL gR gP gD gM gO lr ll lR lp lk wn sk : Nat → Nat}
theorem h0_set {post : SX → Prop} {a b x' : Int32} (q i x : Nat) (hq : q < 4) (hi : i < 24) (hx : x < 24) (h : post ((nI st), K, A, (hs_A sz), (hs_A (hs_s hp (q * 24 + i) x)), (hs_A (hs_s pl x i)), (hs_A pr), (hs_A pc), (hs_A pn), (hs_A pb), (hs_A rF), (hs_A rI), (hs_A rN), (hs_A rU), (hs_A rC), (hs_A rX), (hs_A rP), (hs_A rD), (hs_A gF), (hs_A gC), (hs_A gL), (hs_A gR), (hs_A gP), (hs_A gD), (hs_A gM), (hs_A gO), (hs_A lr), (hs_A ll), (hs_A lR), (hs_A lp), (hs_A lk), (hs_A wn), (hs_A sk))) (ea : a = nI q := by rfl) (eb : b = nI i := by rfl) (ex : x' = nI x := by rfl) : wpX_setPlace post ((nI st), K, A, (hs_A sz), (hs_A hp), (hs_A pl), (hs_A pr), (hs_A pc), (hs_A pn), (hs_A pb), (hs_A rF), (hs_A rI), (hs_A rN), (hs_A rU), (hs_A rC), (hs_A rX), (hs_A rP), (hs_A rD), (hs_A gF), (hs_A gC), (hs_A gL), (hs_A gR), (hs_A gP), (hs_A gD), (hs_A gM), (hs_A gO), (hs_A lr), (hs_A ll), (hs_A lR), (hs_A lp), (hs_A lk), (hs_A wn), (hs_A sk)) a b x' := by
  subst ea; subst eb; subst ex
  unfold wpX_setPlace
  dsimp only
  exact hs_w (q * 24 + i) x (by omega) (by omega) (hs_w x i (by omega) (by omega) h) (hs_q24 q i)
theorem h0_loopR {post : SX → Prop} {Q c : Nat → Nat} {q x : Nat} (hq : q < 4) (hp24 : x < 24) (hpost : ∀ hp' pl', h0_I K Q c hp' pl' → post ((nI st), K, A, (hs_A sz), (hs_A hp'), (hs_A pl'), (hs_A pr), (hs_A pc), (hs_A pn), (hs_A pb), (hs_A rF), (hs_A rI), (hs_A rN), (hs_A rU), (hs_A rC), (hs_A rX), (hs_A rP), (hs_A rD), (hs_A gF), (hs_A gC), (hs_A gL), (hs_A gR), (hs_A gP), (hs_A gD), (hs_A gM), (hs_A gO), (hs_A lr), (hs_A ll), (hs_A lR), (hs_A lp), (hs_A lk), (hs_A wn), (hs_A sk))) : ∀ (n i : Nat) (hp pl : Nat → Nat), i < n → i < c q → h0_C Q c (hs_s hp (q * 24 + i) x) (hs_s pl x i) → h0_U K (h0_v (hs_s hp (q * 24 + i) x) q) (c q) i → (∀ q', q' < 4 → q' ≠ q → h0_O K (h0_v (hs_s hp (q * 24 + i) x) q') (c q')) → wX_rise_15 post (nI q) (nI x) n (nI i) (nI st) K A (hs_A sz) (hs_A hp) (hs_A pl) (hs_A pr) (hs_A pc) (hs_A pn) (hs_A pb) (hs_A rF) (hs_A rI) (hs_A rN) (hs_A rU) (hs_A rC) (hs_A rX) (hs_A rP) (hs_A rD) (hs_A gF) (hs_A gC) (hs_A gL) (hs_A gR) (hs_A gP) (hs_A gD) (hs_A gM) (hs_A gO) (hs_A lr) (hs_A ll) (hs_A lR) (hs_A lp) (hs_A lk) (hs_A wn) (hs_A sk) := by
  intro n
  induction n with
  | zero => intro i hp pl h; omega
  | succ n ih =>
    intro i hp pl hn hi hC hU hO
    have c24 := (hC q hq).1
    have fin : (i = 0 ∨ hs_bef K (h0_v (hs_s hp (q * 24 + i) x) q ((i - 1) / 2)) (h0_v (hs_s hp (q * 24 + i) x) q i)) → wX_rise_73 post (nI q) (nI i) (nI x) (nI st) K A (hs_A sz) (hs_A hp) (hs_A pl) (hs_A pr) (hs_A pc) (hs_A pn) (hs_A pb) (hs_A rF) (hs_A rI) (hs_A rN) (hs_A rU) (hs_A rC) (hs_A rX) (hs_A rP) (hs_A rD) (hs_A gF) (hs_A gC) (hs_A gL) (hs_A gR) (hs_A gP) (hs_A gD) (hs_A gM) (hs_A gO) (hs_A lr) (hs_A ll) (hs_A lR) (hs_A lp) (hs_A lk) (hs_A wn) (hs_A sk) := by
      intro hb
      unfold wX_rise_73
      refine h0_set q i x hq (by omega) hp24 ?_
      refine hpost _ _ ⟨hC, fun q' hq' => ?_⟩
      by_cases e : q' = q
      · rw [e]; exact h0_rise_e hU hb
      · exact hO q' hq' e
    rw [wX_rise_15]
    refine pk_le i 0 (fun e => fin (Or.inl (by omega))) (fun e => ?_)
    have e1 : nI q * 24 + (nI i - 1) / 2 = nI (q * 24 + (i - 1) / 2) := by
      obtain ⟨j, rfl⟩ : ∃ j, i = j + 1 := ⟨i - 1, by omega⟩
      rw [nI_pred, hs_h (by omega), hs_q24]; rfl
    have e2 : (nI i - 1) / 2 = nI ((i - 1) / 2) := by
      obtain ⟨j, rfl⟩ : ∃ j, i = j + 1 := ⟨i - 1, by omega⟩
      rw [nI_pred, hs_h (by omega)]; rfl
    have v1 : h0_v (hs_s hp (q * 24 + i) x) q i = x := by unfold h0_v; rw [hs_ss]
    have v2 : h0_v (hs_s hp (q * 24 + i) x) q ((i - 1) / 2) = hp (q * 24 + (i - 1) / 2) := by unfold h0_v; rw [hs_sn (by omega)]
    have y24 := ((hC q hq).2.1 ((i - 1) / 2) (by omega)).1
    rw [hs_sn (by omega)] at y24
    refine ⟨by decide, hs_in (q * 24 + (i - 1) / 2) (by omega) ?_ e1⟩
    refine hs_cbb x (hp (q * 24 + (i - 1) / 2)) hp24 y24 (fun hb => ?_) (fun hb => fin (Or.inr ?_)) rfl (hs_rd _ (by omega) e1)
    · refine ⟨by decide, hs_in (q * 24 + (i - 1) / 2) (by omega) ?_ e1⟩
      refine h0_set q i (hp (q * 24 + (i - 1) / 2)) hq (by omega) y24 ?_ rfl rfl (hs_rd _ (by omega) e1)
      refine ⟨by decide, nm_r e2 ?_⟩
      have s1 : hs_s (hs_s hp (q * 24 + i) (hp (q * 24 + (i - 1) / 2))) (q * 24 + (i - 1) / 2) x = hs_s (hs_s (hs_s hp (q * 24 + i) x) (q * 24 + i) ((hs_s hp (q * 24 + i) x) (q * 24 + (i - 1) / 2))) (q * 24 + (i - 1) / 2) ((hs_s hp (q * 24 + i) x) (q * 24 + i)) := by
        rw [hs_ss, hs_sn (by omega : q * 24 + (i - 1) / 2 ≠ q * 24 + i), h0_s2]
      have nx : hp (q * 24 + (i - 1) / 2) ≠ x := by
        intro e; rw [e] at hb; exact hs_bef_irr hb
      have s2 : hs_s (hs_s pl (hp (q * 24 + (i - 1) / 2)) i) x ((i - 1) / 2) = hs_s (hs_s (hs_s pl x i) ((hs_s hp (q * 24 + i) x) (q * 24 + (i - 1) / 2)) i) ((hs_s hp (q * 24 + i) x) (q * 24 + i)) ((i - 1) / 2) := by
        rw [hs_ss, hs_sn (by omega : q * 24 + (i - 1) / 2 ≠ q * 24 + i), h0_sc (Ne.symm nx), h0_s2]
      refine ih ((i - 1) / 2) _ _ (by omega) (by omega) ?_ ?_ (fun q' hq' ne => ?_)
      · rw [s1, s2]
        exact h0_C_sw hC hq hi (by omega) (by omega)
      · rw [s1, h0_v_sw]
        exact h0_rise_s hU (by omega) hi (by rw [v1, v2]; exact hb)
      · rw [s1]
        exact h0_v_o (by omega) ((hC q' hq').1) ne (h0_v_o (by omega) ((hC q' hq').1) ne (hO q' hq' ne))
    · rw [v1, v2]
      refine hs_bef_tot hb (fun e => ?_)
      have p1 := ((hC q hq).2.1 ((i - 1) / 2) (by omega)).2.2
      rw [hs_sn (by omega : q * 24 + (i - 1) / 2 ≠ q * 24 + i), ← e, hs_ss] at p1
      omega
theorem h0_rise {post : SX → Prop} {Q c : Nat → Nat} {a b : Int32} (q i : Nat) (hq : q < 4) (hi : i < c q) (hC : h0_C Q c hp pl) (hU : h0_U K (h0_v hp q) (c q) i) (hO : ∀ q', q' < 4 → q' ≠ q → h0_O K (h0_v hp q') (c q')) (hpost : ∀ hp' pl', h0_I K Q c hp' pl' → post ((nI st), K, A, (hs_A sz), (hs_A hp'), (hs_A pl'), (hs_A pr), (hs_A pc), (hs_A pn), (hs_A pb), (hs_A rF), (hs_A rI), (hs_A rN), (hs_A rU), (hs_A rC), (hs_A rX), (hs_A rP), (hs_A rD), (hs_A gF), (hs_A gC), (hs_A gL), (hs_A gR), (hs_A gP), (hs_A gD), (hs_A gM), (hs_A gO), (hs_A lr), (hs_A ll), (hs_A lR), (hs_A lp), (hs_A lk), (hs_A wn), (hs_A sk))) (ea : a = nI q := by rfl) (eb : b = nI i := by rfl) : wpX_rise post ((nI st), K, A, (hs_A sz), (hs_A hp), (hs_A pl), (hs_A pr), (hs_A pc), (hs_A pn), (hs_A pb), (hs_A rF), (hs_A rI), (hs_A rN), (hs_A rU), (hs_A rC), (hs_A rX), (hs_A rP), (hs_A rD), (hs_A gF), (hs_A gC), (hs_A gL), (hs_A gR), (hs_A gP), (hs_A gD), (hs_A gM), (hs_A gO), (hs_A lr), (hs_A ll), (hs_A lR), (hs_A lp), (hs_A lk), (hs_A wn), (hs_A sk)) a b := by
  subst ea; subst eb
  unfold wpX_rise
  dsimp only
  have c24 := (hC q hq).1
  obtain ⟨x1, x2, x3⟩ := (hC q hq).2.1 i hi
  refine hs_r (q * 24 + i) (by omega) ⟨_, h0_loopR hq x1 hpost _ i hp pl (Nat.lt_succ_self _) hi ?_ ?_ ?_⟩ (hs_q24 q i)
  · rw [hs_self]
    have : hs_s pl (hp (q * 24 + i)) i = pl := by
      funext j; unfold hs_s; split
      · rename_i e; rw [e, x3]
      · rfl
    rw [this]; exact hC
  · rw [hs_self]; exact hU
  · rw [hs_self]; exact hO
end
end
section
/-! engine 0: sinking -/
/-- what sinking gives: all edges but the one above i -/
def h0_E (K : Nat → Int32) (H : Nat → Nat) (n lo s i : Nat) : Prop :=
  (∀ j, 0 < j → j < n → j ≠ i → lo ≤ (j - 1) / 2 → hs_bef K (H ((j - 1) / 2)) (H j)) ∧ (∀ j, 0 < j → j < n → (j - 1) / 2 = i → 0 < i → lo ≤ (i - 1) / 2 → hs_bef K (H ((i - 1) / 2)) (H j)) ∧ (i = s ∨ hs_bef K (H ((i - 1) / 2)) (H i))
section
variable {st : Nat} {K A : Nat → Int32} {sz hp pl pr pc pn pb rF rI rN rU rC rX rP rD gF gC gL gR gP gD gM gO lr ll lR lp lk wn sk : Nat → Nat}
theorem h0_loopS {post : SX → Prop} {Q c : Nat → Nat} {q x lo s : Nat} (hq : q < 4) (hx : x < 24) (hls : lo ≤ s) (hpost : ∀ hp' pl' i, s ≤ i → i < c q → h0_C Q c hp' pl' → hp' (q * 24 + i) = x → h0_E K (h0_v hp' q) (c q) lo s i → (∀ q', q' < 4 → q' ≠ q → h0_O K (h0_v hp' q') (c q')) → post ((nI st), K, A, (hs_A sz), (hs_A hp'), (hs_A pl'), (hs_A pr), (hs_A pc), (hs_A pn), (hs_A pb), (hs_A rF), (hs_A rI), (hs_A rN), (hs_A rU), (hs_A rC), (hs_A rX), (hs_A rP), (hs_A rD), (hs_A gF), (hs_A gC), (hs_A gL), (hs_A gR), (hs_A gP), (hs_A gD), (hs_A gM), (hs_A gO), (hs_A lr), (hs_A ll), (hs_A lR), (hs_A lp), (hs_A lk), (hs_A wn), (hs_A sk))) : ∀ (n i : Nat) (hp pl : Nat → Nat), c q + 1 < i + n → i < c q → s ≤ i → h0_C Q c (hs_s hp (q * 24 + i) x) (hs_s pl x i) → h0_N K (h0_v (hs_s hp (q * 24 + i) x) q) (c q) lo i → (i = s ∨ hs_bef K (h0_v (hs_s hp (q * 24 + i) x) q ((i - 1) / 2)) (h0_v (hs_s hp (q * 24 + i) x) q i)) → (∀ q', q' < 4 → q' ≠ q → h0_O K (h0_v (hs_s hp (q * 24 + i) x) q') (c q')) → wX_sink_20 post (nI q) (nI (c q)) (nI x) n (nI i) 1 (nI st) K A (hs_A sz) (hs_A hp) (hs_A pl) (hs_A pr) (hs_A pc) (hs_A pn) (hs_A pb) (hs_A rF) (hs_A rI) (hs_A rN) (hs_A rU) (hs_A rC) (hs_A rX) (hs_A rP) (hs_A rD) (hs_A gF) (hs_A gC) (hs_A gL) (hs_A gR) (hs_A gP) (hs_A gD) (hs_A gM) (hs_A gO) (hs_A lr) (hs_A ll) (hs_A lR) (hs_A lp) (hs_A lk) (hs_A wn) (hs_A sk) := by
  intro n
  induction n with
  | zero => intro i hp pl h hi; omega
  | succ n ih =>
    intro i hp pl hn hi hsi hC hN hup hO
    have c24 := (hC q hq).1
    have hl : lo ≤ i := by omega
    have v1 : h0_v (hs_s hp (q * 24 + i) x) q i = x := by unfold h0_v; rw [hs_ss]
    have vo : ∀ j, j ≠ i → h0_v (hs_s hp (q * 24 + i) x) q j = hp (q * 24 + j) := by
      intro j hj; unfold h0_v; rw [hs_sn (by omega)]
    have y24 : ∀ j, j ≠ i → j < c q → hp (q * 24 + j) < 24 := by
      intro j hj hjc
      have := ((hC q hq).2.1 j hjc).1
      rwa [hs_sn (by omega : q * 24 + j ≠ q * 24 + i)] at this
    have yne : ∀ j, j ≠ i → j < c q → hp (q * 24 + j) ≠ x := by
      intro j hj hjc e
      have := ((hC q hq).2.1 j hjc).2.2
      rw [hs_sn (by omega : q * 24 + j ≠ q * 24 + i), e, hs_ss] at this
      omega
    have fin : (∀ j, 0 < j → j < c q → (j - 1) / 2 = i → hs_bef K x (hp (q * 24 + j))) → wX_sink_138 post (nI q) (nI i) (nI x) (nI st) K A (hs_A sz) (hs_A hp) (hs_A pl) (hs_A pr) (hs_A pc) (hs_A pn) (hs_A pb) (hs_A rF) (hs_A rI) (hs_A rN) (hs_A rU) (hs_A rC) (hs_A rX) (hs_A rP) (hs_A rD) (hs_A gF) (hs_A gC) (hs_A gL) (hs_A gR) (hs_A gP) (hs_A gD) (hs_A gM) (hs_A gO) (hs_A lr) (hs_A ll) (hs_A lR) (hs_A lp) (hs_A lk) (hs_A wn) (hs_A sk) := by
      intro hd
      unfold wX_sink_138
      refine h0_set q i x hq (by omega) hx ?_
      refine hpost _ _ i hsi hi hC hs_ss ⟨fun j hj hjn hji hlo => ?_, hN.2, hup⟩ hO
      by_cases e : (j - 1) / 2 = i
      · rw [e, v1, vo j hji]; exact hd j hj hjn e
      · exact hN.1 j hj hjn hji e hlo
    have f0 : (∀ j, 0 < j → j < c q → (j - 1) / 2 = i → hs_bef K x (hp (q * 24 + j))) → wX_sink_20 post (nI q) (nI (c q)) (nI x) n (nI i) 0 (nI st) K A (hs_A sz) (hs_A hp) (hs_A pl) (hs_A pr) (hs_A pc) (hs_A pn) (hs_A pb) (hs_A rF) (hs_A rI) (hs_A rN) (hs_A rU) (hs_A rC) (hs_A rX) (hs_A rP) (hs_A rD) (hs_A gF) (hs_A gC) (hs_A gL) (hs_A gR) (hs_A gP) (hs_A gD) (hs_A gM) (hs_A gO) (hs_A lr) (hs_A ll) (hs_A lR) (hs_A lp) (hs_A lk) (hs_A wn) (hs_A sk) := by
      intro hd
      obtain ⟨m, rfl⟩ : ∃ m, n = m + 1 := ⟨n - 1, by omega⟩
      rw [wX_sink_20]
      exact br_t rfl (fin hd)
    have stp : ∀ d, (d - 1) / 2 = i → 0 < d → d < c q → (∀ j, 0 < j → j < c q → (j - 1) / 2 = i → j ≠ d → hs_bef K (hp (q * 24 + d)) (hp (q * 24 + j))) → wX_sink_87 post (wX_sink_20 post (nI q) (nI (c q)) (nI x) n) (nI q) (nI (c q)) (nI i) (nI x) (nI d) (nI st) K A (hs_A sz) (hs_A hp) (hs_A pl) (hs_A pr) (hs_A pc) (hs_A pn) (hs_A pb) (hs_A rF) (hs_A rI) (hs_A rN) (hs_A rU) (hs_A rC) (hs_A rX) (hs_A rP) (hs_A rD) (hs_A gF) (hs_A gC) (hs_A gL) (hs_A gR) (hs_A gP) (hs_A gD) (hs_A gM) (hs_A gO) (hs_A lr) (hs_A ll) (hs_A lR) (hs_A lp) (hs_A lk) (hs_A wn) (hs_A sk) := by
      intro d hd h0 hdc hm
      have di : d ≠ i := by omega
      unfold wX_sink_87
      refine hs_in (q * 24 + d) (by omega) ?_ (hs_q24 q d)
      refine hs_cbb (hp (q * 24 + d)) x (y24 d di hdc) hx (fun hb => ?_) (fun hb => f0 ?_) (hs_rd _ (by omega) (hs_q24 q d)) rfl
      · refine hs_in (q * 24 + d) (by omega) ?_ (hs_q24 q d)
        refine h0_set q i (hp (q * 24 + d)) hq (by omega) (y24 d di hdc) ?_ rfl rfl (hs_rd _ (by omega) (hs_q24 q d))
        have s1 : hs_s (hs_s hp (q * 24 + i) (hp (q * 24 + d))) (q * 24 + d) x = hs_s (hs_s (hs_s hp (q * 24 + i) x) (q * 24 + i) ((hs_s hp (q * 24 + i) x) (q * 24 + d))) (q * 24 + d) ((hs_s hp (q * 24 + i) x) (q * 24 + i)) := by
          rw [hs_ss, hs_sn (by omega : q * 24 + d ≠ q * 24 + i), h0_s2]
        have s2 : hs_s (hs_s pl (hp (q * 24 + d)) i) x d = hs_s (hs_s (hs_s pl x i) ((hs_s hp (q * 24 + i) x) (q * 24 + d)) i) ((hs_s hp (q * 24 + i) x) (q * 24 + i)) d := by
          rw [hs_ss, hs_sn (by omega : q * 24 + d ≠ q * 24 + i), h0_sc (Ne.symm (yne d di hdc)), h0_s2]
        refine ih d _ _ (by omega) hdc (by omega) ?_ ?_ (Or.inr ?_) (fun q' hq' ne => ?_)
        · rw [s1, s2]
          exact h0_C_sw hC hq hi hdc (Ne.symm di)
        · rw [s1, h0_v_sw]
          refine h0_sink_s hN hl hd h0 hdc (fun j hj hjn hji hjd => ?_)
          rw [vo d di, vo j (by omega)]; exact hm j hj hjn hji hjd
        · rw [s1, h0_v_sw, hd, h0_sw1 (Ne.symm di), h0_sw2, v1, vo d di]; exact hb
        · rw [s1]
          exact h0_v_o (by omega) ((hC q' hq').1) ne (h0_v_o (by omega) ((hC q' hq').1) ne (hO q' hq' ne))
      · have b1 := hs_bef_tot hb (yne d di hdc)
        intro j hj hjn hji
        by_cases e : j = d
        · rw [e]; exact b1
        · exact hs_bef_tr b1 (hm j hj hjn hji e)
    have e1 : 2 * nI i + 1 = nI (2 * i + 1) := by rw [hs_2, nI_1]
    rw [wX_sink_20]
    refine br_f (by decide) ?_
    refine pk_le (c q) (2 * i + 1) (fun e => fin (fun j hj hjn hji => by omega)) (fun e => ?_) rfl e1
    refine nm_r e1 ?_
    refine pk_le (c q) (2 * i + 1 + 1) (fun e' => ?_) (fun e' => ?_) rfl (nI_1 _)
    · refine stp (2 * i + 1) (by omega) (by omega) (by omega) (fun j hj hjn hji hjd => by omega)
    · have e2 : nI q * 24 + nI (2 * i + 1) + 1 = nI (q * 24 + (2 * i + 1 + 1)) := by rw [hs_q24, nI_1]; rfl
      refine hs_in (q * 24 + (2 * i + 1 + 1)) (by omega) (hs_in (q * 24 + (2 * i + 1)) (by omega) ?_ (hs_q24 _ _)) e2
      refine hs_cbb (hp (q * 24 + (2 * i + 1 + 1))) (hp (q * 24 + (2 * i + 1))) (y24 _ (by omega) (by omega)) (y24 _ (by omega) (by omega)) (fun hb => ?_) (fun hb => ?_) (hs_rd _ (by omega) e2) (hs_rd _ (by omega) (hs_q24 _ _))
      · refine nm_r (nI_1 _) ?_
        refine stp (2 * i + 1 + 1) (by omega) (by omega) (by omega) (fun j hj hjn hji hjd => ?_)
        rw [(by omega : j = 2 * i + 1)]; exact hb
      · refine stp (2 * i + 1) (by omega) (by omega) (by omega) (fun j hj hjn hji hjd => ?_)
        rw [(by omega : j = 2 * i + 1 + 1)]
        refine hs_bef_tot hb (fun e'' => ?_)
        have p1 := ((hC q hq).2.1 (2 * i + 1) (by omega)).2.2
        have p2 := ((hC q hq).2.1 (2 * i + 1 + 1) (by omega)).2.2
        rw [hs_sn (by omega : q * 24 + (2 * i + 1) ≠ q * 24 + i)] at p1
        rw [hs_sn (by omega : q * 24 + (2 * i + 1 + 1) ≠ q * 24 + i)] at p2
        rw [e''] at p2
        omega
theorem h0_sink {post : SX → Prop} {Q c : Nat → Nat} {a b d : Int32} (q i lo : Nat) (hq : q < 4) (hi : i < c q) (hlo : lo ≤ i) (hC : h0_C Q c hp pl) (hN : h0_N K (h0_v hp q) (c q) lo i) (hO : ∀ q', q' < 4 → q' ≠ q → h0_O K (h0_v hp q') (c q')) (hpost : ∀ hp' pl' i', i ≤ i' → i' < c q → h0_C Q c hp' pl' → hp' (q * 24 + i') = hp (q * 24 + i) → h0_E K (h0_v hp' q) (c q) lo i i' → (∀ q', q' < 4 → q' ≠ q → h0_O K (h0_v hp' q') (c q')) → post ((nI st), K, A, (hs_A sz), (hs_A hp'), (hs_A pl'), (hs_A pr), (hs_A pc), (hs_A pn), (hs_A pb), (hs_A rF), (hs_A rI), (hs_A rN), (hs_A rU), (hs_A rC), (hs_A rX), (hs_A rP), (hs_A rD), (hs_A gF), (hs_A gC), (hs_A gL), (hs_A gR), (hs_A gP), (hs_A gD), (hs_A gM), (hs_A gO), (hs_A lr), (hs_A ll), (hs_A lR), (hs_A lp), (hs_A lk), (hs_A wn), (hs_A sk))) (ea : a = nI q := by rfl) (eb : b = nI i := by rfl) (ed : d = nI (c q) := by rfl) : wpX_sink post ((nI st), K, A, (hs_A sz), (hs_A hp), (hs_A pl), (hs_A pr), (hs_A pc), (hs_A pn), (hs_A pb), (hs_A rF), (hs_A rI), (hs_A rN), (hs_A rU), (hs_A rC), (hs_A rX), (hs_A rP), (hs_A rD), (hs_A gF), (hs_A gC), (hs_A gL), (hs_A gR), (hs_A gP), (hs_A gD), (hs_A gM), (hs_A gO), (hs_A lr), (hs_A ll), (hs_A lR), (hs_A lp), (hs_A lk), (hs_A wn), (hs_A sk)) a b d := by
  subst ea; subst eb; subst ed
  unfold wpX_sink
  dsimp only
  have c24 := (hC q hq).1
  obtain ⟨x1, x2, x3⟩ := (hC q hq).2.1 i hi
  refine hs_r (q * 24 + i) (by omega) ⟨c q + 2, h0_loopS hq x1 hlo hpost _ i hp pl (by omega) hi (Nat.le_refl _) ?_ ?_ (Or.inl rfl) ?_⟩ (hs_q24 q i)
  · rw [hs_self]
    have : hs_s pl (hp (q * 24 + i)) i = pl := by
      funext j; unfold hs_s; split
      · rename_i e; rw [e, x3]
      · rfl
    rw [this]; exact hC
  · rw [hs_self]; exact hN
  · rw [hs_self]; exact hO
/-- addToArray -/
theorem h0_add {post : SX → Prop} {Q c : Nat → Nat} {a b d : Int32} (q x : Nat) (hq : q < 4) (hx : x < 24) (hI : h0_I K Q c hp pl) (hQx : Q x = 0) (hc : c q < 24) (hpost : ∀ hp' pl', h0_I K (hs_s Q x (q + 1)) (hs_s c q (c q + 1)) hp' pl' → post ((nI st), K, A, (hs_A sz), (hs_A hp'), (hs_A pl'), (hs_A pr), (hs_A pc), (hs_A pn), (hs_A pb), (hs_A rF), (hs_A rI), (hs_A rN), (hs_A rU), (hs_A rC), (hs_A rX), (hs_A rP), (hs_A rD), (hs_A gF), (hs_A gC), (hs_A gL), (hs_A gR), (hs_A gP), (hs_A gD), (hs_A gM), (hs_A gO), (hs_A lr), (hs_A ll), (hs_A lR), (hs_A lp), (hs_A lk), (hs_A wn), (hs_A sk))) (ea : a = nI q := by rfl) (eb : b = nI x := by rfl) (ed : d = nI (c q) := by rfl) : wpX_addToArray post ((nI st), K, A, (hs_A sz), (hs_A hp), (hs_A pl), (hs_A pr), (hs_A pc), (hs_A pn), (hs_A pb), (hs_A rF), (hs_A rI), (hs_A rN), (hs_A rU), (hs_A rC), (hs_A rX), (hs_A rP), (hs_A rD), (hs_A gF), (hs_A gC), (hs_A gL), (hs_A gR), (hs_A gP), (hs_A gD), (hs_A gM), (hs_A gO), (hs_A lr), (hs_A ll), (hs_A lR), (hs_A lp), (hs_A lk), (hs_A wn), (hs_A sk)) a b d := by
  subst ea; subst eb; subst ed
  unfold wpX_addToArray
  dsimp only
  obtain ⟨hC, hO⟩ := hI
  refine h0_set q (c q) x hq hc hx ?_
  dsimp only
  have oth : ∀ q', q' < 4 → q' ≠ q → h0_O K (h0_v (hs_s hp (q * 24 + c q) x) q') (hs_s c q (c q + 1) q') := by
    intro q' hq' ne
    rw [hs_sn ne]
    exact h0_v_o hc (hC q' hq').1 ne (hO q' hq')
  refine h0_rise (Q := hs_s Q x (q + 1)) (c := hs_s c q (c q + 1)) q (c q) hq (by rw [hs_ss]; omega) ?_ ?_ oth (fun hp' pl' h => hpost hp' pl' h)
  · intro q' hq'
    obtain ⟨h1, h2, h3⟩ := hC q' hq'
    by_cases e : q' = q
    · subst e
      rw [hs_ss]
      refine ⟨by omega, fun i hi => ?_, fun y hy hQ => ?_⟩
      · by_cases ei : i = c q'
        · rw [ei, hs_ss, hs_ss, hs_ss]; exact ⟨hx, rfl, rfl⟩
        · rw [hs_sn (by omega : q' * 24 + i ≠ q' * 24 + c q')]
          obtain ⟨k1, k2, k3⟩ := h2 i (by omega)
          have ne : hp (q' * 24 + i) ≠ x := by intro e; rw [e] at k2; omega
          rw [hs_sn ne, hs_sn ne]; exact ⟨k1, k2, k3⟩
      · by_cases ey : y = x
        · rw [ey, hs_ss, hs_ss]; exact ⟨by omega, rfl⟩
        · rw [hs_sn ey] at hQ
          obtain ⟨k1, k2⟩ := h3 y hy hQ
          rw [hs_sn ey, hs_sn (by omega)]; exact ⟨by omega, k2⟩
    · rw [hs_sn e]
      refine ⟨h1, fun i hi => ?_, fun y hy hQ => ?_⟩
      · rw [hs_sn (by omega : q' * 24 + i ≠ q * 24 + c q)]
        obtain ⟨k1, k2, k3⟩ := h2 i hi
        have ne : hp (q' * 24 + i) ≠ x := by intro e; rw [e] at k2; omega
        rw [hs_sn ne, hs_sn ne]; exact ⟨k1, k2, k3⟩
      · have ey : y ≠ x := by intro ey; rw [ey, hs_ss] at hQ; omega
        rw [hs_sn ey] at hQ
        obtain ⟨k1, k2⟩ := h3 y hy hQ
        rw [hs_sn ey, hs_sn (by omega)]; exact ⟨k1, k2⟩
  · rw [hs_ss]
    constructor
    · intro j hj hjn hji
      have := hO q hq j hj (by omega)
      unfold h0_v at *
      rw [hs_sn (by omega), hs_sn (by omega)]; exact this
    · intro j hj hjn hji; omega
/-- removeFromArray -/
theorem h0_rem {post : SX → Prop} {Q c : Nat → Nat} {a b d : Int32} (q x : Nat) (hq : q < 4) (hx : x < 24) (hI : h0_I K Q c hp pl) (hQx : Q x = q + 1) (hpost : ∀ hp' pl', h0_I K (hs_s Q x 0) (hs_s c q (c q - 1)) hp' pl' → post ((nI st), K, A, (hs_A sz), (hs_A hp'), (hs_A pl'), (hs_A pr), (hs_A pc), (hs_A pn), (hs_A pb), (hs_A rF), (hs_A rI), (hs_A rN), (hs_A rU), (hs_A rC), (hs_A rX), (hs_A rP), (hs_A rD), (hs_A gF), (hs_A gC), (hs_A gL), (hs_A gR), (hs_A gP), (hs_A gD), (hs_A gM), (hs_A gO), (hs_A lr), (hs_A ll), (hs_A lR), (hs_A lp), (hs_A lk), (hs_A wn), (hs_A sk))) (ea : a = nI q := by rfl) (eb : b = nI x := by rfl) (ed : d = nI (c q) := by rfl) : wpX_removeFromArray post ((nI st), K, A, (hs_A sz), (hs_A hp), (hs_A pl), (hs_A pr), (hs_A pc), (hs_A pn), (hs_A pb), (hs_A rF), (hs_A rI), (hs_A rN), (hs_A rU), (hs_A rC), (hs_A rX), (hs_A rP), (hs_A rD), (hs_A gF), (hs_A gC), (hs_A gL), (hs_A gR), (hs_A gP), (hs_A gD), (hs_A gM), (hs_A gO), (hs_A lr), (hs_A ll), (hs_A lR), (hs_A lp), (hs_A lk), (hs_A wn), (hs_A sk)) a b d := by
  subst ea; subst eb; subst ed
  unfold wpX_removeFromArray
  dsimp only
  obtain ⟨hC, hO⟩ := hI
  obtain ⟨c24, hA, hB⟩ := hC q hq
  obtain ⟨x1, x2⟩ := hB x hx hQx
  obtain ⟨l1, l2, l3⟩ := hA (c q - 1) (by omega)
  have e1 : nI q * 24 + nI (c q) - 1 = nI (q * 24 + (c q - 1)) := by
    obtain ⟨j, hj⟩ : ∃ j, c q = j + 1 := ⟨c q - 1, by omega⟩
    rw [hs_q24, hj, ← Nat.add_assoc, nI_pred]; rfl
  have e2 : nI (c q) - 1 = nI (c q - 1) := by
    obtain ⟨j, hj⟩ : ∃ j, c q = j + 1 := ⟨c q - 1, by omega⟩
    rw [hj, nI_pred]; rfl
  refine hs_r x hx (hs_r (q * 24 + (c q - 1)) (by omega) ?_ e1)
  refine pk_eq (hp (q * 24 + (c q - 1))) x (fun e => ?_) (fun e => ?_)
  · refine hpost hp pl ⟨fun q' hq' => ?_, fun q' hq' => ?_⟩
    · obtain ⟨h1, h2, h3⟩ := hC q' hq'
      by_cases eq : q' = q
      · subst eq
        rw [hs_ss]
        refine ⟨by omega, fun i hi => ?_, fun y hy hQ => ?_⟩
        · obtain ⟨k1, k2, k3⟩ := h2 i (by omega)
          have ne : hp (q' * 24 + i) ≠ x := by intro e'; rw [e'] at k3; rw [e] at l3; omega
          rw [hs_sn ne]; exact ⟨k1, k2, k3⟩
        · have ey : y ≠ x := by intro ey; rw [ey, hs_ss] at hQ; omega
          rw [hs_sn ey] at hQ
          obtain ⟨k1, k2⟩ := h3 y hy hQ
          refine ⟨?_, k2⟩
          have : pl y ≠ c q' - 1 := by intro e'; rw [e', e] at k2; exact ey k2.symm
          omega
      · rw [hs_sn eq]
        refine ⟨h1, fun i hi => ?_, fun y hy hQ => ?_⟩
        · obtain ⟨k1, k2, k3⟩ := h2 i hi
          have ne : hp (q' * 24 + i) ≠ x := by intro e'; rw [e'] at k2; omega
          rw [hs_sn ne]; exact ⟨k1, k2, k3⟩
        · have ey : y ≠ x := by intro ey; rw [ey, hs_ss] at hQ; omega
          rw [hs_sn ey] at hQ
          exact h3 y hy hQ
    · by_cases eq : q' = q
      · rw [eq, hs_ss]; exact fun j hj hjn => hO q hq j hj (by omega)
      · rw [hs_sn eq]; exact hO q' hq'
  · have lx : hp (q * 24 + (c q - 1)) ≠ x := e
    have pn : pl x ≠ c q - 1 := by intro e'; rw [e'] at x2; exact e x2
    generalize hlast : hp (q * 24 + (c q - 1)) = l at *
    refine h0_set q (pl x) l hq (by omega) l1 ?_
    dsimp only
    have hC' : h0_C (hs_s Q x 0) (hs_s c q (c q - 1)) (hs_s hp (q * 24 + pl x) l) (hs_s pl l (pl x)) := by
      intro q' hq'
      obtain ⟨h1, h2, h3⟩ := hC q' hq'
      by_cases eq : q' = q
      · subst eq
        rw [hs_ss]
        refine ⟨by omega, fun i hi => ?_, fun y hy hQ => ?_⟩
        · by_cases ei : i = pl x
          · rw [ei, hs_ss, hs_sn lx, hs_ss]; exact ⟨l1, l2, rfl⟩
          · rw [hs_sn (by omega : q' * 24 + i ≠ q' * 24 + pl x)]
            obtain ⟨k1, k2, k3⟩ := h2 i (by omega)
            have ne : hp (q' * 24 + i) ≠ x := by intro e'; rw [e'] at k3; omega
            have ne' : hp (q' * 24 + i) ≠ l := by intro e'; rw [e'] at k3; omega
            rw [hs_sn ne, hs_sn ne']; exact ⟨k1, k2, k3⟩
        · have ey : y ≠ x := by intro ey; rw [ey, hs_ss] at hQ; omega
          rw [hs_sn ey] at hQ
          obtain ⟨k1, k2⟩ := h3 y hy hQ
          by_cases el : y = l
          · rw [el, hs_ss, hs_ss]; exact ⟨by omega, rfl⟩
          · have n1 : pl y ≠ c q' - 1 := by intro e'; rw [e', hlast] at k2; exact el k2.symm
            have n2 : pl y ≠ pl x := by intro e'; rw [e', x2] at k2; exact ey k2.symm
            rw [hs_sn el, hs_sn (by omega)]; exact ⟨by omega, k2⟩
      · rw [hs_sn eq]
        refine ⟨h1, fun i hi => ?_, fun y hy hQ => ?_⟩
        · obtain ⟨k1, k2, k3⟩ := h2 i hi
          have ne : hp (q' * 24 + i) ≠ x := by intro e'; rw [e'] at k2; omega
          have ne' : hp (q' * 24 + i) ≠ l := by intro e'; rw [e'] at k2; omega
          rw [hs_sn (by omega : q' * 24 + i ≠ q * 24 + pl x), hs_sn ne, hs_sn ne']; exact ⟨k1, k2, k3⟩
        · have ey : y ≠ x := by intro ey; rw [ey, hs_ss] at hQ; omega
          rw [hs_sn ey] at hQ
          obtain ⟨k1, k2⟩ := h3 y hy hQ
          have el : y ≠ l := by intro el; rw [el] at hQ; omega
          rw [hs_sn el, hs_sn (by omega)]; exact ⟨k1, k2⟩
    have oth : ∀ q', q' < 4 → q' ≠ q → h0_O K (h0_v (hs_s hp (q * 24 + pl x) l) q') (hs_s c q (c q - 1) q') := by
      intro q' hq' ne
      rw [hs_sn ne]
      exact h0_v_o (by omega) (hC q' hq').1 ne (hO q' hq')
    refine h0_sink (Q := hs_s Q x 0) (c := hs_s c q (c q - 1)) q (pl x) 0 hq (by rw [hs_ss]; omega) (by omega) hC' ?_ oth (fun hp' pl' i' hi1 hi2 hC2 hl2 hE hO2 => ?_) rfl rfl (by rw [hs_ss]; exact e2)
    · rw [hs_ss]
      have vi : ∀ j, j ≠ pl x → h0_v (hs_s hp (q * 24 + pl x) l) q j = hp (q * 24 + j) := by
        intro j hj; unfold h0_v; rw [hs_sn (by omega)]
      constructor
      · intro j hj hjn hji hpi _
        rw [vi _ hpi, vi _ hji]; exact hO q hq j hj (by omega)
      · intro j hj hjn hji hp0 _
        rw [vi _ (by omega), vi _ (by omega)]
        have a1 := hO q hq j hj (by omega)
        have a2 := hO q hq (pl x) hp0 (by omega)
        rw [hji] at a1
        exact hs_bef_tr a2 a1
    · dsimp only
      rw [hs_ss] at hi2 hE hl2
      have pl' : pl' l = i' := by
        have := ((hC2 q hq).2.1 i' (by rw [hs_ss]; exact hi2)).2.2
        rwa [hl2] at this
      refine hs_in l l1 ?_
      refine h0_rise (Q := hs_s Q x 0) (c := hs_s c q (c q - 1)) q i' hq (by rw [hs_ss]; exact hi2) hC2 ?_ hO2 (fun hp2 pl2 h => hpost hp2 pl2 h) rfl (by rw [hs_rd l (by omega)]; rw [pl'])
      rw [hs_ss]
      exact ⟨fun j hj hjn hji => hE.1 j hj hjn hji (Nat.zero_le _), fun j hj hjn hji h0 => hE.2.1 j hj hjn hji h0 (Nat.zero_le _)⟩
/-- rise after a key has been lowered -/
theorem h0_low {post : SX → Prop} {Q c : Nat → Nat} {K0 : Nat → Int32} {a b : Int32} (q x : Nat) (hq : q < 4) (hx : x < 24) (hI : h0_I K0 Q c hp pl) (hQx : Q x = q + 1) (hK : ∀ j, j ≠ x → K j = K0 j) (hl : K x ≤ K0 x) (hpost : ∀ hp' pl', h0_I K Q c hp' pl' → post ((nI st), K, A, (hs_A sz), (hs_A hp'), (hs_A pl'), (hs_A pr), (hs_A pc), (hs_A pn), (hs_A pb), (hs_A rF), (hs_A rI), (hs_A rN), (hs_A rU), (hs_A rC), (hs_A rX), (hs_A rP), (hs_A rD), (hs_A gF), (hs_A gC), (hs_A gL), (hs_A gR), (hs_A gP), (hs_A gD), (hs_A gM), (hs_A gO), (hs_A lr), (hs_A ll), (hs_A lR), (hs_A lp), (hs_A lk), (hs_A wn), (hs_A sk))) (ea : a = nI q := by rfl) (eb : b = nI (pl x) := by rfl) : wpX_rise post ((nI st), K, A, (hs_A sz), (hs_A hp), (hs_A pl), (hs_A pr), (hs_A pc), (hs_A pn), (hs_A pb), (hs_A rF), (hs_A rI), (hs_A rN), (hs_A rU), (hs_A rC), (hs_A rX), (hs_A rP), (hs_A rD), (hs_A gF), (hs_A gC), (hs_A gL), (hs_A gR), (hs_A gP), (hs_A gD), (hs_A gM), (hs_A gO), (hs_A lr), (hs_A ll), (hs_A lR), (hs_A lp), (hs_A lk), (hs_A wn), (hs_A sk)) a b := by
  obtain ⟨hC, hO⟩ := hI
  obtain ⟨c24, hA, hB⟩ := hC q hq
  obtain ⟨x1, x2⟩ := hB x hx hQx
  have at_x : ∀ q' j, q' < 4 → j < c q' → hp (q' * 24 + j) = x → q' = q ∧ j = pl x := by
    intro q' j hq' hj e
    obtain ⟨k1, k2, k3⟩ := (hC q' hq').2.1 j hj
    rw [e] at k2 k3
    exact ⟨by omega, k3.symm⟩
  refine h0_rise q (pl x) hq x1 hC ?_ (fun q' hq' ne j hj hjn => ?_) hpost ea eb
  · constructor
    · intro j hj hjn hji
      refine hs_bef_low hK hl ?_ (hO q hq j hj hjn)
      intro e
      exact hji (at_x q j hq hjn e).2
    · intro j hj hjn hji h0
      have a1 := hO q hq j hj hjn
      have a2 := hO q hq (pl x) h0 x1
      rw [hji] at a1
      refine hs_bef_low hK hl ?_ (hs_bef_tr a2 a1)
      intro e
      have := (at_x q j hq hjn e).2
      omega
  · refine hs_bef_low hK hl ?_ (hO q' hq' j hj hjn)
    intro e
    exact ne (at_x q' j hq' hjn e).1
end
end
section
/-! engine 0: joining, soundness, the first and the second -/
def hs_jQ (Q : Nat → Nat) (a b : Nat) : Nat → Nat := fun x => if Q x = b + 1 then a + 1 else Q x
theorem hs_m1 (x : Int32) : x + (-1) = x - 1 := (Int32.sub_eq_add_neg x 1).symm
section
variable {st : Nat} {K A : Nat → Int32} {sz hp pl pr pc pn pb rF rI rN rU rC rX rP rD gF gC gL gR gP gD gM gO lr ll lR lp lk wn sk : Nat → Nat}
theorem h0_loopH {post : SX → Prop} {Q c : Nat → Nat} {a : Nat} (ha : a < 4) (hpost : ∀ hp' pl', h0_I K Q c hp' pl' → post ((nI st), K, A, (hs_A sz), (hs_A hp'), (hs_A pl'), (hs_A pr), (hs_A pc), (hs_A pn), (hs_A pb), (hs_A rF), (hs_A rI), (hs_A rN), (hs_A rU), (hs_A rC), (hs_A rX), (hs_A rP), (hs_A rD), (hs_A gF), (hs_A gC), (hs_A gL), (hs_A gR), (hs_A gP), (hs_A gD), (hs_A gM), (hs_A gO), (hs_A lr), (hs_A ll), (hs_A lR), (hs_A lp), (hs_A lk), (hs_A wn), (hs_A sk))) : ∀ (k : Nat) (hp pl : Nat → Nat), k ≤ c a → h0_C Q c hp pl → (∀ j, 0 < j → j < c a → k ≤ (j - 1) / 2 → hs_bef K (h0_v hp a ((j - 1) / 2)) (h0_v hp a j)) → (∀ q', q' < 4 → q' ≠ a → h0_O K (h0_v hp q') (c q')) → wX_joinArrays_66 post (nI a) (nI (c a)) (k + 1) (nI k - 1) (nI st) K A (hs_A sz) (hs_A hp) (hs_A pl) (hs_A pr) (hs_A pc) (hs_A pn) (hs_A pb) (hs_A rF) (hs_A rI) (hs_A rN) (hs_A rU) (hs_A rC) (hs_A rX) (hs_A rP) (hs_A rD) (hs_A gF) (hs_A gC) (hs_A gL) (hs_A gR) (hs_A gP) (hs_A gD) (hs_A gM) (hs_A gO) (hs_A lr) (hs_A ll) (hs_A lR) (hs_A lp) (hs_A lk) (hs_A wn) (hs_A sk) := by
  intro k
  induction k with
  | zero =>
    intro hp pl hk hC hE hO
    rw [wX_joinArrays_66]
    refine br_t (by decide) (hpost hp pl ⟨hC, fun q' hq' => ?_⟩)
    by_cases e : q' = a
    · rw [e]; exact fun j hj hjn => hE j hj hjn (Nat.zero_le _)
    · exact hO q' hq' e
  | succ k ih =>
    intro hp pl hk hC hE hO
    have c24 := (hC a ha).1
    rw [wX_joinArrays_66, nI_pred]
    refine br_f (nI_pos (by omega)) ?_
    refine h0_sink a k k ha (by omega) (Nat.le_refl _) hC ⟨fun j hj hjn hji hpi hlo => hE j hj hjn (by omega), fun j hj hjn hji h0 hlo => by omega⟩ hO (fun hp' pl' i' hi1 hi2 hC2 hl2 hE2 hO2 => ?_)
    dsimp only
    refine nm_r (hs_m1 _) ?_
    refine ih hp' pl' (by omega) hC2 (fun j hj hjn hlo => ?_) hO2
    by_cases e : j = i'
    · rcases hE2.2.2 with h | h
      · omega
      · rw [e]; exact h
    · exact hE2.1 j hj hjn e hlo
theorem h0_loopJ {post : SX → Prop} {Q c hp0 pl0 : Nat → Nat} {a b : Nat} (ha : a < 4) (hb : b < 4) (hab : a ≠ b) (hC : h0_C Q c hp0 pl0) (hc : c a + c b ≤ 24) (hz : sz b = c b) (hpost : ∀ hp' pl', (∀ k, hp' k = if a * 24 + c a ≤ k ∧ k < a * 24 + c a + c b then hp0 (b * 24 + (k - (a * 24 + c a))) else hp0 k) → (∀ x, x < 24 → pl' x = if Q x = b + 1 then c a + pl0 x else pl0 x) → ∃ n, wX_joinArrays_66 post (nI a) (nI (c a + c b)) n (nI ((c a + c b) / 2) - 1) (nI st) K A (hs_A sz) (hs_A hp') (hs_A pl') (hs_A pr) (hs_A pc) (hs_A pn) (hs_A pb) (hs_A rF) (hs_A rI) (hs_A rN) (hs_A rU) (hs_A rC) (hs_A rX) (hs_A rP) (hs_A rD) (hs_A gF) (hs_A gC) (hs_A gL) (hs_A gR) (hs_A gP) (hs_A gD) (hs_A gM) (hs_A gO) (hs_A lr) (hs_A ll) (hs_A lR) (hs_A lp) (hs_A lk) (hs_A wn) (hs_A sk)) : ∀ (d i : Nat) (hp pl : Nat → Nat), i + d = c b → (∀ k, hp k = if a * 24 + c a ≤ k ∧ k < a * 24 + c a + i then hp0 (b * 24 + (k - (a * 24 + c a))) else hp0 k) → (∀ x, x < 24 → pl x = if Q x = b + 1 ∧ pl0 x < i then c a + pl0 x else pl0 x) → wX_joinArrays_10 post (nI a) (nI b) (nI (c a)) (d + 1) (nI i) (nI st) K A (hs_A sz) (hs_A hp) (hs_A pl) (hs_A pr) (hs_A pc) (hs_A pn) (hs_A pb) (hs_A rF) (hs_A rI) (hs_A rN) (hs_A rU) (hs_A rC) (hs_A rX) (hs_A rP) (hs_A rD) (hs_A gF) (hs_A gC) (hs_A gL) (hs_A gR) (hs_A gP) (hs_A gD) (hs_A gM) (hs_A gO) (hs_A lr) (hs_A ll) (hs_A lR) (hs_A lp) (hs_A lk) (hs_A wn) (hs_A sk) := by
  intro d
  induction d with
  | zero =>
    intro i hp pl hid hh hl
    rw [wX_joinArrays_10]
    refine hs_in b hb ?_
    refine pk_le (c b) i (fun _ => ?_) (fun h => by omega) (by rw [hs_rd b (by omega), hz]) rfl
    refine hs_in b hb ?_
    refine nm_r (e' := nI (c a + c b)) (by rw [hs_rd b (by omega), hz, nI_add]) ?_
    refine ⟨by decide, nm_r (e' := nI ((c a + c b) / 2) - 1) (by rw [hs_h (by omega)]) ?_⟩
    have : i = c b := by omega
    subst this
    refine hpost hp pl hh (fun x hx => ?_)
    rw [hl x hx]
    by_cases e : Q x = b + 1
    · rw [if_pos ⟨e, ((hC b hb).2.2 x hx e).1⟩, if_pos e]
    · rw [if_neg (fun h => e h.1), if_neg e]
  | succ d ih =>
    intro i hp pl hid hh hl
    obtain ⟨y1, y2, y3⟩ := (hC b hb).2.1 i (by omega)
    have hy : hp (b * 24 + i) = hp0 (b * 24 + i) := by
      rw [hh, if_neg (by omega)]
    rw [wX_joinArrays_10]
    refine hs_in b hb ?_
    refine pk_le (c b) i (fun h => by omega) (fun _ => ?_) (by rw [hs_rd b (by omega), hz]) rfl
    refine hs_in (b * 24 + i) (by omega) ?_ (hs_q24 b i)
    refine h0_set a (c a + i) (hp (b * 24 + i)) ha (by omega) (by rw [hy]; exact y1) ?_ rfl (nI_add _ _) (hs_rd _ (by omega) (hs_q24 b i))
    dsimp only
    refine nm_r (nI_1 _) ?_
    refine ih (i + 1) _ _ (by omega) (fun k => ?_) (fun x hx => ?_)
    · by_cases e : k = a * 24 + (c a + i)
      · rw [hs_se e, if_pos (by omega), hy]
        exact congrArg hp0 (by omega)
      · rw [hs_sn e, hh k]
        by_cases e' : a * 24 + c a ≤ k ∧ k < a * 24 + c a + i
        · rw [if_pos e', if_pos (by omega)]
        · rw [if_neg e', if_neg (by omega)]
    · by_cases e : x = hp (b * 24 + i)
      · rw [hs_se e, e, hy, if_pos ⟨y2, by omega⟩, y3]
      · rw [hs_sn e, hl x hx]
        have ne : Q x = b + 1 → pl0 x ≠ i := by
          intro h1 h2
          have := ((hC b hb).2.2 x hx h1).2
          rw [h2] at this
          exact e (by rw [hy]; exact this.symm)
        by_cases e' : Q x = b + 1 ∧ pl0 x < i
        · rw [if_pos e', if_pos ⟨e'.1, by omega⟩]
        · rw [if_neg e', if_neg (fun h => e' ⟨h.1, by have := ne h.1; omega⟩)]
theorem h0_join {post : SX → Prop} {Q c : Nat → Nat} {a' b' : Int32} (a b : Nat) (ha : a < 4) (hb : b < 4) (hab : a ≠ b) (hI : h0_I K Q c hp pl) (hc : c a + c b ≤ 24) (hza : sz a = c a) (hzb : sz b = c b) (hpost : ∀ hp' pl', h0_I K (hs_jQ Q a b) (hs_s (hs_s c a (c a + c b)) b 0) hp' pl' → post ((nI st), K, A, (hs_A sz), (hs_A hp'), (hs_A pl'), (hs_A pr), (hs_A pc), (hs_A pn), (hs_A pb), (hs_A rF), (hs_A rI), (hs_A rN), (hs_A rU), (hs_A rC), (hs_A rX), (hs_A rP), (hs_A rD), (hs_A gF), (hs_A gC), (hs_A gL), (hs_A gR), (hs_A gP), (hs_A gD), (hs_A gM), (hs_A gO), (hs_A lr), (hs_A ll), (hs_A lR), (hs_A lp), (hs_A lk), (hs_A wn), (hs_A sk))) (ea : a' = nI a := by rfl) (eb : b' = nI b := by rfl) : wpX_joinArrays post ((nI st), K, A, (hs_A sz), (hs_A hp), (hs_A pl), (hs_A pr), (hs_A pc), (hs_A pn), (hs_A pb), (hs_A rF), (hs_A rI), (hs_A rN), (hs_A rU), (hs_A rC), (hs_A rX), (hs_A rP), (hs_A rD), (hs_A gF), (hs_A gC), (hs_A gL), (hs_A gR), (hs_A gP), (hs_A gD), (hs_A gM), (hs_A gO), (hs_A lr), (hs_A ll), (hs_A lR), (hs_A lp), (hs_A lk), (hs_A wn), (hs_A sk)) a' b' := by
  subst ea; subst eb
  unfold wpX_joinArrays
  dsimp only
  obtain ⟨hC, hO⟩ := hI
  refine hs_r a ha ⟨c b + 1, ?_⟩
  rw [hza]
  refine h0_loopJ ha hb hab hC hc hzb (fun hp' pl' hh hl => ?_) (c b) 0 hp pl (by omega) (fun k => ?_) (fun x hx => ?_)
  · have ca : hs_s (hs_s c a (c a + c b)) b 0 a = c a + c b := by rw [hs_sn hab, hs_ss]
    have hC' : h0_C (hs_jQ Q a b) (hs_s (hs_s c a (c a + c b)) b 0) hp' pl' := by
      intro q hq
      by_cases eb : q = b
      · rw [eb, hs_ss]
        refine ⟨by omega, fun i hi => by omega, fun x hx hQ => ?_⟩
        unfold hs_jQ at hQ
        split at hQ <;> omega
      · rw [hs_sn eb]
        obtain ⟨h1, h2, h3⟩ := hC q hq
        by_cases ea : q = a
        · subst ea
          rw [hs_ss]
          refine ⟨hc, fun i hi => ?_, fun x hx hQ => ?_⟩
          · rw [hh]
            by_cases e : c q ≤ i
            · rw [if_pos (by omega), (by omega : q * 24 + i - (q * 24 + c q) = i - c q)]
              obtain ⟨k1, k2, k3⟩ := (hC b hb).2.1 (i - c q) (by omega)
              refine ⟨k1, ?_, ?_⟩
              · unfold hs_jQ; rw [if_pos k2]
              · rw [hl _ k1, if_pos k2, k3]; omega
            · rw [if_neg (by omega)]
              obtain ⟨k1, k2, k3⟩ := h2 i (by omega)
              refine ⟨k1, ?_, ?_⟩
              · unfold hs_jQ; rw [if_neg (by omega)]; exact k2
              · rw [hl _ k1, if_neg (by omega)]; exact k3
          · rw [hl x hx]
            by_cases e : Q x = b + 1
            · obtain ⟨k1, k2⟩ := (hC b hb).2.2 x hx e
              rw [if_pos e]
              refine ⟨by omega, ?_⟩
              rw [hh, if_pos (by omega)]
              rw [(by omega : q * 24 + (c q + pl x) - (q * 24 + c q) = pl x)]; exact k2
            · unfold hs_jQ at hQ
              rw [if_neg e] at hQ
              obtain ⟨k1, k2⟩ := h3 x hx hQ
              rw [if_neg e]
              refine ⟨by omega, ?_⟩
              rw [hh, if_neg (by omega)]; exact k2
        · rw [hs_sn ea]
          refine ⟨h1, fun i hi => ?_, fun x hx hQ => ?_⟩
          · rw [hh, if_neg (by omega)]
            obtain ⟨k1, k2, k3⟩ := h2 i hi
            refine ⟨k1, ?_, ?_⟩
            · unfold hs_jQ; rw [if_neg (by omega)]; exact k2
            · rw [hl _ k1, if_neg (by omega)]; exact k3
          · unfold hs_jQ at hQ
            have e : Q x ≠ b + 1 := by
              intro e; rw [if_pos e] at hQ; omega
            rw [if_neg e] at hQ
            obtain ⟨k1, k2⟩ := h3 x hx hQ
            rw [hl x hx, if_neg e]
            refine ⟨k1, ?_⟩
            rw [hh, if_neg (by omega)]; exact k2
    have hO' : ∀ q', q' < 4 → q' ≠ a → h0_O K (h0_v hp' q') (hs_s (hs_s c a (c a + c b)) b 0 q') := by
      intro q' hq' ne
      by_cases eb : q' = b
      · rw [eb, hs_ss]; exact fun j hj hjn => by omega
      · rw [hs_sn eb, hs_sn ne]
        intro j hj hjn
        have := hO q' hq' j hj hjn
        have c24 := (hC q' hq').1
        unfold h0_v at *
        rw [hh, hh, if_neg (by omega), if_neg (by omega)]; exact this
    have := h0_loopH (post := post) (K := K) (Q := hs_jQ Q a b) (c := hs_s (hs_s c a (c a + c b)) b 0) ha hpost ((c a + c b) / 2) hp' pl' (by rw [ca]; omega) hC' (fun j hj hjn hlo => by rw [ca] at hjn; omega) hO'
    rw [ca] at this
    exact ⟨_, this⟩
  · rw [if_neg (by omega)]
  · rw [if_neg (by omega)]
theorem h0_snd {post : Int32 → Prop} {Q c : Nat → Nat} {a' : Int32} (q : Nat) (hq : q < 4) (hI : h0_I K Q c hp pl) (hA : ∀ x, x < 24 → A x = nI (Q x) - 1) (hz : sz q = c q) (hpost : post 1) (ea : a' = nI q := by rfl) : wpX_isArraySound post ((nI st), K, A, (hs_A sz), (hs_A hp), (hs_A pl), (hs_A pr), (hs_A pc), (hs_A pn), (hs_A pb), (hs_A rF), (hs_A rI), (hs_A rN), (hs_A rU), (hs_A rC), (hs_A rX), (hs_A rP), (hs_A rD), (hs_A gF), (hs_A gC), (hs_A gL), (hs_A gR), (hs_A gP), (hs_A gD), (hs_A gM), (hs_A gO), (hs_A lr), (hs_A ll), (hs_A lR), (hs_A lp), (hs_A lk), (hs_A wn), (hs_A sk)) a' := by
  subst ea
  unfold wpX_isArraySound
  dsimp only
  obtain ⟨hC, hO⟩ := hI
  obtain ⟨c24, h2, h3⟩ := hC q hq
  have key : ∀ d i, i + d = c q → wX_isArraySound_4 post (nI q) (nI st) K A (hs_A sz) (hs_A hp) (hs_A pl) (hs_A pr) (hs_A pc) (hs_A pn) (hs_A pb) (hs_A rF) (hs_A rI) (hs_A rN) (hs_A rU) (hs_A rC) (hs_A rX) (hs_A rP) (hs_A rD) (hs_A gF) (hs_A gC) (hs_A gL) (hs_A gR) (hs_A gP) (hs_A gD) (hs_A gM) (hs_A gO) (hs_A lr) (hs_A ll) (hs_A lR) (hs_A lp) (hs_A lk) (hs_A wn) (hs_A sk) (d + 1) 1 (nI i) := by
    intro d
    induction d with
    | zero =>
      intro i hi
      rw [wX_isArraySound_4]
      refine hs_in q hq ?_
      exact pk_le (c q) i (fun _ => ⟨rfl, hpost⟩) (fun h => by omega) (by rw [hs_rd q (by omega), hz]) rfl
    | succ d ih =>
      intro i hi
      obtain ⟨k1, k2, k3⟩ := h2 i (by omega)
      rw [wX_isArraySound_4]
      refine hs_in q hq ?_
      refine pk_le (c q) i (fun h => by omega) (fun _ => ?_) (by rw [hs_rd q (by omega), hz]) rfl
      refine hs_r (q * 24 + i) (by omega) ?_ (hs_q24 q i)
      refine br_f (by decide) ?_
      refine hs_in _ k1 ?_
      refine br_t (by rw [hs_rd (hp (q * 24 + i)) (by omega), k3]) ?_
      refine hs_in _ k1 ?_
      have nx := ih (i + 1) (by omega)
      refine br_t (by rw [nI_clamp (by omega), hA _ k1, k2, nI_pred]) ?_
      refine pk_eq i 0 (fun _ => nm_r (nI_1 _) nx) (fun h0 => ?_)
      have e1 : nI q * 24 + (nI i - 1) / 2 = nI (q * 24 + (i - 1) / 2) := by
        obtain ⟨j, rfl⟩ : ∃ j, i = j + 1 := ⟨i - 1, by omega⟩
        rw [nI_pred, hs_h (by omega), hs_q24]; rfl
      refine ⟨by decide, hs_in (q * 24 + (i - 1) / 2) (by omega) ?_ e1⟩
      exact hs_cbb (hp (q * 24 + (i - 1) / 2)) (hp (q * 24 + i)) (h2 _ (by omega)).1 k1 (fun _ => nm_r (nI_1 _) nx) (fun h => absurd (hO q hq i (by omega) (by omega)) h) (hs_rd _ (by omega) e1) rfl
  exact ⟨_, key (c q) 0 (by omega)⟩
end
theorem h0_top {K : Nat → Int32} {H : Nat → Nat} {n : Nat} (h : h0_O K H n) : ∀ m j, j ≤ m → 0 < j → j < n → hs_bef K (H 0) (H j) := by
  intro m
  induction m with
  | zero => intro j hj h0; omega
  | succ m ih =>
    intro j hj h0 hn
    have b := h j h0 hn
    by_cases e : (j - 1) / 2 = 0
    · rw [e] at b; exact b
    · exact hs_bef_tr (ih ((j - 1) / 2) (by omega) (by omega) (by omega)) b
theorem h0_first {K : Nat → Int32} {Q c hp pl : Nat → Nat} (hI : h0_I K Q c hp pl) {q : Nat} (hq : q < 4) : (c q = 0 → hs_min K Q q 24) ∧ (0 < c q → hs_min K Q q (hp (q * 24))) := by
  obtain ⟨hC, hO⟩ := hI
  obtain ⟨c24, h2, h3⟩ := hC q hq
  constructor
  · intro e
    refine Or.inl ⟨rfl, fun x hx hQ => ?_⟩
    have := h3 x hx hQ
    omega
  · intro e
    obtain ⟨k1, k2, k3⟩ := h2 0 e
    refine Or.inr ⟨k1, k2, fun x hx hQ ne => ?_⟩
    obtain ⟨j1, j2⟩ := h3 x hx hQ
    have := h0_top (hO q hq) (pl x) (pl x) (Nat.le_refl _) (by
      rcases Nat.eq_zero_or_pos (pl x) with z | z
      · rw [z] at j2; exact absurd j2.symm ne
      · exact z) j1
    unfold h0_v at this
    rw [j2] at this; exact this
/-- the first of the items of queue q without the first -/
def hs_min2 (K : Nat → Int32) (Q : Nat → Nat) (q o r : Nat) : Prop :=
  r < 24 ∧ Q r = q + 1 ∧ r ≠ o ∧ ∀ x, x < 24 → Q x = q + 1 → x ≠ o → x ≠ r → hs_bef K r x
theorem h0_second {K : Nat → Int32} {Q c hp pl : Nat → Nat} (hI : h0_I K Q c hp pl) {q : Nat} (hq : q < 4) (h2 : 2 ≤ c q) : (c q = 2 → hs_min2 K Q q (hp (q * 24)) (hp (q * 24 + 1))) ∧ (2 < c q → hs_bef K (hp (q * 24 + 2)) (hp (q * 24 + 1)) → hs_min2 K Q q (hp (q * 24)) (hp (q * 24 + 2))) ∧ (2 < c q → ¬ hs_bef K (hp (q * 24 + 2)) (hp (q * 24 + 1)) → hs_min2 K Q q (hp (q * 24)) (hp (q * 24 + 1))) := by
  obtain ⟨hC, hO⟩ := hI
  obtain ⟨c24, hA, hB⟩ := hC q hq
  have tree : ∀ m j, j ≤ m → 0 < j → j < c q → (hp (q * 24 + j) = hp (q * 24 + 1) ∨ hs_bef K (hp (q * 24 + 1)) (hp (q * 24 + j))) ∨ (2 < c q ∧ (hp (q * 24 + j) = hp (q * 24 + 2) ∨ hs_bef K (hp (q * 24 + 2)) (hp (q * 24 + j)))) := by
    intro m
    induction m with
    | zero => intro j hj h0; omega
    | succ m ih =>
      intro j hj h0 hn
      by_cases e1 : j = 1
      · rw [e1]; exact Or.inl (Or.inl rfl)
      · by_cases e2 : j = 2
        · rw [e2] at hn ⊢; exact Or.inr ⟨hn, Or.inl rfl⟩
        · have b := hO q hq j h0 hn
          unfold h0_v at b
          rcases ih ((j - 1) / 2) (by omega) (by omega) (by omega) with (h | h) | ⟨l, h | h⟩
          · rw [h] at b; exact Or.inl (Or.inr b)
          · exact Or.inl (Or.inr (hs_bef_tr h b))
          · rw [h] at b; exact Or.inr ⟨l, Or.inr b⟩
          · exact Or.inr ⟨l, Or.inr (hs_bef_tr h b)⟩
  have pos : ∀ x, x < 24 → Q x = q + 1 → x ≠ hp (q * 24) → 0 < pl x := by
    intro x hx hQ ne
    rcases Nat.eq_zero_or_pos (pl x) with z | z
    · have := (hB x hx hQ).2; rw [z] at this; exact absurd this.symm ne
    · exact z
  have inj : ∀ i j, i < c q → j < c q → hp (q * 24 + i) = hp (q * 24 + j) → i = j := by
    intro i j hi hj e
    have a := (hA i hi).2.2
    have b := (hA j hj).2.2
    rw [e] at a; omega
  have m1 : (c q = 2 ∨ (2 < c q ∧ ¬ hs_bef K (hp (q * 24 + 2)) (hp (q * 24 + 1)))) → hs_min2 K Q q (hp (q * 24)) (hp (q * 24 + 1)) := by
    intro hc
    obtain ⟨k1, k2, k3⟩ := hA 1 (by omega)
    refine ⟨k1, k2, fun e => by have := inj 1 0 (by omega) (by omega) e; omega, fun x hx hQ n1 n2 => ?_⟩
    obtain ⟨j1, j2⟩ := hB x hx hQ
    have := tree (pl x) (pl x) (Nat.le_refl _) (pos x hx hQ n1) j1
    rw [j2] at this
    rcases this with (h | h) | ⟨l, h⟩
    · exact absurd h n2
    · exact h
    · rcases hc with hc | ⟨_, hc⟩
      · omega
      · have ne : hp (q * 24 + 2) ≠ hp (q * 24 + 1) := fun e => by have := inj 2 1 (by omega) (by omega) e; omega
        have b := hs_bef_tot hc ne
        rcases h with h | h
        · rw [h]; exact b
        · exact hs_bef_tr b h
  refine ⟨fun e => m1 (Or.inl e), fun e hb => ?_, fun e hb => m1 (Or.inr ⟨e, hb⟩)⟩
  obtain ⟨k1, k2, k3⟩ := hA 2 e
  refine ⟨k1, k2, fun e => by have := inj 2 0 (by omega) (by omega) e; omega, fun x hx hQ n1 n2 => ?_⟩
  obtain ⟨j1, j2⟩ := hB x hx hQ
  have := tree (pl x) (pl x) (Nat.le_refl _) (pos x hx hQ n1) j1
  rw [j2] at this
  rcases this with (h | h) | ⟨l, h | h⟩
  · rw [h]; exact hb
  · exact hs_bef_tr hb h
  · exact absurd h n2
  · exact h
end
section
/-! engine 1: paired trees, the pure part -/
def h1_hd : List Nat → Nat
  | [] => 24
  | a :: _ => a
def h1_ln (pn pb : Nat → Nat) : Nat → List Nat → Prop
  | _, [] => True
  | p, a :: t => pb a = p ∧ pn a = h1_hd t ∧ h1_ln pn pb a t
def h1_nx (pn : Nat → Nat) : List Nat → Prop
  | [] => True
  | a :: t => pn a = h1_hd t ∧ h1_nx pn t
theorem h1_ln_fr {pn pb pn' pb' : Nat → Nat} : ∀ {l : List Nat} {p : Nat}, (∀ z, z ∈ l → pn' z = pn z ∧ pb' z = pb z) → h1_ln pn pb p l → h1_ln pn' pb' p l
  | [], _, _, _ => trivial
  | a :: t, p, h, hl => ⟨(h a (by simp)).2.trans hl.1, (h a (by simp)).1.trans hl.2.1, h1_ln_fr (fun z hz => h z (by simp [hz])) hl.2.2⟩
theorem h1_ln_re {pn pb pn' pb' : Nat → Nat} {l : List Nat} {p p' : Nat} (hl : h1_ln pn pb p l) (h1 : ∀ z, z ∈ l → pn' z = pn z) (h2 : ∀ z, z ∈ l → z ≠ h1_hd l → pb' z = pb z) (hd : l.Nodup) (h3 : l ≠ [] → pb' (h1_hd l) = p') : h1_ln pn' pb' p' l := by
  cases l with
  | nil => trivial
  | cons a t =>
    rw [List.nodup_cons] at hd
    refine ⟨h3 (by simp), (h1 a (by simp)).trans hl.2.1, h1_ln_fr (fun z hz => ⟨h1 z (by simp [hz]), h2 z (by simp [hz]) ?_⟩) hl.2.2⟩
    intro e
    exact hd.1 (by rw [show a = z from e.symm]; exact hz)
theorem h1_ln_nx {pn pb : Nat → Nat} : ∀ {l : List Nat} {p : Nat}, h1_ln pn pb p l → h1_nx pn l
  | [], _, _ => trivial
  | _ :: _, _, h => ⟨h.2.1, h1_ln_nx h.2.2⟩
theorem h1_nx_fr {pn pn' : Nat → Nat} : ∀ {l : List Nat}, (∀ z, z ∈ l → pn' z = pn z) → h1_nx pn l → h1_nx pn' l
  | [], _, _ => trivial
  | a :: t, h, hl => ⟨(h a (by simp)).trans hl.1, h1_nx_fr (fun z hz => h z (by simp [hz])) hl.2⟩
theorem h1_hd_m {l : List Nat} (h : l ≠ []) : h1_hd l ∈ l := by
  cases l with
  | nil => exact absurd rfl h
  | cons a t => simp [h1_hd]
theorem h1_hd_n {l : List Nat} (h : ∀ z, z ∈ l → z < 24) : h1_hd l ≤ 24 ∧ (h1_hd l = 24 ↔ l = []) := by
  cases l with
  | nil => exact ⟨Nat.le_refl _, by simp [h1_hd]⟩
  | cons a t =>
    have := h a (by simp)
    exact ⟨by simp [h1_hd]; omega, by simp [h1_hd]; omega⟩
theorem h1_ln_cut {pn pb : Nat → Nat} {x : Nat} {l2 : List Nat} : ∀ {l1 : List Nat} {p : Nat}, h1_ln pn pb p (l1 ++ x :: l2) → (l1 ++ x :: l2).Nodup → (∀ z, z ∈ l1 ++ x :: l2 → z < 24) → ((l1 = [] ∧ pb x = p) ∨ (l1 ≠ [] ∧ pb x ∈ l1)) ∧ pn x = h1_hd l2 ∧ h1_ln (if l1 = [] then pn else hs_s pn (pb x) (pn x)) (hs_s pb (pn x) (pb x)) p (l1 ++ l2)
  | [], p, h, hd, hz => by
    obtain ⟨h1, h2, h3⟩ := h
    refine ⟨Or.inl ⟨rfl, h1⟩, h2, ?_⟩
    rw [if_pos rfl, h1, h2]
    have hd2 : l2.Nodup := (List.nodup_cons.1 hd).2
    exact h1_ln_re h3 (fun z _ => rfl) (fun z _ hn => hs_sn hn) hd2 (fun _ => hs_ss)
  | a :: t, p, h, hd, hz => by
    obtain ⟨h1, h2, h3⟩ := h
    have hd' : (a :: (t ++ x :: l2)).Nodup := hd
    rw [List.nodup_cons] at hd'
    obtain ⟨i1, i2, i3⟩ := h1_ln_cut (l1 := t) (p := a) h3 hd'.2 (fun z hz' => hz z (by simp at hz' ⊢; exact Or.inr hz'))
    have a24 : a < 24 := hz a (by simp)
    have na : a ≠ h1_hd l2 := by
      cases l2 with
      | nil => simp [h1_hd]; omega
      | cons b s =>
        intro e
        exact hd'.1 (by simp [h1_hd] at e; simp [e])
    refine ⟨Or.inr ⟨by simp, ?_⟩, i2, ?_⟩
    · rcases i1 with ⟨e, e'⟩ | ⟨e, e'⟩
      · rw [e']; simp
      · simp [e']
    · rw [if_neg (by simp)]
      rcases i1 with ⟨e, e'⟩ | ⟨e, e'⟩
      · subst e
        rw [if_pos rfl] at i3
        refine ⟨by rw [i2, hs_sn na]; exact h1, by rw [e', hs_ss, i2]; rfl, ?_⟩
        refine h1_ln_fr (fun z hz' => ⟨?_, rfl⟩) i3
        rw [hs_sn]
        intro e2
        rw [e', ] at e2
        exact hd'.1 (by rw [← e2]; simp at hz' ⊢; exact Or.inr hz')
      · rw [if_neg e] at i3
        refine ⟨by rw [i2, hs_sn na]; exact h1, ?_, i3⟩
        rw [hs_sn, h2]
        · cases t with
          | nil => exact absurd rfl e
          | cons b s => rfl
        · intro e2
          exact hd'.1 (by rw [e2]; simp [e'])
def h1_P (T R : Nat → Prop) (par : Nat → Nat) (ch : Nat → List Nat) (pc pn pb : Nat → Nat) : Prop :=
  ∀ x, T x → pc x = h1_hd (ch x) ∧ h1_ln pn pb x (ch x) ∧ (ch x).Nodup ∧ ∀ c, c ∈ ch x ↔ T c ∧ ¬ R c ∧ par c = x
def h1_W (K : Nat → Int32) (g : Nat → Nat) (T R : Nat → Prop) (pc pn pb : Nat → Nat) : Prop :=
  ∃ par ch, hs_F K g T R par ∧ h1_P T R par ch pc pn pb
theorem h1_W_R {K : Nat → Int32} {g pc pn pb : Nat → Nat} {T R R' : Nat → Prop} (h : h1_W K g T R pc pn pb) (hr : ∀ z, T z → (R z ↔ R' z)) : h1_W K g T R' pc pn pb := by
  obtain ⟨par, ch, hF, hP⟩ := h
  refine ⟨par, ch, ⟨hF.1, fun c tc nc => hF.2 c tc (fun r => nc ((hr c tc).1 r))⟩, fun x tx => ?_⟩
  obtain ⟨a, b, d, e⟩ := hP x tx
  refine ⟨a, b, d, fun c => ?_⟩
  rw [e c]
  constructor
  · intro ⟨x1, x2, x3⟩; exact ⟨x1, fun r => x2 ((hr c x1).2 r), x3⟩
  · intro ⟨x1, x2, x3⟩; exact ⟨x1, fun r => x2 ((hr c x1).1 r), x3⟩
theorem h1_W_g {K : Nat → Int32} {g g' pc pn pb : Nat → Nat} {T R : Nat → Prop} (h : h1_W K g T R pc pn pb) (hg : ∀ z z', T z → T z' → g z = g z' → g' z = g' z') : h1_W K g' T R pc pn pb := by
  obtain ⟨par, ch, hF, hP⟩ := h
  exact ⟨par, ch, ⟨hF.1, fun c tc nc => ⟨(hF.2 c tc nc).1, (hF.2 c tc nc).2.1, hg _ _ (hF.2 c tc nc).1 tc (hF.2 c tc nc).2.2⟩⟩, hP⟩
theorem h1_W_K {K K' : Nat → Int32} {g pc pn pb : Nat → Nat} {T R : Nat → Prop} {x : Nat} (h : h1_W K g T R pc pn pb) (hx : R x) (hK : ∀ j, j ≠ x → K' j = K j) (hl : K' x ≤ K x) : h1_W K' g T R pc pn pb := by
  obtain ⟨par, ch, hF, hP⟩ := h
  refine ⟨par, ch, ⟨hF.1, fun c tc nc => ?_⟩, hP⟩
  obtain ⟨a, b, d⟩ := hF.2 c tc nc
  exact ⟨a, hs_bef_low hK hl (fun e => nc (e ▸ hx)) b, d⟩
/-- entries of roots do not matter -/
theorem h1_W_fr {K : Nat → Int32} {g pc pn pb pc' pn' pb' : Nat → Nat} {T R : Nat → Prop} (h : h1_W K g T R pc pn pb) (h1 : ∀ z, T z → pc' z = pc z) (h2 : ∀ z, T z → ¬ R z → pn' z = pn z ∧ pb' z = pb z) : h1_W K g T R pc' pn' pb' := by
  obtain ⟨par, ch, hF, hP⟩ := h
  refine ⟨par, ch, hF, fun x tx => ?_⟩
  obtain ⟨a, b, d, e⟩ := hP x tx
  exact ⟨(h1 x tx).trans a, h1_ln_fr (fun z hz => h2 z ((e z).1 hz).1 ((e z).1 hz).2.1) b, d, e⟩
theorem h1_pc {K : Nat → Int32} {g pc pn pb : Nat → Nat} {T R : Nat → Prop} {x : Nat} (h : h1_W K g T R pc pn pb) (tx : T x) : pc x ≤ 24 := by
  obtain ⟨par, ch, hF, hP⟩ := h
  obtain ⟨a, b, d, e⟩ := hP x tx
  rw [a]
  exact (h1_hd_n (fun z hz => hF.1 z ((e z).1 hz).1)).1
theorem h1_link {K : Nat → Int32} {g pc pn pb : Nat → Nat} {T R : Nat → Prop} {a b : Nat} (h : h1_W K g T R pc pn pb) (ta : T a) (tb : T b) (ra : R a) (rb : R b) (hg : g a = g b) (hb : hs_bef K a b) : h1_W K g T (fun z => R z ∧ z ≠ b) (hs_s pc a b) (hs_s pn b (pc a)) (hs_s (hs_s pb (pc a) b) b a) := by
  obtain ⟨par, ch, hF, hP⟩ := h
  have ab : a ≠ b := hs_bef_ne hb
  refine ⟨hs_s par b a, hs_s ch a (b :: ch a), ⟨hF.1, fun c tc nc => ?_⟩, fun x tx => ?_⟩
  · by_cases e : c = b
    · rw [hs_se e, e]; exact ⟨ta, hb, hg⟩
    · rw [hs_sn e]; exact hF.2 c tc (fun r => nc ⟨r, e⟩)
  · obtain ⟨a1, a2, a3, a4⟩ := hP a ta
    have bn : b ∉ ch a := fun hm => ((a4 b).1 hm).2.1 rb
    have mem : ∀ c, c ∈ ch x → c ≠ b := fun c hc e => (((hP x tx).2.2.2 c).1 hc).2.1 (e ▸ rb)
    by_cases ex : x = a
    · subst ex
      rw [hs_ss, hs_ss]
      refine ⟨rfl, ⟨hs_ss, by rw [hs_ss]; exact a1, ?_⟩, List.nodup_cons.2 ⟨bn, a3⟩, fun c => ?_⟩
      · refine h1_ln_re a2 (fun z hz => hs_sn (mem z hz)) (fun z hz hn => ?_) a3 (fun hne => ?_)
        · rw [hs_sn (mem z hz), hs_sn (by rw [a1]; exact hn)]
        · rw [hs_sn (mem _ (h1_hd_m hne)), ← a1, hs_ss]
      · rw [List.mem_cons]
        by_cases e : c = b
        · subst e
          rw [hs_ss]
          exact ⟨fun _ => ⟨tb, fun r => r.2 rfl, rfl⟩, fun _ => Or.inl rfl⟩
        · rw [hs_sn e, a4 c]
          exact ⟨fun hc => hc.elim (fun h => absurd h e) (fun h => ⟨h.1, fun r => h.2.1 r.1, h.2.2⟩), fun h => Or.inr ⟨h.1, fun r => h.2.1 ⟨r, e⟩, h.2.2⟩⟩
    · obtain ⟨x1, x2, x3, x4⟩ := hP x tx
      rw [hs_sn ex, hs_sn ex]
      refine ⟨x1, h1_ln_fr (fun z hz => ⟨hs_sn (mem z hz), ?_⟩) x2, x3, fun c => ?_⟩
      · rw [hs_sn (mem z hz), hs_sn]
        intro e
        have z1 := (x4 z).1 hz
        by_cases ne : ch a = []
        · rw [ne] at a1
          have := hF.1 z z1.1
          simp [h1_hd] at a1; omega
        · have := (a4 z).1 (by rw [e, a1]; exact h1_hd_m ne)
          exact ex (z1.2.2.symm.trans this.2.2)
      · by_cases e : c = b
        · subst e
          rw [hs_ss]
          exact ⟨fun hc => absurd rfl (mem _ hc), fun hc => absurd hc.2.2.symm ex⟩
        · rw [hs_sn e, x4 c]
          exact ⟨fun h => ⟨h.1, fun r => h.2.1 r.1, h.2.2⟩, fun h => ⟨h.1, fun r => h.2.1 ⟨r, e⟩, h.2.2⟩⟩
/-- taking a node that is no root out of its parent's list -/
theorem h1_cut {K : Nat → Int32} {g pc pn pb : Nat → Nat} {T R : Nat → Prop} {x : Nat} (h : h1_W K g T R pc pn pb) (tx : T x) (rx : ¬ R x) : T (pb x) ∧ pn x ≤ 24 ∧ h1_W K g T (fun z => R z ∨ z = x) (if pc (pb x) = x then hs_s pc (pb x) (pn x) else pc) (hs_s (if pc (pb x) = x then pn else hs_s pn (pb x) (pn x)) x 24) (hs_s (hs_s pb (pn x) (pb x)) x 24) := by
  obtain ⟨par, ch, hF, hP⟩ := h
  obtain ⟨tp, bp, gp⟩ := hF.2 x tx rx
  obtain ⟨p1, p2, p3, p4⟩ := hP (par x) tp
  have xm : x ∈ ch (par x) := (p4 x).2 ⟨tx, rx, rfl⟩
  have lt : ∀ z, z ∈ ch (par x) → z < 24 := fun z hz => hF.1 z ((p4 z).1 hz).1
  obtain ⟨l1, l2, el⟩ := List.append_of_mem xm
  rw [el] at p2 p3 lt
  obtain ⟨i1, i2, i3⟩ := h1_ln_cut p2 p3 lt
  have tb : T (pb x) := by
    rcases i1 with ⟨_, e⟩ | ⟨_, e⟩
    · rw [e]; exact tp
    · exact ((p4 (pb x)).1 (by rw [el]; simp [e])).1
  have hc : pc (pb x) = x ↔ l1 = [] := by
    rcases i1 with ⟨e1, e⟩ | ⟨e1, e⟩
    · rw [e, p1, el, e1]; simp [h1_hd]
    · refine ⟨fun e2 => ?_, fun e2 => absurd e2 e1⟩
      exfalso
      have ym : pb x ∈ ch (par x) := by rw [el]; simp [e]
      obtain ⟨y1, y2, y3⟩ := (p4 _).1 ym
      have yb := (hF.2 _ y1 y2).2.1
      rw [y3] at yb
      obtain ⟨q1, q2, q3, q4⟩ := hP _ tb
      have : x ∈ ch (pb x) := by
        rw [q1] at e2
        have ne : ch (pb x) ≠ [] := by
          intro e3; rw [e3] at e2; simp [h1_hd] at e2
          have := hF.1 x tx; omega
        have hm := h1_hd_m ne
        rwa [e2] at hm
      have := ((q4 x).1 this).2.2
      rw [this] at yb
      exact hs_bef_irr yb
  have n24 : pn x ≤ 24 := by
    rw [i2]
    exact (h1_hd_n (fun z hz => lt z (by simp [hz]))).1
  refine ⟨tb, n24, par, hs_s ch (par x) (l1 ++ l2), ⟨hF.1, fun c tc nc => hF.2 c tc (fun r => nc (Or.inl r))⟩, fun y ty => ?_⟩
  obtain ⟨y1, y2, y3, y4⟩ := hP y ty
  have nd := List.perm_middle.nodup p3
  rw [List.nodup_cons] at nd
  by_cases ey : y = par x
  · subst ey
    rw [hs_ss]
    refine ⟨?_, ?_, nd.2, fun c => ?_⟩
    · by_cases e : l1 = []
      · rw [if_pos (hc.2 e)]
        rcases i1 with ⟨_, e'⟩ | ⟨e', _⟩
        · rw [e', hs_ss, i2, e]; rfl
        · exact absurd e e'
      · rw [if_neg (fun h => e (hc.1 h)), y1, el]
        cases l1 with
        | nil => exact absurd rfl e
        | cons a t => rfl
    · refine h1_ln_fr (fun z hz => ?_) i3
      have zx : z ≠ x := fun e => nd.1 (e ▸ hz)
      rw [hs_sn zx, hs_sn zx]
      refine ⟨?_, rfl⟩
      by_cases e : l1 = []
      · rw [if_pos (hc.2 e), if_pos e]
      · rw [if_neg (fun h => e (hc.1 h)), if_neg e]
    · have m1 : c ∈ l1 ++ l2 ↔ c ∈ ch (par x) ∧ c ≠ x := by
        rw [el]
        constructor
        · intro hm
          refine ⟨?_, fun e => nd.1 (e ▸ hm)⟩
          rw [List.mem_append] at hm ⊢
          rw [List.mem_cons]
          exact hm.elim Or.inl (fun h => Or.inr (Or.inr h))
        · intro ⟨hm, hn⟩
          rw [List.mem_append, List.mem_cons] at hm
          rw [List.mem_append]
          exact hm.elim Or.inl (fun h => h.elim (fun h => absurd h hn) Or.inr)
      rw [m1, p4 c]
      exact ⟨fun ⟨⟨x1, x2, x3⟩, x4⟩ => ⟨x1, fun r => r.elim x2 x4, x3⟩, fun ⟨x1, x2, x3⟩ => ⟨⟨x1, fun r => x2 (Or.inl r), x3⟩, fun e => x2 (Or.inr e)⟩⟩
  · rw [hs_sn ey]
    have far : ∀ z, z ∈ ch y → z ∉ ch (par x) := by
      intro z hz hz'
      exact ey (((y4 z).1 hz).2.2.symm.trans ((p4 z).1 hz').2.2)
    refine ⟨?_, h1_ln_fr (fun z hz => ?_) y2, y3, fun c => ?_⟩
    · by_cases e : l1 = []
      · rw [if_pos (hc.2 e)]
        rcases i1 with ⟨_, e'⟩ | ⟨e', _⟩
        · rw [e', hs_sn ey]; exact y1
        · exact absurd e e'
      · rw [if_neg (fun h => e (hc.1 h))]; exact y1
    · have zf := far z hz
      have z24 := hF.1 z ((y4 z).1 hz).1
      rw [el] at zf
      have zx : z ≠ x := fun e => zf (by simp [e])
      rw [hs_sn zx, hs_sn zx]
      constructor
      · by_cases e : l1 = []
        · rw [if_pos (hc.2 e)]
        · rw [if_neg (fun h => e (hc.1 h)), hs_sn]
          rcases i1 with ⟨e', _⟩ | ⟨_, e'⟩
          · exact absurd e' e
          · intro e2; exact zf (by rw [e2]; simp [e'])
      · rw [hs_sn]
        rw [i2]
        intro e2
        by_cases e3 : l2 = []
        · rw [e3] at e2; simp [h1_hd] at e2; omega
        · exact zf (by rw [e2]; simp [h1_hd_m e3])
    · rw [y4 c]
      refine ⟨fun ⟨x1, x2, x3⟩ => ⟨x1, fun r => r.elim x2 (fun e => ey ?_), x3⟩, fun ⟨x1, x2, x3⟩ => ⟨x1, fun r => x2 (Or.inl r), x3⟩⟩
      rw [← x3, e]
theorem h1_new {K : Nat → Int32} {g pc pn pb : Nat → Nat} {T R : Nat → Prop} {x : Nat} (h : h1_W K g T R pc pn pb) (tx : ¬ T x) (hx : x < 24) : h1_W K g (fun z => T z ∨ z = x) (fun z => R z ∨ z = x) (hs_s pc x 24) (hs_s pn x 24) (hs_s pb x 24) := by
  obtain ⟨par, ch, hF, hP⟩ := h
  refine ⟨par, hs_s ch x [], ⟨fun z hz => hz.elim (hF.1 z) (fun e => e ▸ hx), fun c tc nc => ?_⟩, fun y ty => ?_⟩
  · have cx : c ≠ x := fun e => nc (Or.inr e)
    have tc' : T c := tc.elim id (fun e => absurd e cx)
    obtain ⟨a, b⟩ := hF.2 c tc' (fun r => nc (Or.inl r))
    exact ⟨Or.inl a, b⟩
  · by_cases e : y = x
    · rw [e, hs_ss, hs_ss]
      refine ⟨rfl, trivial, List.nodup_nil, fun c => ⟨fun hc => absurd hc (by simp), fun ⟨x1, x2, x3⟩ => ?_⟩⟩
      have cx : c ≠ x := fun e => x2 (Or.inr e)
      have tc' : T c := x1.elim id (fun e => absurd e cx)
      exact absurd (x3 ▸ (hF.2 c tc' (fun r => x2 (Or.inl r))).1) tx
    · have ty' : T y := ty.elim id (fun e' => absurd e' e)
      obtain ⟨y1, y2, y3, y4⟩ := hP y ty'
      have ne : ∀ z, z ∈ ch y → z ≠ x := fun z hz e => tx (e ▸ ((y4 z).1 hz).1)
      rw [hs_sn e, hs_sn e]
      refine ⟨y1, h1_ln_fr (fun z hz => ⟨hs_sn (ne z hz), hs_sn (ne z hz)⟩) y2, y3, fun c => ?_⟩
      constructor
      · intro hc
        obtain ⟨x1, x2, x3⟩ := (y4 c).1 hc
        exact ⟨Or.inl x1, fun r => r.elim x2 (ne c hc), x3⟩
      · intro ⟨x1, x2, x3⟩
        have cx : c ≠ x := fun e => x2 (Or.inr e)
        exact (y4 c).2 ⟨x1.elim id (fun e => absurd e cx), fun r => x2 (Or.inl r), x3⟩
/-- a root leaves; its children become roots -/
theorem h1_free {K : Nat → Int32} {g pc pn pb : Nat → Nat} {T R : Nat → Prop} {x : Nat} (h : h1_W K g T R pc pn pb) (tx : T x) (rx : R x) : ∃ l : List Nat, pc x = h1_hd l ∧ h1_nx pn l ∧ l.Nodup ∧ (∀ c, c ∈ l → T c ∧ ¬ R c ∧ c ≠ x ∧ g c = g x) ∧ h1_W K g (fun z => T z ∧ z ≠ x) (fun z => R z ∨ z ∈ l) pc pn pb := by
  obtain ⟨par, ch, hF, hP⟩ := h
  obtain ⟨x1, x2, x3, x4⟩ := hP x tx
  refine ⟨ch x, x1, h1_ln_nx x2, x3, fun c hc => ?_, par, ch, ⟨fun z hz => hF.1 z hz.1, fun c tc nc => ?_⟩, fun y ty => ?_⟩
  · obtain ⟨c1, c2, c3⟩ := (x4 c).1 hc
    refine ⟨c1, c2, fun e => c2 (e ▸ rx), ?_⟩
    have := (hF.2 c c1 c2).2.2
    rw [c3] at this; exact this.symm
  · have nr : ¬ R c := fun r => nc (Or.inl r)
    obtain ⟨a, b⟩ := hF.2 c tc.1 nr
    exact ⟨⟨a, fun e => nc (Or.inr ((x4 c).2 ⟨tc.1, nr, e⟩))⟩, b⟩
  · obtain ⟨y1, y2, y3, y4⟩ := hP y ty.1
    refine ⟨y1, y2, y3, fun c => ?_⟩
    rw [y4 c]
    constructor
    · intro ⟨a, b, d⟩
      refine ⟨⟨a, fun e => b (e ▸ rx)⟩, fun r => r.elim b (fun hm => ?_), d⟩
      exact ty.2 (d.symm.trans ((x4 c).1 hm).2.2)
    · intro ⟨a, b, d⟩
      exact ⟨a.1, fun r => b (Or.inl r), d⟩
end
section
/-! engine 1: the walks -/
section
variable {st : Nat} {K A : Nat → Int32} {sz hp pl pr pc pn pb rF rI rN rU rC rX rP rD gF gC gL gR gP gD gM gO lr ll lR lp lk wn sk : Nat → Nat}
/-- pair: nothing, one, or two trees -/
theorem h1_pair {post : Int32 → SX → Prop} {g : Nat → Nat} {T R : Nat → Prop} {a' b' : Int32} (a b : Nat) (h : h1_W K g T R pc pn pb) (ha : a = 24 ∨ (T a ∧ R a)) (hb : b = 24 ∨ (T b ∧ R b)) (hab : a ≠ 24 → b ≠ 24 → a ≠ b ∧ g a = g b) (hpost : ∀ r pc' pn' pb', (a = 24 → r = b) → (a ≠ 24 → b = 24 → r = a) → (a ≠ 24 → b ≠ 24 → r = a ∨ r = b) → h1_W K g T (fun z => R z ∧ (z = a ∨ z = b → z = r)) pc' pn' pb' → (∀ z, z ≠ a → z ≠ b → pn' z = pn z) → post (nI r) ((nI st), K, A, (hs_A sz), (hs_A hp), (hs_A pl), (hs_A pr), (hs_A pc'), (hs_A pn'), (hs_A pb'), (hs_A rF), (hs_A rI), (hs_A rN), (hs_A rU), (hs_A rC), (hs_A rX), (hs_A rP), (hs_A rD), (hs_A gF), (hs_A gC), (hs_A gL), (hs_A gR), (hs_A gP), (hs_A gD), (hs_A gM), (hs_A gO), (hs_A lr), (hs_A ll), (hs_A lR), (hs_A lp), (hs_A lk), (hs_A wn), (hs_A sk))) (ea : a' = nI a := by rfl) (eb : b' = nI b := by rfl) : wpX_pair post ((nI st), K, A, (hs_A sz), (hs_A hp), (hs_A pl), (hs_A pr), (hs_A pc), (hs_A pn), (hs_A pb), (hs_A rF), (hs_A rI), (hs_A rN), (hs_A rU), (hs_A rC), (hs_A rX), (hs_A rP), (hs_A rD), (hs_A gF), (hs_A gC), (hs_A gL), (hs_A gR), (hs_A gP), (hs_A gD), (hs_A gM), (hs_A gO), (hs_A lr), (hs_A ll), (hs_A lR), (hs_A lp), (hs_A lk), (hs_A wn), (hs_A sk)) a' b' := by
  subst ea; subst eb
  have lt : ∀ z, T z → z < 24 := by
    obtain ⟨par, ch, hF, hP⟩ := h; exact hF.1
  have a24 : a ≤ 24 := by
    rcases ha with e | e
    · omega
    · have := lt a e.1; omega
  have b24 : b ≤ 24 := by
    rcases hb with e | e
    · omega
    · have := lt b e.1; omega
  unfold wpX_pair
  dsimp only
  refine pk_eq a 24 (fun e => ?_) (fun e => pk_eq b 24 (fun e' => ?_) (fun e' => ?_))
  · unfold wX_pair_12
    refine pk_eq a 24 (fun _ => ?_) (fun n => absurd e n)
    refine hpost b pc pn pb (fun _ => rfl) (fun n => absurd e n) (fun n => absurd e n) (h1_W_R h (fun z tz => ⟨fun r => ⟨r, fun o => ?_⟩, fun r => r.1⟩)) (fun _ _ _ => rfl)
    have := lt z tz
    omega
  · unfold wX_pair_12
    refine pk_eq a 24 (fun n => absurd n e) (fun _ => ?_)
    refine hpost a pc pn pb (fun n => absurd n e) (fun _ _ => rfl) (fun _ n => absurd e' n) (h1_W_R h (fun z tz => ⟨fun r => ⟨r, fun o => ?_⟩, fun r => r.1⟩)) (fun _ _ _ => rfl)
    have := lt z tz
    omega
  · obtain ⟨ta, ra⟩ := ha.resolve_left e
    obtain ⟨tb, rb⟩ := hb.resolve_left e'
    obtain ⟨ab, gab⟩ := hab e e'
    have go : ∀ t u, T t → T u → R t → R u → g t = g u → hs_bef K t u → ((t = a ∧ u = b) ∨ (t = b ∧ u = a)) → wX_pair_49 post (nI t) (nI u) (nI st) K A (hs_A sz) (hs_A hp) (hs_A pl) (hs_A pr) (hs_A pc) (hs_A pn) (hs_A pb) (hs_A rF) (hs_A rI) (hs_A rN) (hs_A rU) (hs_A rC) (hs_A rX) (hs_A rP) (hs_A rD) (hs_A gF) (hs_A gC) (hs_A gL) (hs_A gR) (hs_A gP) (hs_A gD) (hs_A gM) (hs_A gO) (hs_A lr) (hs_A ll) (hs_A lR) (hs_A lp) (hs_A lk) (hs_A wn) (hs_A sk) := by
      intro t u tt tu rt ru gtu btu ho
      have t24 := lt t tt
      have u24 := lt u tu
      have c24 := h1_pc h tt
      unfold wX_pair_49
      refine hs_r t (by omega) (hs_w u (pc t) (by omega) (by omega) (hs_w (pc t) u (by omega) (by omega) (hs_w u t (by omega) (by omega) (hs_w t u (by omega) (by omega) ?_))))
      refine hpost t _ _ _ (fun n => absurd n e) (fun _ n => absurd n e') (fun _ _ => by omega) (h1_W_R (h1_link h tt tu rt ru gtu btu) (fun z tz => ⟨fun r => ⟨r.1, fun o => ?_⟩, fun r => ⟨r.1, fun ez => ?_⟩⟩)) (fun z n1 n2 => hs_sn (by omega))
      · have := r.2; omega
      · have := r.2 (by omega)
        have := hs_bef_ne btu
        omega
    refine hs_cbb a b (by omega) (by omega) (fun hlt => ?_) (fun hlt => ?_)
    · unfold wX_pair_38
      exact pk_eq a a (fun _ => go a b ta tb ra rb gab hlt (Or.inl ⟨rfl, rfl⟩)) (fun n => absurd rfl n)
    · unfold wX_pair_38
      exact pk_eq b a (fun n => absurd n.symm ab) (fun _ => go b a tb ta rb ra gab.symm (hs_bef_tot hlt ab) (Or.inr ⟨rfl, rfl⟩))
theorem h1_cutw {post : SX → Prop} {K0 : Nat → Int32} {g : Nat → Nat} {T R : Nat → Prop} {x' : Int32} (x : Nat) (h : h1_W K0 g T R pc pn pb) (tx : T x) (rx : ¬ R x) (hpost : ∀ pc' pn' pb', h1_W K0 g T (fun z => R z ∨ z = x) pc' pn' pb' → post ((nI st), K, A, (hs_A sz), (hs_A hp), (hs_A pl), (hs_A pr), (hs_A pc'), (hs_A pn'), (hs_A pb'), (hs_A rF), (hs_A rI), (hs_A rN), (hs_A rU), (hs_A rC), (hs_A rX), (hs_A rP), (hs_A rD), (hs_A gF), (hs_A gC), (hs_A gL), (hs_A gR), (hs_A gP), (hs_A gD), (hs_A gM), (hs_A gO), (hs_A lr), (hs_A ll), (hs_A lR), (hs_A lp), (hs_A lk), (hs_A wn), (hs_A sk))) (ex : x' = nI x := by rfl) : wpX_cutPair post ((nI st), K, A, (hs_A sz), (hs_A hp), (hs_A pl), (hs_A pr), (hs_A pc), (hs_A pn), (hs_A pb), (hs_A rF), (hs_A rI), (hs_A rN), (hs_A rU), (hs_A rC), (hs_A rX), (hs_A rP), (hs_A rD), (hs_A gF), (hs_A gC), (hs_A gL), (hs_A gR), (hs_A gP), (hs_A gD), (hs_A gM), (hs_A gO), (hs_A lr), (hs_A ll), (hs_A lR), (hs_A lp), (hs_A lk), (hs_A wn), (hs_A sk)) x' := by
  subst ex
  have lt : ∀ z, T z → z < 24 := by
    obtain ⟨par, ch, hF, hP⟩ := h; exact hF.1
  have x24 := lt x tx
  obtain ⟨tb, n24, hW⟩ := h1_cut h tx rx
  have b24 := lt _ tb
  have c24 := h1_pc h tb
  unfold wpX_cutPair
  dsimp only
  refine hs_r x (by omega) (hs_r x (by omega) ?_)
  refine hs_in (pb x) (by omega) ?_
  refine pk_eq (pc (pb x)) x (fun e => ?_) (fun e => ?_) (hs_rd _ (by omega)) rfl
  · rw [if_pos e, if_pos e] at hW
    refine hs_w (pb x) (pn x) (by omega) (by omega) ?_
    unfold wX_cutPair_43
    refine hs_w (pn x) (pb x) (by omega) (by omega) (hs_wn x 24 (by omega) (by omega) (hs_wn x 24 (by omega) (by omega) ?_))
    exact hpost _ _ _ hW
  · rw [if_neg e, if_neg e] at hW
    refine hs_w (pb x) (pn x) (by omega) (by omega) ?_
    unfold wX_cutPair_43
    refine hs_w (pn x) (pb x) (by omega) (by omega) (hs_wn x 24 (by omega) (by omega) (hs_wn x 24 (by omega) (by omega) ?_))
    exact hpost _ _ _ hW
/-- the second loop of pairChildren: m is the tree so far, stk what is stacked -/
theorem h1_loop2 {post : Int32 → SX → Prop} {g : Nat → Nat} {T R0 : Nat → Prop} {x q : Nat} (hx : x < 24) (tx : ¬ T x) (hpost : ∀ st' sk' r pc' pn' pb', (r = 24 ∨ (T r ∧ ¬ R0 r ∧ g r = q)) → h1_W K g T (fun z => R0 z ∨ z = r) pc' pn' pb' → post (nI r) ((nI (st')), K, A, (hs_A sz), (hs_A hp), (hs_A pl), (hs_A pr), (hs_A pc'), (hs_A pn'), (hs_A pb'), (hs_A rF), (hs_A rI), (hs_A rN), (hs_A rU), (hs_A rC), (hs_A rX), (hs_A rP), (hs_A rD), (hs_A gF), (hs_A gC), (hs_A gL), (hs_A gR), (hs_A gP), (hs_A gD), (hs_A gM), (hs_A gO), (hs_A lr), (hs_A ll), (hs_A lR), (hs_A lp), (hs_A lk), (hs_A wn), (hs_A sk'))) : ∀ (stk : List Nat) (m : Nat) (sk pc pn pb : Nat → Nat), hs_K sk stk → stk.Nodup → (∀ z, z ∈ stk → T z ∧ ¬ R0 z ∧ g z = q ∧ z ≠ m) → stk.length ≤ 64 → (m = 24 ∨ (T m ∧ ¬ R0 m ∧ g m = q)) → h1_W K g T (fun z => R0 z ∨ z ∈ stk ∨ z = m) pc pn pb → wX_pairChildren_105 post (nI x) (stk.length + 1) (nI m) (nI (stk.length)) K A (hs_A sz) (hs_A hp) (hs_A pl) (hs_A pr) (hs_A pc) (hs_A pn) (hs_A pb) (hs_A rF) (hs_A rI) (hs_A rN) (hs_A rU) (hs_A rC) (hs_A rX) (hs_A rP) (hs_A rD) (hs_A gF) (hs_A gC) (hs_A gL) (hs_A gR) (hs_A gP) (hs_A gD) (hs_A gM) (hs_A gO) (hs_A lr) (hs_A ll) (hs_A lR) (hs_A lp) (hs_A lk) (hs_A wn) (hs_A sk) := by
  intro stk
  induction stk with
  | nil =>
    intro m sk pc pn pb hk hd hz hl hm hW
    have lt : ∀ z, T z → z < 24 := by
      obtain ⟨par, ch, hF, hP⟩ := hW; exact hF.1
    rw [wX_pairChildren_105]
    refine br_t (by decide) ?_
    have hW' : h1_W K g T (fun z => R0 z ∨ z = m) pc pn pb := h1_W_R hW (fun z _ => by simp)
    refine pk_eq m 24 (fun e => ?_) (fun e => ?_) rfl rfl (by
      rcases hm with e | e
      · omega
      · have := lt m e.1
        omega)
    · refine hs_wn x 24 (by omega) (by omega) ?_
      exact hpost 0 sk m _ _ _ hm (h1_W_fr hW' (fun z tz => hs_sn (fun e => tx (e ▸ tz))) (fun z _ _ => ⟨rfl, rfl⟩))
    · have tm := hm.resolve_left e
      have m24 := lt m tm.1
      refine hs_wn m 24 (by omega) (by omega) (hs_wn x 24 (by omega) (by omega) ?_)
      exact hpost 0 sk m _ _ _ hm (h1_W_fr hW' (fun z tz => hs_sn (fun e => tx (e ▸ tz))) (fun z _ nr => ⟨rfl, hs_sn (fun e => nr (Or.inr e))⟩))
  | cons y stk ih =>
    intro m sk pc pn pb hk hd hz hl hm hW
    have lt : ∀ z, T z → z < 24 := by
      obtain ⟨par, ch, hF, hP⟩ := hW; exact hF.1
    rw [List.nodup_cons] at hd
    obtain ⟨ty, ny, gy, ym⟩ := hz y (by simp)
    rw [List.length_cons] at hl
    rw [wX_pairChildren_105, List.length_cons]
    refine br_f (nI_nle (by omega) (by omega)) (nm_r (nI_pred _) ?_)
    refine hs_in stk.length (by omega) ?_
    refine h1_pair m y hW (hm.imp id (fun h => ⟨h.1, Or.inr (Or.inr rfl)⟩)) (Or.inr ⟨ty, Or.inr (Or.inl (by simp))⟩) (fun e _ => ⟨Ne.symm ym, by rw [gy]; exact (hm.resolve_left e).2.2⟩) (fun r pc' pn' pb' h1 h2 h3 hW' hfr => ?_) rfl ?_
    · dsimp only
      have y24 := lt y ty
      have hr : r = y ∨ (m ≠ 24 ∧ r = m) := by
        by_cases e : m = 24
        · exact Or.inl (h1 e)
        · rcases h3 e (by omega) with o | o
          · exact Or.inr ⟨e, o⟩
          · exact Or.inl o
      have tr : T r ∧ ¬ R0 r ∧ g r = q := by
        rcases hr with e | ⟨e, e'⟩
        · rw [e]; exact ⟨ty, ny, gy⟩
        · rw [e']; exact hm.resolve_left e
      refine ih r sk pc' pn' pb' hk.2 hd.2 (fun z hz' => ?_) (by omega) (Or.inr tr) (h1_W_R hW' (fun z tz => ?_))
      · obtain ⟨z1, z2, z3, z4⟩ := hz z (by simp [hz'])
        refine ⟨z1, z2, z3, fun e => ?_⟩
        rcases hr with e' | ⟨_, e'⟩
        · exact hd.1 (by rw [← e', ← e]; exact hz')
        · exact z4 (e.trans e')
      · constructor
        · intro ⟨o, o2⟩
          rcases o with o | o | o
          · exact Or.inl o
          · rcases List.mem_cons.1 o with o | o
            · exact Or.inr (Or.inr (o2 (Or.inr o)))
            · exact Or.inr (Or.inl o)
          · exact Or.inr (Or.inr (o2 (Or.inl o)))
        · intro o
          rcases o with o | o | o
          · refine ⟨Or.inl o, fun o' => ?_⟩
            rcases o' with e | e
            · rcases hm with e' | ⟨_, e', _⟩
              · have := lt z tz; omega
              · rw [e] at o; exact absurd o e'
            · rw [e] at o; exact absurd o ny
          · obtain ⟨z1, z2, z3, z4⟩ := hz z (by simp [o])
            refine ⟨Or.inr (Or.inl (by simp [o])), fun o' => ?_⟩
            rcases o' with e | e
            · exact absurd e z4
            · rw [e] at o; exact absurd o hd.1
          · refine ⟨?_, fun _ => o⟩
            rcases hr with e | ⟨_, e⟩
            · exact Or.inr (Or.inl (by simp [o, e]))
            · exact Or.inr (Or.inr (o.trans e))
    · rw [hs_rd stk.length (by omega), hk.1]
/-- the first loop of pairChildren -/
theorem h1_loop1 {post : Int32 → SX → Prop} {g : Nat → Nat} {T R0 : Nat → Prop} {x q : Nat} (hx : x < 24) (tx : ¬ T x) (hpost : ∀ st' sk' r pc' pn' pb', (r = 24 ∨ (T r ∧ ¬ R0 r ∧ g r = q)) → h1_W K g T (fun z => R0 z ∨ z = r) pc' pn' pb' → post (nI r) ((nI (st')), K, A, (hs_A sz), (hs_A hp), (hs_A pl), (hs_A pr), (hs_A pc'), (hs_A pn'), (hs_A pb'), (hs_A rF), (hs_A rI), (hs_A rN), (hs_A rU), (hs_A rC), (hs_A rX), (hs_A rP), (hs_A rD), (hs_A gF), (hs_A gC), (hs_A gL), (hs_A gR), (hs_A gP), (hs_A gD), (hs_A gM), (hs_A gO), (hs_A lr), (hs_A ll), (hs_A lR), (hs_A lp), (hs_A lk), (hs_A wn), (hs_A sk'))) : ∀ (n : Nat) (l stk : List Nat) (sk pc pn pb : Nat → Nat), l.length < n → hs_K sk stk → (l ++ stk).Nodup → (∀ z, z ∈ l ++ stk → T z ∧ ¬ R0 z ∧ g z = q) → h1_nx pn l → h1_W K g T (fun z => R0 z ∨ z ∈ l ∨ z ∈ stk) pc pn pb → wX_pairChildren_12 post (nI x) n (nI (h1_hd l)) (nI (stk.length)) K A (hs_A sz) (hs_A hp) (hs_A pl) (hs_A pr) (hs_A pc) (hs_A pn) (hs_A pb) (hs_A rF) (hs_A rI) (hs_A rN) (hs_A rU) (hs_A rC) (hs_A rX) (hs_A rP) (hs_A rD) (hs_A gF) (hs_A gC) (hs_A gL) (hs_A gR) (hs_A gP) (hs_A gD) (hs_A gM) (hs_A gO) (hs_A lr) (hs_A ll) (hs_A lR) (hs_A lp) (hs_A lk) (hs_A wn) (hs_A sk) := by
  intro n
  induction n with
  | zero => intro l stk sk pc pn pb h; omega
  | succ n ih =>
    intro l stk sk pc pn pb hn hk hd hz hx1 hW
    have lt : ∀ z, T z → z < 24 := by
      obtain ⟨par, ch, hF, hP⟩ := hW; exact hF.1
    have len := hs_len (n := 24) hd (fun z hz' => lt z (hz z hz').1)
    rw [List.length_append] at len
    rw [wX_pairChildren_12]
    cases l with
    | nil =>
      refine br_t rfl ⟨_, h1_loop2 hx tx hpost stk 24 sk pc pn pb hk hd (fun z hz' => ?_) (by omega) (Or.inl rfl) (h1_W_R hW (fun z tz => ?_))⟩
      · obtain ⟨a, b, c⟩ := hz z hz'
        have := lt z a
        exact ⟨a, b, c, by omega⟩
      · have := lt z tz
        constructor
        · intro o
          rcases o with o | o | o
          · exact Or.inl o
          · simp at o
          · exact Or.inr (Or.inl o)
        · intro o
          rcases o with o | o | o
          · exact Or.inl o
          · exact Or.inr (Or.inr o)
          · omega
    | cons a t =>
      obtain ⟨ta, na, ga⟩ := hz a (by simp)
      have a24 := lt a ta
      rw [List.length_cons] at hn len
      have push : ∀ (b r : Nat) (t' : List Nat) (pn1 : Nat → Nat), True := fun _ _ _ _ => trivial
      refine pk_eq a 24 (fun e => by omega) (fun _ => ?_)
      refine hs_r a (by omega) ?_
      obtain ⟨x1, x2⟩ := hx1
      rw [x1]
      cases t with
      | nil =>
        refine br_t rfl ?_
        unfold wX_pairChildren_42
        refine hs_wn a 24 (by omega) (by omega) (br_t rfl ?_)
        unfold wX_pairChildren_66
        have hW1 := h1_W_fr (pn' := hs_s pn a 24) hW (fun z _ => rfl) (fun z _ nr => ⟨hs_sn (fun e => nr (Or.inr (Or.inl (by simp [e])))), rfl⟩)
        refine h1_pair a 24 hW1 (Or.inr ⟨ta, Or.inr (Or.inl (by simp))⟩) (Or.inl rfl) (fun _ n => absurd rfl n) (fun r pc' pn' pb' h1 h2 h3 hW' hfr => ?_)
        dsimp only
        have er := h2 (by omega) rfl
        subst er
        refine hs_w stk.length r (by simp at len; omega) (by omega) (nm_r (nI_1 _) ?_)
        refine ih [] (r :: stk) _ pc' pn' pb' (by simp; omega) (hs_K_push hk) (by simpa using hd) (fun z hz' => hz z (by simpa using hz')) trivial (h1_W_R hW' (fun z tz => ?_))
        have := lt z tz
        simp only [List.mem_cons, List.not_mem_nil, or_false, false_or]
        constructor
        · intro ⟨o, _⟩
          rcases o with o | o | o
          · exact Or.inl o
          · exact Or.inr (Or.inl o)
          · exact Or.inr (Or.inr o)
        · intro o
          refine ⟨?_, fun o' => by omega⟩
          rcases o with o | o | o
          · exact Or.inl o
          · exact Or.inr (Or.inl o)
          · exact Or.inr (Or.inr o)
      | cons b t =>
        obtain ⟨tb, nb, gb⟩ := hz b (by simp)
        have b24 := lt b tb
        rw [List.length_cons] at hn len
        have hd' : (a :: b :: (t ++ stk)).Nodup := hd
        rw [List.nodup_cons, List.nodup_cons] at hd'
        have ab : a ≠ b := fun e => hd'.1 (by simp [e])
        obtain ⟨x3, x4⟩ := x2
        have t24 : h1_hd t ≤ 24 := (h1_hd_n (fun z hz' => lt z (hz z (by simp [hz'])).1)).1
        refine pk_eq b 24 (fun e => by omega) (fun _ => ?_)
        refine hs_in b (by omega) ?_
        rw [hs_rd b (by omega), x3]
        unfold wX_pairChildren_42
        refine hs_wn a 24 (by omega) (by omega) ?_
        refine pk_eq b 24 (fun e => by omega) (fun _ => ?_)
        refine hs_wn b 24 (by omega) (by omega) ?_
        unfold wX_pairChildren_66
        have hW1 := h1_W_fr (pn' := hs_s (hs_s pn a 24) b 24) hW (fun z _ => rfl) (fun z _ nr => ⟨by rw [hs_sn (fun e => nr (Or.inr (Or.inl (by simp [e])))), hs_sn (fun e => nr (Or.inr (Or.inl (by simp [e]))))], rfl⟩)
        refine h1_pair a b hW1 (Or.inr ⟨ta, Or.inr (Or.inl (by simp))⟩) (Or.inr ⟨tb, Or.inr (Or.inl (by simp))⟩) (fun _ _ => ⟨ab, ga.trans gb.symm⟩) (fun r pc' pn' pb' h1 h2 h3 hW' hfr => ?_)
        dsimp only
        have er := h3 (by omega) (by omega)
        have rm : r ∉ t ++ stk := by
          rcases er with e | e
          · rw [e]; exact fun hm => hd'.1 (by simp; simp at hm; exact Or.inr hm)
          · rw [e]; exact hd'.2.1
        have tr : T r ∧ ¬ R0 r ∧ g r = q := by
          rcases er with e | e
          · rw [e]; exact ⟨ta, na, ga⟩
          · rw [e]; exact ⟨tb, nb, gb⟩
        have r24 := lt r tr.1
        refine hs_w stk.length r (by omega) (by omega) (nm_r (nI_1 _) ?_)
        refine ih t (r :: stk) _ pc' pn' pb' (by omega) (hs_K_push hk) ?_ (fun z hz' => ?_) (h1_nx_fr (fun z hz' => ?_) x4) (h1_W_R hW' (fun z tz => ?_))
        · exact (List.perm_middle.nodup_iff).2 (List.nodup_cons.2 ⟨rm, hd'.2.2⟩)
        · rw [List.mem_append, List.mem_cons] at hz'
          rcases hz' with o | o | o
          · exact hz z (by simp [o])
          · rw [o]; exact tr
          · exact hz z (by simp [o])
        · have za : z ≠ a := fun e => hd'.1 (by simp [← e, hz'])
          have zb : z ≠ b := fun e => hd'.2.1 (by simp [← e, hz'])
          rw [hfr z za zb, hs_sn zb, hs_sn za]
        · simp only [List.mem_cons]
          constructor
          · intro ⟨o, o2⟩
            rcases o with o | (o | o | o) | o
            · exact Or.inl o
            · exact Or.inr (Or.inr (Or.inl (o2 (Or.inl o))))
            · exact Or.inr (Or.inr (Or.inl (o2 (Or.inr o))))
            · exact Or.inr (Or.inl o)
            · exact Or.inr (Or.inr (Or.inr o))
          · intro o
            have out : z ∈ t ++ stk → (z = a ∨ z = b → z = r) := by
              intro hm o'
              rcases o' with e | e
              · exact absurd (by rw [← e]; simp; simp at hm; exact Or.inr hm) hd'.1
              · exact absurd (by rw [← e]; exact hm) hd'.2.1
            rcases o with o | o | o | o
            · refine ⟨Or.inl o, fun o' => ?_⟩
              rcases o' with e | e
              · rw [e] at o; exact absurd o na
              · rw [e] at o; exact absurd o nb
            · exact ⟨Or.inr (Or.inl (Or.inr (Or.inr o))), out (by simp [o])⟩
            · refine ⟨?_, fun _ => o⟩
              rcases er with e | e
              · exact Or.inr (Or.inl (Or.inl (o.trans e)))
              · exact Or.inr (Or.inl (Or.inr (Or.inl (o.trans e))))
            · exact ⟨Or.inr (Or.inr o), out (by simp [o])⟩
theorem h1_children {post : Int32 → SX → Prop} {g : Nat → Nat} {T R : Nat → Prop} {x' : Int32} (x : Nat) (h : h1_W K g T R pc pn pb) (tx : T x) (rx : R x) (hpost : ∀ st' sk' r pc' pn' pb', (r = 24 ∨ (T r ∧ r ≠ x ∧ ¬ R r ∧ g r = g x)) → h1_W K g (fun z => T z ∧ z ≠ x) (fun z => R z ∨ z = r) pc' pn' pb' → post (nI r) ((nI (st')), K, A, (hs_A sz), (hs_A hp), (hs_A pl), (hs_A pr), (hs_A pc'), (hs_A pn'), (hs_A pb'), (hs_A rF), (hs_A rI), (hs_A rN), (hs_A rU), (hs_A rC), (hs_A rX), (hs_A rP), (hs_A rD), (hs_A gF), (hs_A gC), (hs_A gL), (hs_A gR), (hs_A gP), (hs_A gD), (hs_A gM), (hs_A gO), (hs_A lr), (hs_A ll), (hs_A lR), (hs_A lp), (hs_A lk), (hs_A wn), (hs_A sk'))) (ex : x' = nI x := by rfl) : wpX_pairChildren post ((nI st), K, A, (hs_A sz), (hs_A hp), (hs_A pl), (hs_A pr), (hs_A pc), (hs_A pn), (hs_A pb), (hs_A rF), (hs_A rI), (hs_A rN), (hs_A rU), (hs_A rC), (hs_A rX), (hs_A rP), (hs_A rD), (hs_A gF), (hs_A gC), (hs_A gL), (hs_A gR), (hs_A gP), (hs_A gD), (hs_A gM), (hs_A gO), (hs_A lr), (hs_A ll), (hs_A lR), (hs_A lp), (hs_A lk), (hs_A wn), (hs_A sk)) x' := by
  subst ex
  have lt : ∀ z, T z → z < 24 := by
    obtain ⟨par, ch, hF, hP⟩ := h; exact hF.1
  have x24 := lt x tx
  obtain ⟨l, l1, l2, l3, l4, hW⟩ := h1_free h tx rx
  unfold wpX_pairChildren
  dsimp only
  refine hs_r x (by omega) ⟨l.length + 1, ?_⟩
  rw [l1]
  refine h1_loop1 (R0 := R) (q := g x) x24 (fun t => t.2 rfl) (fun st' sk' r pc' pn' pb' hr hW' => hpost st' sk' r pc' pn' pb' (hr.imp id (fun h => ⟨h.1.1, h.1.2, h.2⟩)) hW') _ l [] sk pc pn pb (Nat.lt_succ_self _) trivial (by simpa using l3) (fun z hz => ?_) l2 (h1_W_R hW (fun z _ => by simp))
  obtain ⟨a, b, c, d⟩ := l4 z (by simpa using hz)
  exact ⟨⟨a, c⟩, b, d⟩
end
def h1_I (K : Nat → Int32) (Q pr pc pn pb : Nat → Nat) : Prop := hs_RQ Q pr ∧ h1_W K Q (hs_T Q) (hs_R Q pr) pc pn pb
theorem h1_first {K : Nat → Int32} {Q pr pc pn pb : Nat → Nat} (h : h1_I K Q pr pc pn pb) {q : Nat} (hq : q < 4) : hs_min K Q q (pr q) := by
  obtain ⟨hr, par, ch, hF, hP⟩ := h
  exact hs_RQ_min hr hF hq
end
section
/-! engine 1: the operations -/
theorem hs_T_add {Q : Nat → Nat} {x q : Nat} (hx : x < 24) : (fun z => hs_T Q z ∨ z = x) = hs_T (hs_s Q x (q + 1)) := by
  funext z; apply propext; unfold hs_T
  by_cases e : z = x
  · rw [hs_se e, e]; exact ⟨fun _ => ⟨hx, by omega⟩, fun _ => Or.inr rfl⟩
  · rw [hs_sn e]; exact ⟨fun h => h.resolve_right e, Or.inl⟩
theorem hs_T_rem {Q : Nat → Nat} {x : Nat} : (fun z => hs_T Q z ∧ z ≠ x) = hs_T (hs_s Q x 0) := by
  funext z; apply propext; unfold hs_T
  by_cases e : z = x
  · rw [hs_se e, e]; exact ⟨fun h => absurd rfl h.2, fun h => absurd rfl h.2⟩
  · rw [hs_sn e]; exact ⟨fun h => h.1, fun h => ⟨h, e⟩⟩
theorem h1_I_K {K K' : Nat → Int32} {Q pr pc pn pb : Nat → Nat} (h : h1_I K Q pr pc pn pb) (hK : ∀ j, hs_T Q j → K' j = K j) : h1_I K' Q pr pc pn pb := by
  obtain ⟨hr, par, ch, hF, hP⟩ := h
  refine ⟨hr, par, ch, ⟨hF.1, fun c tc nc => ?_⟩, hP⟩
  obtain ⟨a, b, d⟩ := hF.2 c tc nc
  refine ⟨a, ?_, d⟩
  unfold hs_bef at *
  rw [hK _ a, hK _ tc]; exact b
section
variable {st : Nat} {K A : Nat → Int32} {sz hp pl pr pc pn pb rF rI rN rU rC rX rP rD gF gC gL gR gP gD gM gO lr ll lR lp lk wn sk : Nat → Nat}
theorem h1_add {post : SX → Prop} {Q : Nat → Nat} {q' x' : Int32} (q x : Nat) (hq : q < 4) (hx : x < 24) (hI : h1_I K Q pr pc pn pb) (hQx : Q x = 0) (hpost : ∀ pr' pc' pn' pb', h1_I K (hs_s Q x (q + 1)) pr' pc' pn' pb' → post ((nI st), K, A, (hs_A sz), (hs_A hp), (hs_A pl), (hs_A pr'), (hs_A pc'), (hs_A pn'), (hs_A pb'), (hs_A rF), (hs_A rI), (hs_A rN), (hs_A rU), (hs_A rC), (hs_A rX), (hs_A rP), (hs_A rD), (hs_A gF), (hs_A gC), (hs_A gL), (hs_A gR), (hs_A gP), (hs_A gD), (hs_A gM), (hs_A gO), (hs_A lr), (hs_A ll), (hs_A lR), (hs_A lp), (hs_A lk), (hs_A wn), (hs_A sk))) (eq : q' = nI q := by rfl) (ex : x' = nI x := by rfl) : wpX_addToPairs post ((nI st), K, A, (hs_A sz), (hs_A hp), (hs_A pl), (hs_A pr), (hs_A pc), (hs_A pn), (hs_A pb), (hs_A rF), (hs_A rI), (hs_A rN), (hs_A rU), (hs_A rC), (hs_A rX), (hs_A rP), (hs_A rD), (hs_A gF), (hs_A gC), (hs_A gL), (hs_A gR), (hs_A gP), (hs_A gD), (hs_A gM), (hs_A gO), (hs_A lr), (hs_A ll), (hs_A lR), (hs_A lp), (hs_A lk), (hs_A wn), (hs_A sk)) q' x' := by
  subst eq; subst ex
  obtain ⟨hr, hW⟩ := hI
  have ntx : ¬ hs_T Q x := fun h => h.2 hQx
  have hW1 := h1_new hW ntx hx
  rw [hs_T_add (q := q) hx] at hW1
  have hW2 := h1_W_g (g' := hs_s Q x (q + 1)) hW1 (fun z z' tz tz' e => by
    unfold hs_T hs_s at *
    by_cases e1 : z = x <;> by_cases e2 : z' = x <;> simp_all)
  have rq := hr q hq
  have r24 : pr q ≤ 24 := by omega
  unfold wpX_addToPairs
  dsimp only
  refine hs_wn x 24 (by omega) (by omega) (hs_wn x 24 (by omega) (by omega) (hs_wn x 24 (by omega) (by omega) (hs_in q hq ?_)))
  have tq : pr q ≠ 24 → hs_T (hs_s Q x (q + 1)) (pr q) ∧ hs_R Q pr (pr q) ∧ pr q ≠ x := by
    intro e
    have := rq.resolve_left e
    have ne : pr q ≠ x := fun e' => by rw [e'] at this; omega
    refine ⟨⟨this.1, by rw [hs_sn ne]; omega⟩, ?_, ne⟩
    unfold hs_R; rw [this.2]; rfl
  refine h1_pair (pr q) x hW2 ?_ (Or.inr ⟨⟨hx, by rw [hs_ss]; omega⟩, Or.inr rfl⟩) (fun e _ => ?_) (fun r pc' pn' pb' h1 h2 h3 hW' hfr => ?_) (hs_rd q (by omega)) rfl
  · by_cases e : pr q = 24
    · exact Or.inl e
    · exact Or.inr ⟨(tq e).1, Or.inl (tq e).2.1⟩
  · refine ⟨(tq e).2.2, ?_⟩
    rw [hs_sn (tq e).2.2, hs_ss]; exact (rq.resolve_left e).2
  · dsimp only
    have rr : r = x ∨ (pr q ≠ 24 ∧ r = pr q) := by
      by_cases e : pr q = 24
      · exact Or.inl (h1 e)
      · rcases h3 e (by omega) with o | o
        · exact Or.inr ⟨e, o⟩
        · exact Or.inl o
    refine hs_w q r hq (by omega) (hpost _ _ _ _ ⟨fun p hp => ?_, h1_W_R hW' (fun z tz => ?_)⟩)
    · by_cases e : p = q
      · rw [hs_se e]
        rcases rr with o | ⟨o, o'⟩
        · rw [o, hs_ss, e]; exact Or.inr ⟨hx, rfl⟩
        · rw [o', hs_sn (tq o).2.2, e]; exact Or.inr (rq.resolve_left o)
      · rw [hs_sn e]
        rcases hr p hp with o | ⟨o, o'⟩
        · exact Or.inl o
        · have ne : pr p ≠ x := fun e' => by rw [e'] at o'; omega
          rw [hs_sn ne]; exact Or.inr ⟨o, o'⟩
    · unfold hs_R
      by_cases e : z = x
      · rw [e, hs_ss, Nat.add_sub_cancel, hs_ss]
        exact ⟨fun h => (h.2 (Or.inr rfl)).symm, fun h => ⟨Or.inr rfl, fun _ => h.symm⟩⟩
      · rw [hs_sn e]
        have z0 : Q z ≠ 0 := by have := tz.2; rwa [hs_sn e] at this
        by_cases e' : Q z - 1 = q
        · rw [e', hs_ss]
          constructor
          · intro ⟨o, o2⟩
            exact (o2 (Or.inl (o.resolve_right e).symm)).symm
          · intro o
            rcases rr with o' | ⟨_, o'⟩
            · omega
            · exact ⟨Or.inl (o'.symm.trans o), fun _ => o.symm⟩
        · rw [hs_sn e']
          constructor
          · intro ⟨o, _⟩; exact o.resolve_right e
          · intro o
            refine ⟨Or.inl o, fun o' => ?_⟩
            rcases o' with o' | o'
            · rcases rq with h | ⟨_, h⟩
              · have := tz.1; omega
              · rw [← o'] at h; omega
            · exact absurd o' e
theorem h1_low {post : SX → Prop} {Q : Nat → Nat} {K0 : Nat → Int32} {q' x' : Int32} (q x : Nat) (hq : q < 4) (hx : x < 24) (hI : h1_I K0 Q pr pc pn pb) (hQx : Q x = q + 1) (hK : ∀ j, j ≠ x → K j = K0 j) (hl : K x ≤ K0 x) (hpost : ∀ pr' pc' pn' pb', h1_I K Q pr' pc' pn' pb' → post ((nI st), K, A, (hs_A sz), (hs_A hp), (hs_A pl), (hs_A pr'), (hs_A pc'), (hs_A pn'), (hs_A pb'), (hs_A rF), (hs_A rI), (hs_A rN), (hs_A rU), (hs_A rC), (hs_A rX), (hs_A rP), (hs_A rD), (hs_A gF), (hs_A gC), (hs_A gL), (hs_A gR), (hs_A gP), (hs_A gD), (hs_A gM), (hs_A gO), (hs_A lr), (hs_A ll), (hs_A lR), (hs_A lp), (hs_A lk), (hs_A wn), (hs_A sk))) (eq : q' = nI q := by rfl) (ex : x' = nI x := by rfl) : wpX_lowerInPairs post ((nI st), K, A, (hs_A sz), (hs_A hp), (hs_A pl), (hs_A pr), (hs_A pc), (hs_A pn), (hs_A pb), (hs_A rF), (hs_A rI), (hs_A rN), (hs_A rU), (hs_A rC), (hs_A rX), (hs_A rP), (hs_A rD), (hs_A gF), (hs_A gC), (hs_A gL), (hs_A gR), (hs_A gP), (hs_A gD), (hs_A gM), (hs_A gO), (hs_A lr), (hs_A ll), (hs_A lR), (hs_A lp), (hs_A lk), (hs_A wn), (hs_A sk)) q' x' := by
  subst eq; subst ex
  obtain ⟨hr, hW⟩ := hI
  have tx : hs_T Q x := ⟨hx, by omega⟩
  have rq := hr q hq
  have mn := h1_first ⟨hr, hW⟩ hq
  have rq' := rq.resolve_left (fun e => by
    rcases mn with ⟨_, h⟩ | ⟨h, _⟩
    · exact h x hx hQx
    · omega)
  have e0 : Q x - 1 = q := by omega
  unfold wpX_lowerInPairs
  dsimp only
  refine hs_in q hq ?_
  refine pk_eq (pr q) x (fun e => ?_) (fun e => ?_) (hs_rd q (by omega)) rfl
  · have rx : hs_R Q pr x := by unfold hs_R; rw [e0]; exact e
    exact hpost _ _ _ _ ⟨hr, h1_W_K hW rx hK hl⟩
  · have rx : ¬ hs_R Q pr x := by unfold hs_R; rw [e0]; exact e
    refine h1_cutw x hW tx rx (fun pc' pn' pb' hW1 => ?_)
    dsimp only
    have hW2 := h1_W_K hW1 (Or.inr rfl) hK hl
    refine hs_in q hq ?_
    have rp : hs_R Q pr (pr q) := by unfold hs_R; rw [rq'.2]; rfl
    refine h1_pair (pr q) x hW2 (Or.inr ⟨⟨rq'.1, by omega⟩, Or.inl rp⟩) (Or.inr ⟨tx, Or.inr rfl⟩) (fun _ _ => ⟨e, by omega⟩) (fun r pc2 pn2 pb2 h1 h2 h3 hW' hfr => ?_) (hs_rd q (by omega)) rfl
    dsimp only
    have rr := h3 (by omega) (by omega)
    refine hs_w q r hq (by omega) (hpost _ _ _ _ ⟨fun p hp => ?_, h1_W_R hW' (fun z tz => ?_)⟩)
    · by_cases ep : p = q
      · rw [hs_se ep, ep]
        rcases rr with o | o
        · rw [o]; exact Or.inr rq'
        · rw [o]; exact Or.inr ⟨hx, hQx⟩
      · rw [hs_sn ep]; exact hr p hp
    · unfold hs_R
      have z0 := tz.2
      by_cases e' : Q z - 1 = q
      · rw [e', hs_ss]
        constructor
        · intro ⟨o, o2⟩
          exact (o2 (by omega)).symm
        · intro o
          exact ⟨by omega, fun _ => o.symm⟩
      · rw [hs_sn e']
        constructor
        · intro ⟨o, _⟩
          rcases o with o | o
          · exact o
          · rw [o] at e'; exact absurd e0 e'
        · intro o
          refine ⟨Or.inl o, fun o' => ?_⟩
          rcases o' with o' | o'
          · rw [o', rq'.2] at e'; exact absurd rfl e'
          · rw [o'] at e'; exact absurd e0 e'
theorem h1_rem {post : SX → Prop} {Q : Nat → Nat} {q' x' : Int32} (q x : Nat) (hq : q < 4) (hx : x < 24) (hI : h1_I K Q pr pc pn pb) (hQx : Q x = q + 1) (hpost : ∀ st' sk' pr' pc' pn' pb', h1_I K (hs_s Q x 0) pr' pc' pn' pb' → post ((nI (st')), K, A, (hs_A sz), (hs_A hp), (hs_A pl), (hs_A pr'), (hs_A pc'), (hs_A pn'), (hs_A pb'), (hs_A rF), (hs_A rI), (hs_A rN), (hs_A rU), (hs_A rC), (hs_A rX), (hs_A rP), (hs_A rD), (hs_A gF), (hs_A gC), (hs_A gL), (hs_A gR), (hs_A gP), (hs_A gD), (hs_A gM), (hs_A gO), (hs_A lr), (hs_A ll), (hs_A lR), (hs_A lp), (hs_A lk), (hs_A wn), (hs_A sk'))) (eq : q' = nI q := by rfl) (ex : x' = nI x := by rfl) : wpX_removeFromPairs post ((nI st), K, A, (hs_A sz), (hs_A hp), (hs_A pl), (hs_A pr), (hs_A pc), (hs_A pn), (hs_A pb), (hs_A rF), (hs_A rI), (hs_A rN), (hs_A rU), (hs_A rC), (hs_A rX), (hs_A rP), (hs_A rD), (hs_A gF), (hs_A gC), (hs_A gL), (hs_A gR), (hs_A gP), (hs_A gD), (hs_A gM), (hs_A gO), (hs_A lr), (hs_A ll), (hs_A lR), (hs_A lp), (hs_A lk), (hs_A wn), (hs_A sk)) q' x' := by
  subst eq; subst ex
  obtain ⟨hr, hW⟩ := hI
  have tx : hs_T Q x := ⟨hx, by omega⟩
  have rq := hr q hq
  have mn := h1_first ⟨hr, hW⟩ hq
  have rq' := rq.resolve_left (fun e => by
    rcases mn with ⟨_, h⟩ | ⟨h, _⟩
    · exact h x hx hQx
    · omega)
  have e0 : Q x - 1 = q := by omega
  unfold wpX_removeFromPairs
  dsimp only
  refine hs_in q hq ?_
  have fin : ∀ (rest : Nat) (pc pn pb : Nat → Nat), ((rest = 24 ∧ pr q = x) ∨ (rest = pr q ∧ pr q ≠ x)) → h1_W K Q (hs_T Q) (fun z => hs_R Q pr z ∨ z = x) pc pn pb → wX_removeFromPairs_25 post (nI q) (nI x) (nI rest) (nI st) K A (hs_A sz) (hs_A hp) (hs_A pl) (hs_A pr) (hs_A pc) (hs_A pn) (hs_A pb) (hs_A rF) (hs_A rI) (hs_A rN) (hs_A rU) (hs_A rC) (hs_A rX) (hs_A rP) (hs_A rD) (hs_A gF) (hs_A gC) (hs_A gL) (hs_A gR) (hs_A gP) (hs_A gD) (hs_A gM) (hs_A gO) (hs_A lr) (hs_A ll) (hs_A lR) (hs_A lp) (hs_A lk) (hs_A wn) (hs_A sk) := by
    intro rest pc pn pb hrest hW1
    unfold wX_removeFromPairs_25
    refine h1_children x hW1 tx (Or.inr rfl) (fun st' sk' r pc1 pn1 pb1 hrr hW2 => ?_)
    dsimp only
    rw [hs_T_rem] at hW2
    have tpr : pr q ≠ x → hs_T (hs_s Q x 0) (pr q) := fun e => ⟨rq'.1, by rw [hs_sn e]; omega⟩
    have rpr : hs_R Q pr (pr q) := by unfold hs_R; rw [rq'.2]; rfl
    have hW3 := h1_W_g (g' := hs_s Q x 0) hW2 (fun z z' tz tz' e => by
      have : ∀ y, hs_T (hs_s Q x 0) y → hs_s Q x 0 y = Q y := fun y ty => hs_sn (fun e => ty.2 (by rw [hs_se e]))
      rw [this z tz, this z' tz']; exact e)
    have rT : r ≠ 24 → hs_T (hs_s Q x 0) r := fun e => by
      have := hrr.resolve_left e
      exact ⟨this.1.1, by rw [hs_sn this.2.1]; exact this.1.2⟩
    have r24 : r ≤ 24 := by
      by_cases e : r = 24
      · omega
      · have := (rT e).1; omega
    refine h1_pair rest r hW3 ?_ ?_ (fun e1 e2 => ?_) (fun r2 pc2 pn2 pb2 h1 h2 h3 hW' hfr => ?_)
    · rcases hrest with ⟨h, _⟩ | ⟨h, h'⟩
      · exact Or.inl h
      · rw [h]; exact Or.inr ⟨tpr h', Or.inl (Or.inl rpr)⟩
    · by_cases e : r = 24
      · exact Or.inl e
      · exact Or.inr ⟨rT e, Or.inr rfl⟩
    · have hrr' := hrr.resolve_left e2
      rcases hrest with ⟨h, _⟩ | ⟨h, h'⟩
      · exact absurd h e1
      · rw [h]
        refine ⟨fun e => hrr'.2.2.1 (Or.inl (e ▸ rpr)), ?_⟩
        rw [hs_sn h', hs_sn hrr'.2.1, hrr'.2.2.2]; omega
    · dsimp only
      have r2c : (r2 = 24 ∧ rest = 24 ∧ r = 24) ∨ (r2 = r ∧ r ≠ 24) ∨ (r2 = rest ∧ rest ≠ 24) := by
        by_cases e : rest = 24
        · have := h1 e
          by_cases e' : r = 24
          · exact Or.inl ⟨by omega, e, e'⟩
          · exact Or.inr (Or.inl ⟨this, e'⟩)
        · by_cases e' : r = 24
          · exact Or.inr (Or.inr ⟨h2 e e', e⟩)
          · rcases h3 e e' with o | o
            · exact Or.inr (Or.inr ⟨o, e⟩)
            · exact Or.inr (Or.inl ⟨o, e'⟩)
      have gr : r ≠ 24 → Q r = q + 1 ∧ r ≠ x ∧ ¬ hs_R Q pr r := fun e => by
        have := hrr.resolve_left e
        exact ⟨by rw [this.2.2.2]; exact hQx, this.2.1, fun h => this.2.2.1 (Or.inl h)⟩
      refine hs_w q r2 hq (by omega) (hpost _ _ _ _ _ _ ⟨fun p hp => ?_, h1_W_R hW' (fun z tz => ?_)⟩)
      · by_cases ep : p = q
        · rw [hs_se ep, ep]
          rcases r2c with ⟨o, _⟩ | ⟨o, o'⟩ | ⟨o, o'⟩
          · exact Or.inl o
          · rw [o]
            refine Or.inr ⟨(rT o').1, ?_⟩
            rw [hs_sn (gr o').2.1]; exact (gr o').1
          · rcases hrest with ⟨h, _⟩ | ⟨h, h'⟩
            · exact absurd h o'
            · rw [o, h]
              refine Or.inr ⟨rq'.1, ?_⟩
              rw [hs_sn h']; exact rq'.2
        · rw [hs_sn ep]
          rcases hr p hp with o | ⟨o, o'⟩
          · exact Or.inl o
          · have ne : pr p ≠ x := fun e' => by rw [e'] at o'; omega
            rw [hs_sn ne]; exact Or.inr ⟨o, o'⟩
      · have zx : z ≠ x := fun e => tz.2 (by rw [hs_se e])
        have z0 : Q z ≠ 0 := by have := tz.2; rwa [hs_sn zx] at this
        have z24 := tz.1
        unfold hs_R
        rw [hs_sn zx]
        by_cases e' : Q z - 1 = q
        · rw [e', hs_ss]
          constructor
          · intro ⟨o, o2⟩
            rcases o with (o | o) | o
            · rcases hrest with ⟨h, h'⟩ | ⟨h, h'⟩
              · exact absurd (o.symm.trans h') zx
              · exact (o2 (Or.inl (by omega))).symm
            · exact absurd o zx
            · exact (o2 (Or.inr o)).symm
          · intro o
            refine ⟨?_, fun _ => o.symm⟩
            rcases r2c with ⟨o', _⟩ | ⟨o', _⟩ | ⟨o', h⟩
            · omega
            · exact Or.inr (by omega)
            · rcases hrest with ⟨h', _⟩ | ⟨h', _⟩
              · exact absurd h' h
              · exact Or.inl (Or.inl (by omega))
        · rw [hs_sn e']
          constructor
          · intro ⟨o, _⟩
            rcases o with (o | o) | o
            · exact o
            · exact absurd o zx
            · have := (gr (by omega)).1
              rw [← o] at this; omega
          · intro o
            refine ⟨Or.inl (Or.inl o), fun o' => ?_⟩
            rcases o' with o' | o'
            · rcases hrest with ⟨h, _⟩ | ⟨h, _⟩
              · omega
              · rw [o', h, rq'.2] at e'; exact absurd rfl e'
            · have := (gr (by omega)).1
              rw [← o'] at this; omega
  refine pk_eq (pr q) x (fun e => ?_) (fun e => ?_) (hs_rd q (by omega)) rfl
  · have rx : hs_R Q pr x := by unfold hs_R; rw [e0]; exact e
    exact fin 24 pc pn pb (Or.inl ⟨rfl, e⟩) (h1_W_R hW (fun z _ => ⟨Or.inl, fun o => o.elim id (fun o => o ▸ rx)⟩))
  · have rx : ¬ hs_R Q pr x := by unfold hs_R; rw [e0]; exact e
    refine h1_cutw x hW tx rx (fun pc' pn' pb' hW1 => ?_)
    dsimp only
    refine hs_r q hq ?_
    exact fin (pr q) pc' pn' pb' (Or.inr ⟨rfl, e⟩) hW1
/-- the pair of the two roots in join -/
theorem h1_join {post : Int32 → SX → Prop} {Q : Nat → Nat} {x' y' : Int32} (a b : Nat) (ha : a < 4) (hb : b < 4) (hab : a ≠ b) (hI : h1_I K Q pr pc pn pb) (hpost : ∀ r pc' pn' pb', r ≤ 24 → h1_I K (hs_jQ Q a b) (hs_s (hs_s pr a r) b 24) pc' pn' pb' → post (nI r) ((nI st), K, A, (hs_A sz), (hs_A hp), (hs_A pl), (hs_A pr), (hs_A pc'), (hs_A pn'), (hs_A pb'), (hs_A rF), (hs_A rI), (hs_A rN), (hs_A rU), (hs_A rC), (hs_A rX), (hs_A rP), (hs_A rD), (hs_A gF), (hs_A gC), (hs_A gL), (hs_A gR), (hs_A gP), (hs_A gD), (hs_A gM), (hs_A gO), (hs_A lr), (hs_A ll), (hs_A lR), (hs_A lp), (hs_A lk), (hs_A wn), (hs_A sk))) (ex : x' = nI (pr a)) (ey : y' = nI (pr b)) : wpX_pair post ((nI st), K, A, (hs_A sz), (hs_A hp), (hs_A pl), (hs_A pr), (hs_A pc), (hs_A pn), (hs_A pb), (hs_A rF), (hs_A rI), (hs_A rN), (hs_A rU), (hs_A rC), (hs_A rX), (hs_A rP), (hs_A rD), (hs_A gF), (hs_A gC), (hs_A gL), (hs_A gR), (hs_A gP), (hs_A gD), (hs_A gM), (hs_A gO), (hs_A lr), (hs_A ll), (hs_A lR), (hs_A lp), (hs_A lk), (hs_A wn), (hs_A sk)) x' y' := by
  obtain ⟨hr, hW⟩ := hI
  have ra := hr a ha
  have rb := hr b hb
  have hT : hs_T Q = hs_T (hs_jQ Q a b) := by
    funext z; apply propext; unfold hs_T hs_jQ
    by_cases e : Q z = b + 1
    · rw [if_pos e]; exact ⟨fun h => ⟨h.1, by omega⟩, fun h => ⟨h.1, by omega⟩⟩
    · rw [if_neg e]
  have hW1 := h1_W_g (g' := hs_jQ Q a b) hW (fun z z' _ _ e => by unfold hs_jQ; rw [e])
  have tr : ∀ p, p < 4 → pr p ≠ 24 → hs_T Q (pr p) ∧ hs_R Q pr (pr p) := fun p hp e => by
    have := (hr p hp).resolve_left e
    exact ⟨⟨this.1, by omega⟩, by unfold hs_R; rw [this.2]; rfl⟩
  refine h1_pair (pr a) (pr b) hW1 ?_ ?_ (fun e1 e2 => ?_) (fun r pc' pn' pb' h1 h2 h3 hW' hfr => ?_) ex ey
  · by_cases e : pr a = 24
    · exact Or.inl e
    · exact Or.inr (tr a ha e)
  · by_cases e : pr b = 24
    · exact Or.inl e
    · exact Or.inr (tr b hb e)
  · have h1 := (ra.resolve_left e1).2
    have h2 := (rb.resolve_left e2).2
    refine ⟨fun e => ?_, ?_⟩
    · rw [e] at h1; omega
    · unfold hs_jQ; rw [if_neg (by omega), if_pos h2]; exact h1
  · have rc : (r = 24 ∧ pr a = 24 ∧ pr b = 24) ∨ (r = pr b ∧ pr b ≠ 24) ∨ (r = pr a ∧ pr a ≠ 24) := by
      by_cases e : pr a = 24
      · have := h1 e
        by_cases e' : pr b = 24
        · exact Or.inl ⟨by omega, e, e'⟩
        · exact Or.inr (Or.inl ⟨this, e'⟩)
      · by_cases e' : pr b = 24
        · exact Or.inr (Or.inr ⟨h2 e e', e⟩)
        · rcases h3 e e' with o | o
          · exact Or.inr (Or.inr ⟨o, e⟩)
          · exact Or.inr (Or.inl ⟨o, e'⟩)
    have r24 : r ≤ 24 := by omega
    refine hpost r pc' pn' pb' r24 ⟨fun p hp => ?_, ?_⟩
    · by_cases eb : p = b
      · rw [hs_se eb]; exact Or.inl rfl
      · rw [hs_sn eb]
        by_cases ea : p = a
        · rw [hs_se ea]
          rcases rc with ⟨o, _⟩ | ⟨o, o'⟩ | ⟨o, o'⟩
          · exact Or.inl o
          · have := rb.resolve_left o'
            rw [o]; refine Or.inr ⟨this.1, ?_⟩
            unfold hs_jQ; rw [if_pos this.2, ea]
          · have := ra.resolve_left o'
            rw [o]; refine Or.inr ⟨this.1, ?_⟩
            unfold hs_jQ; rw [if_neg (by omega), ea]; exact this.2
        · rw [hs_sn ea]
          rcases hr p hp with o | ⟨o, o'⟩
          · exact Or.inl o
          · refine Or.inr ⟨o, ?_⟩
            unfold hs_jQ; rw [if_neg (by omega)]; exact o'
    · rw [← hT]
      refine h1_W_R hW' (fun z tz => ?_)
      have z0 := tz.2
      have z24 := tz.1
      unfold hs_R
      by_cases e1 : Q z = b + 1
      · have ej : hs_jQ Q a b z = a + 1 := by unfold hs_jQ; rw [if_pos e1]
        have e2 : Q z - 1 = b := by omega
        rw [ej, Nat.add_sub_cancel, hs_sn hab, hs_ss, e2]
        constructor
        · intro ⟨o, o2⟩; exact (o2 (Or.inr o.symm)).symm
        · intro o
          refine ⟨?_, fun _ => o.symm⟩
          rcases rc with ⟨o', _⟩ | ⟨o', _⟩ | ⟨o', h⟩
          · omega
          · omega
          · have := (ra.resolve_left h).2
            rw [← o', o] at this; omega
      · have ej : hs_jQ Q a b z = Q z := by unfold hs_jQ; rw [if_neg e1]
        rw [ej, hs_sn (by omega : Q z - 1 ≠ b)]
        by_cases e2 : Q z - 1 = a
        · rw [e2, hs_ss]
          constructor
          · intro ⟨o, o2⟩; exact (o2 (Or.inl o.symm)).symm
          · intro o
            refine ⟨?_, fun _ => o.symm⟩
            rcases rc with ⟨o', _⟩ | ⟨o', h⟩ | ⟨o', _⟩
            · omega
            · have := (rb.resolve_left h).2
              rw [← o', o] at this; omega
            · omega
        · rw [hs_sn e2]
          constructor
          · intro ⟨o, _⟩; exact o
          · intro o
            refine ⟨o, fun o' => ?_⟩
            rcases o' with o' | o'
            · have := (ra.resolve_left (by omega)).2
              rw [← o'] at this; omega
            · have := (rb.resolve_left (by omega)).2
              rw [← o'] at this; omega
end
end
section
/-! engines 4 and 5: trees that lean left, the pure part -/
def h4_S (T R : Nat → Prop) (p l r : Nat → Nat) : Prop :=
  ∀ x, T x → (l x = 24 ∨ (T (l x) ∧ ¬ R (l x) ∧ p (l x) = x)) ∧ (r x = 24 ∨ (T (r x) ∧ ¬ R (r x) ∧ p (r x) = x)) ∧ (l x = r x → l x = 24) ∧ (∀ c, T c → ¬ R c → p c = x → c = l x ∨ c = r x)
/-- base, order, queues, nodes, roots, right child not yet set, children not to be read, rank not right, arrays -/
def h4_W (bs : Nat) (K : Nat → Int32) (g : Nat → Nat) (T R H E D : Nat → Prop) (ll lR lp lk : Nat → Nat) : Prop :=
  ∃ p l r, hs_F K g T R p ∧ h4_S T R p l r ∧ (∀ x, T x → (¬ E x → ll (bs + x) = l x ∧ (¬ H x → lR (bs + x) = r x)) ∧ (H x → r x = 24) ∧ (¬ R x → lp (bs + x) = p x) ∧ (E x → l x = 24 ∧ r x = 24)) ∧ (bs = 0 → lk 24 = 0 ∧ ∀ x, T x → ¬ D x → lk (r x) ≤ lk (l x) ∧ lk x = lk (r x) + 1)
theorem h4_lt {bs : Nat} {K : Nat → Int32} {g ll lR lp lk : Nat → Nat} {T R H E D : Nat → Prop} (h : h4_W bs K g T R H E D ll lR lp lk) : ∀ z, T z → z < 24 := by
  obtain ⟨p, l, r, hF, _⟩ := h; exact hF.1
theorem h4_cg {bs : Nat} {K : Nat → Int32} {g ll lR lp lk : Nat → Nat} {T R H E D R' H' E' D' : Nat → Prop} (h : h4_W bs K g T R H E D ll lR lp lk) (hR : ∀ z, T z → (R z ↔ R' z)) (hH : ∀ z, T z → (H z ↔ H' z)) (hE : ∀ z, T z → (E z ↔ E' z)) (hD : ∀ z, T z → (D z → D' z)) : h4_W bs K g T R' H' E' D' ll lR lp lk := by
  obtain ⟨p, l, r, hF, hS, hA, hk⟩ := h
  refine ⟨p, l, r, ⟨hF.1, fun c tc nc => hF.2 c tc (fun h => nc ((hR c tc).1 h))⟩, fun x tx => ?_, fun x tx => ?_, fun e => ⟨(hk e).1, fun x tx nd => (hk e).2 x tx (fun h => nd (hD x tx h))⟩⟩
  · obtain ⟨a, b, c, d⟩ := hS x tx
    refine ⟨a.imp id (fun h => ⟨h.1, fun r => h.2.1 ((hR _ h.1).2 r), h.2.2⟩), b.imp id (fun h => ⟨h.1, fun r => h.2.1 ((hR _ h.1).2 r), h.2.2⟩), c, fun c tc nc => d c tc (fun r => nc ((hR c tc).1 r))⟩
  · obtain ⟨a, b, c, d⟩ := hA x tx
    exact ⟨fun ne => ⟨(a (fun h => ne ((hE x tx).1 h))).1, fun nh => (a (fun h => ne ((hE x tx).1 h))).2 (fun h => nh ((hH x tx).1 h))⟩, fun h => b ((hH x tx).2 h), fun nr => c (fun h => nr ((hR x tx).1 h)), fun h => d ((hE x tx).2 h)⟩
theorem h4_g {bs : Nat} {K : Nat → Int32} {g g' ll lR lp lk : Nat → Nat} {T R H E D : Nat → Prop} (h : h4_W bs K g T R H E D ll lR lp lk) (hg : ∀ z z', T z → T z' → g z = g z' → g' z = g' z') : h4_W bs K g' T R H E D ll lR lp lk := by
  obtain ⟨p, l, r, hF, hr⟩ := h
  exact ⟨p, l, r, ⟨hF.1, fun c tc nc => ⟨(hF.2 c tc nc).1, (hF.2 c tc nc).2.1, hg _ _ (hF.2 c tc nc).1 tc (hF.2 c tc nc).2.2⟩⟩, hr⟩
theorem h4_Kc {bs : Nat} {K K' : Nat → Int32} {g ll lR lp lk : Nat → Nat} {T R H E D : Nat → Prop} {x : Nat} (h : h4_W bs K g T R H E D ll lR lp lk) (hx : R x) (hK : ∀ j, j ≠ x → K' j = K j) (hl : K' x ≤ K x) : h4_W bs K' g T R H E D ll lR lp lk := by
  obtain ⟨p, l, r, hF, hr⟩ := h
  refine ⟨p, l, r, ⟨hF.1, fun c tc nc => ?_⟩, hr⟩
  obtain ⟨a, b, d⟩ := hF.2 c tc nc
  exact ⟨a, hs_bef_low hK hl (fun e => nc (e ▸ hx)) b, d⟩
/-- arrays that agree on what is read -/
theorem h4_fr {bs : Nat} {K : Nat → Int32} {g ll lR lp lk ll' lR' lp' lk' : Nat → Nat} {T R H E D : Nat → Prop} (h : h4_W bs K g T R H E D ll lR lp lk) (h1 : ∀ z, T z → ¬ E z → ll' (bs + z) = ll (bs + z)) (h2 : ∀ z, T z → ¬ E z → ¬ H z → lR' (bs + z) = lR (bs + z)) (h3 : ∀ z, T z → ¬ R z → lp' (bs + z) = lp (bs + z)) (h4 : bs = 0 → ∀ z, T z ∨ z = 24 → lk' z = lk z) : h4_W bs K g T R H E D ll' lR' lp' lk' := by
  obtain ⟨p, l, r, hF, hS, hA, hk⟩ := h
  refine ⟨p, l, r, hF, hS, fun x tx => ?_, fun e => ⟨?_, fun x tx nd => ?_⟩⟩
  · obtain ⟨a, b, c, d⟩ := hA x tx
    exact ⟨fun ne => ⟨(h1 x tx ne).trans (a ne).1, fun nh => (h2 x tx ne nh).trans ((a ne).2 nh)⟩, b, fun nr => (h3 x tx nr).trans (c nr), d⟩
  · rw [h4 e 24 (Or.inr rfl)]; exact (hk e).1
  · have s := hS x tx
    rw [h4 e (r x) (s.2.1.elim Or.inr (fun h => Or.inl h.1)), h4 e (l x) (s.1.elim Or.inr (fun h => Or.inl h.1)), h4 e x (Or.inl tx)]
    exact (hk e).2 x tx nd
/-- ranks are small behind x -/
theorem h4_bd {K : Nat → Int32} {g p l r lk : Nat → Nat} {T R D : Nat → Prop} {x : Nat} (hF : hs_F K g T R p) (hS : h4_S T R p l r) (h0 : lk 24 = 0) (hk : ∀ z, T z → ¬ D z → lk (r z) ≤ lk (l z) ∧ lk z = lk (r z) + 1) (hx : ∀ z, T z → hs_bef K x z → ¬ D z) : ∀ n z, 24 ≤ n + hs_rk K z → T z → hs_bef K x z → lk z + hs_rk K z ≤ 24 := by
  intro n
  induction n with
  | zero =>
    intro z hz tz b
    have := hs_rk_24 (K := K) (hF.1 z tz)
    omega
  | succ n ih =>
    intro z hz tz b
    have r24 := hs_rk_24 (K := K) (hF.1 z tz)
    have e := (hk z tz (hx z tz b)).2
    rcases (hS z tz).2.1 with h | ⟨h1, h2, h3⟩
    · rw [h, h0] at e; omega
    · have b2 := (hF.2 _ h1 h2).2.1
      rw [h3] at b2
      have lt := hs_rk_lt b2 (hF.1 z tz)
      have := ih (r z) (by omega) h1 (hs_bef_tr b b2)
      omega
theorem h4_read {bs : Nat} {K : Nat → Int32} {g ll lR lp lk : Nat → Nat} {T R H E D : Nat → Prop} {x : Nat} (h : h4_W bs K g T R H E D ll lR lp lk) (tx : T x) (ex : ¬ E x) : (ll (bs + x) = 24 ∨ (T (ll (bs + x)) ∧ ¬ R (ll (bs + x)) ∧ hs_bef K x (ll (bs + x)) ∧ g (ll (bs + x)) = g x ∧ lp (bs + ll (bs + x)) = x)) ∧ (¬ H x → lR (bs + x) = 24 ∨ (T (lR (bs + x)) ∧ ¬ R (lR (bs + x)) ∧ hs_bef K x (lR (bs + x)) ∧ g (lR (bs + x)) = g x ∧ lp (bs + lR (bs + x)) = x)) ∧ (¬ H x → ll (bs + x) = lR (bs + x) → ll (bs + x) = 24) ∧ (¬ R x → T (lp (bs + x)) ∧ hs_bef K (lp (bs + x)) x ∧ g (lp (bs + x)) = g x) := by
  obtain ⟨p, l, r, hF, hS, hA, hk⟩ := h
  obtain ⟨a1, a2, a3, a4⟩ := hA x tx
  obtain ⟨s1, s2, s3, s4⟩ := hS x tx
  have c1 := (a1 ex).1
  have ch : ∀ c, (c = 24 ∨ (T c ∧ ¬ R c ∧ p c = x)) → (c = 24 ∨ (T c ∧ ¬ R c ∧ hs_bef K x c ∧ g c = g x ∧ lp (bs + c) = x)) := by
    intro c hc
    rcases hc with e | ⟨b1, b2, b3⟩
    · exact Or.inl e
    · obtain ⟨f1, f2, f3⟩ := hF.2 c b1 b2
      rw [b3] at f2 f3
      exact Or.inr ⟨b1, b2, f2, f3.symm, by rw [(hA c b1).2.2.1 b2]; exact b3⟩
  rw [c1]
  refine ⟨ch _ s1, fun nh => ?_, fun nh e => ?_, fun nr => ?_⟩
  · rw [(a1 ex).2 nh]; exact ch _ s2
  · rw [(a1 ex).2 nh] at e; exact s3 e
  · rw [a3 nr]; exact hF.2 x tx nr
theorem h4_unlink {bs : Nat} {K : Nat → Int32} {g ll lR lp lk : Nat → Nat} {T R H E D : Nat → Prop} {x : Nat} (h : h4_W bs K g T R H E D ll lR lp lk) (tx : T x) (ex : ¬ E x) (hx : ¬ H x) : h4_W bs K g T (fun z => R z ∨ z = lR (bs + x)) (fun z => H z ∨ z = x) E (fun z => D z ∨ z = x) ll lR lp lk := by
  obtain ⟨p, l, r, hF, hS, hA, hk⟩ := h
  obtain ⟨a1, a2, a3, a4⟩ := hA x tx
  obtain ⟨s1, s2, s3, s4⟩ := hS x tx
  have er := (a1 ex).2 hx
  rw [er]
  refine ⟨p, l, hs_s r x 24, ⟨hF.1, fun c tc nc => hF.2 c tc (fun h => nc (Or.inl h))⟩, fun z tz => ?_, fun z tz => ?_, fun e => ⟨(hk e).1, fun z tz nd => ?_⟩⟩
  · obtain ⟨z1, z2, z3, z4⟩ := hS z tz
    by_cases e : z = x
    · subst e
      rw [hs_ss]
      refine ⟨s1.imp id (fun h => ⟨h.1, fun o => o.elim h.2.1 (fun o => ?_), h.2.2⟩), Or.inl rfl, fun e => e, fun c tc nc pc => ?_⟩
      · have := s3 o
        have := hF.1 _ h.1
        omega
      · rcases s4 c tc (fun h => nc (Or.inl h)) pc with o | o
        · exact Or.inl o
        · exact absurd (Or.inr o) nc
    · rw [hs_sn e]
      have oth : ∀ c, T c ∧ ¬ R c ∧ p c = z → ¬ (R c ∨ c = r x) := by
        intro c hc o
        rcases o with o | o
        · exact hc.2.1 o
        · rcases s2 with h | h
          · have := hF.1 c hc.1; omega
          · rw [← o, hc.2.2] at h; exact e h.2.2
      exact ⟨z1.imp id (fun h => ⟨h.1, oth _ h, h.2.2⟩), z2.imp id (fun h => ⟨h.1, oth _ h, h.2.2⟩), z3, fun c tc nc pc => z4 c tc (fun h => nc (Or.inl h)) pc⟩
  · obtain ⟨b1, b2, b3, b4⟩ := hA z tz
    refine ⟨fun ne => ⟨(b1 ne).1, fun nh => ?_⟩, fun hz => ?_, fun nr => b3 (fun h => nr (Or.inl h)), fun h => ?_⟩
    · rw [hs_sn (fun e => nh (Or.inr e))]; exact (b1 ne).2 (fun h => nh (Or.inl h))
    · by_cases e : z = x
      · rw [hs_se e]
      · rw [hs_sn e]; exact b2 (hz.resolve_right e)
    · have zx : z ≠ x := fun e => ex (e ▸ h)
      rw [hs_sn zx]; exact b4 h
  · rw [hs_sn (fun e => nd (Or.inr e))]
    exact (hk e).2 z tz (fun h => nd (Or.inl h))
theorem h4_link {bs : Nat} {K : Nat → Int32} {g ll lR lp lk : Nat → Nat} {T R H E D : Nat → Prop} {u m : Nat} (h : h4_W bs K g T R H E D ll lR lp lk) (tu : T u) (eu : ¬ E u) (hu : H u) (du : D u) (hm : m = 24 ∨ (T m ∧ R m ∧ hs_bef K u m ∧ g m = g u)) : h4_W bs K g T (fun z => R z ∧ z ≠ m) (fun z => H z ∧ z ≠ u) E D ll (hs_s lR (bs + u) m) (hs_s lp (bs + m) u) lk := by
  obtain ⟨p, l, r, hF, hS, hA, hk⟩ := h
  obtain ⟨a1, a2, a3, a4⟩ := hA u tu
  have r24 := a2 hu
  refine ⟨hs_s p m u, l, hs_s r u m, ⟨hF.1, fun c tc nc => ?_⟩, fun z tz => ?_, fun z tz => ?_, fun e => ⟨(hk e).1, fun z tz nd => ?_⟩⟩
  · by_cases e : c = m
    · rw [hs_se e, e]
      rcases hm with o | ⟨o1, o2, o3, o4⟩
      · have := hF.1 c tc; omega
      · exact ⟨tu, o3, o4.symm⟩
    · rw [hs_sn e]; exact hF.2 c tc (fun r => nc ⟨r, e⟩)
  · obtain ⟨z1, z2, z3, z4⟩ := hS z tz
    have nm : ∀ c, T c → ¬ R c → c ≠ m := by
      intro c tc nc e
      rcases hm with o | o
      · have := hF.1 c tc; omega
      · exact nc (e ▸ o.2.1)
    have oth : ∀ c, c = 24 ∨ (T c ∧ ¬ R c ∧ p c = z) → c = 24 ∨ (T c ∧ ¬ (R c ∧ c ≠ m) ∧ hs_s p m u c = z) := fun c hc => hc.imp id (fun hc => ⟨hc.1, fun o => hc.2.1 o.1, by rw [hs_sn (nm c hc.1 hc.2.1)]; exact hc.2.2⟩)
    by_cases e : z = u
    · subst e
      rw [hs_ss]
      refine ⟨oth _ z1, ?_, fun e => ?_, fun c tc nc pc => ?_⟩
      · rcases hm with o | o
        · exact Or.inl o
        · exact Or.inr ⟨o.1, fun h => h.2 rfl, hs_ss⟩
      · rcases z1 with o | o
        · exact o
        · exact absurd e (nm _ o.1 o.2.1)
      · by_cases e : c = m
        · exact Or.inr e
        · rw [hs_sn e] at pc
          rcases z4 c tc (fun r => nc ⟨r, e⟩) pc with o | o
          · exact Or.inl o
          · rw [r24] at o; have := hF.1 c tc; omega
    · rw [hs_sn e]
      refine ⟨oth _ z1, oth _ z2, z3, fun c tc nc pc => ?_⟩
      by_cases e' : c = m
      · rw [hs_se e'] at pc; exact absurd pc.symm e
      · rw [hs_sn e'] at pc
        exact z4 c tc (fun r => nc ⟨r, e'⟩) pc
  · obtain ⟨b1, b2, b3, b4⟩ := hA z tz
    have z24 := hF.1 z tz
    refine ⟨fun ne => ⟨(b1 ne).1, fun nh => ?_⟩, fun hz => ?_, fun nr => ?_, fun h => ?_⟩
    · by_cases e : z = u
      · rw [e, hs_ss, hs_ss]
      · rw [hs_sn e, hs_sn (by omega)]
        exact (b1 ne).2 (fun h => nh ⟨h, e⟩)
    · rw [hs_sn hz.2]; exact b2 hz.1
    · by_cases e : z = m
      · rw [e, hs_ss, hs_ss]
      · rw [hs_sn e, hs_sn (by omega)]
        exact b3 (fun h => nr ⟨h, e⟩)
    · have zx : z ≠ u := fun e => eu (e ▸ h)
      rw [hs_sn zx]; exact b4 h
  · have e' : z ≠ u := fun e => nd (e ▸ du)
    rw [hs_sn e']; exact (hk e).2 z tz nd
theorem h4_swap {bs : Nat} {K : Nat → Int32} {g ll lR lp lk : Nat → Nat} {T R H E D : Nat → Prop} {x : Nat} (h : h4_W bs K g T R H E D ll lR lp lk) (tx : T x) (ex : ¬ E x) (hx : ¬ H x) (dx : D x) : h4_W bs K g T R H E D (hs_s ll (bs + x) (lR (bs + x))) (hs_s lR (bs + x) (ll (bs + x))) lp lk := by
  obtain ⟨p, l, r, hF, hS, hA, hk⟩ := h
  obtain ⟨a1, a2, a3, a4⟩ := hA x tx
  have e1 := (a1 ex).1
  have e2 := (a1 ex).2 hx
  rw [e1, e2]
  refine ⟨p, hs_s l x (r x), hs_s r x (l x), hF, fun z tz => ?_, fun z tz => ?_, fun e => ⟨(hk e).1, fun z tz nd => ?_⟩⟩
  · obtain ⟨z1, z2, z3, z4⟩ := hS z tz
    by_cases e : z = x
    · subst e
      rw [hs_ss, hs_ss]
      exact ⟨z2, z1, fun e => e.trans (z3 e.symm), fun c tc nc pc => (z4 c tc nc pc).symm⟩
    · rw [hs_sn e, hs_sn e]; exact ⟨z1, z2, z3, z4⟩
  · obtain ⟨b1, b2, b3, b4⟩ := hA z tz
    by_cases e : z = x
    · subst e
      rw [hs_ss, hs_ss, hs_ss, hs_ss]
      exact ⟨fun _ => ⟨rfl, fun _ => rfl⟩, fun h => absurd h hx, b3, fun h => absurd h ex⟩
    · rw [hs_sn e, hs_sn e, hs_sn (by omega), hs_sn (by omega)]; exact ⟨b1, b2, b3, b4⟩
  · have e' : z ≠ x := fun e => nd (e ▸ dx)
    rw [hs_sn e', hs_sn e']; exact (hk e).2 z tz nd
theorem h4_rank {K : Nat → Int32} {g ll lR lp lk : Nat → Nat} {T R H E D : Nat → Prop} {x : Nat} (h : h4_W 0 K g T R H E D ll lR lp lk) (tx : T x) (ex : ¬ E x) (hx : ¬ H x) (hle : lk (lR x) ≤ lk (ll x)) : h4_W 0 K g T R H E (fun z => (D z ∧ z ≠ x) ∨ (¬ R x ∧ z = lp x)) ll lR lp (hs_s lk x (lk (lR x) + 1)) := by
  obtain ⟨p, l, r, hF, hS, hA, hk⟩ := h
  obtain ⟨a1, a2, a3, a4⟩ := hA x tx
  simp only [Nat.zero_add] at a1 a3
  have e1 := (a1 ex).1
  have e2 := (a1 ex).2 hx
  rw [e1, e2] at hle
  rw [e2]
  obtain ⟨k0, k1⟩ := hk rfl
  have x24 := hF.1 x tx
  have bl : ∀ c z, T z → (c = 24 ∨ (T c ∧ ¬ R c ∧ p c = z)) → (c = x → ¬ R x ∧ z = lp x) := by
    intro c z tz hc e
    rcases hc with o | ⟨o1, o2, o3⟩
    · omega
    · rw [e] at o2 o3
      exact ⟨o2, by rw [a3 o2]; exact o3.symm⟩
  have nself : ∀ c, (c = 24 ∨ (T c ∧ ¬ R c ∧ p c = x)) → c ≠ x := by
    intro c hc e
    rcases hc with o | ⟨o1, o2, o3⟩
    · omega
    · rw [e] at o2 o3
      have := (hF.2 x tx o2).2.1
      rw [o3] at this
      exact hs_bef_irr this
  refine ⟨p, l, r, hF, hS, hA, fun _ => ⟨by rw [hs_sn (by omega)]; exact k0, fun z tz nd => ?_⟩⟩
  obtain ⟨z1, z2, z3, z4⟩ := hS z tz
  by_cases e : z = x
  · subst e
    rw [hs_ss, hs_sn (nself _ z1), hs_sn (nself _ z2)]
    exact ⟨hle, rfl⟩
  · rw [hs_sn e, hs_sn (fun e' => nd (Or.inr (bl _ z tz z1 e'))), hs_sn (fun e' => nd (Or.inr (bl _ z tz z2 e')))]
    exact k1 z tz (fun h => nd (Or.inl ⟨h, e⟩))
/-- children's ranks are small, and 24 has rank 0 -/
theorem h4_rb {K : Nat → Int32} {g ll lR lp lk : Nat → Nat} {T R H E D : Nat → Prop} {x : Nat} (h : h4_W 0 K g T R H E D ll lR lp lk) (tx : T x) (ex : ¬ E x) (hx : ¬ H x) (hd : ∀ z, T z → hs_bef K x z → ¬ D z) : lk (ll x) ≤ 24 ∧ lk (lR x) ≤ 24 ∧ ll x ≤ 24 ∧ lR x ≤ 24 := by
  have rd := h4_read h tx ex
  simp only [Nat.zero_add] at rd
  have lt := h4_lt h
  obtain ⟨p, l, r, hF, hS, hA, hk⟩ := h
  obtain ⟨k0, k1⟩ := hk rfl
  have one : ∀ c, (c = 24 ∨ (T c ∧ hs_bef K x c)) → lk c ≤ 24 ∧ c ≤ 24 := by
    intro c hc
    rcases hc with o | ⟨o1, o2⟩
    · rw [o, k0]; omega
    · have := h4_bd hF hS k0 k1 hd 24 c (by omega) o1 o2
      have := lt c o1
      omega
  have a := one (ll x) (rd.1.imp id (fun h => ⟨h.1, h.2.2.1⟩))
  have b := one (lR x) ((rd.2.1 hx).imp id (fun h => ⟨h.1, h.2.2.1⟩))
  exact ⟨a.1, b.1, a.2, b.2⟩
end
section
/-! engines 4 and 5: further pure steps -/
def hs_no : Nat → Prop := fun _ => False
theorem h4_25 {bs : Nat} {K : Nat → Int32} {g ll lR lp lk lk' : Nat → Nat} {T R H E D D' : Nat → Prop} (h : h4_W bs K g T R H E D ll lR lp lk) (hb : bs ≠ 0) : h4_W bs K g T R H E D' ll lR lp lk' := by
  obtain ⟨p, l, r, hF, hS, hA, hk⟩ := h
  exact ⟨p, l, r, hF, hS, hA, fun e => absurd e hb⟩
theorem h4_new {bs : Nat} {K : Nat → Int32} {g ll lR lp lk : Nat → Nat} {T R : Nat → Prop} {x : Nat} (h : h4_W bs K g T R hs_no hs_no hs_no ll lR lp lk) (tx : ¬ T x) (hx : x < 24) : h4_W bs K g (fun z => T z ∨ z = x) (fun z => R z ∨ z = x) hs_no hs_no hs_no (hs_s ll (bs + x) 24) (hs_s lR (bs + x) 24) (hs_s lp (bs + x) 24) (hs_s lk (bs + x) 1) := by
  obtain ⟨p, l, r, hF, hS, hA, hk⟩ := h
  have sp : ∀ z, (T z ∨ z = x) → z ≠ x → T z := fun z hz e => hz.resolve_right e
  refine ⟨p, hs_s l x 24, hs_s r x 24, ⟨fun z hz => hz.elim (hF.1 z) (fun e => e ▸ hx), fun c tc nc => ?_⟩, fun z tz => ?_, fun z tz => ?_, fun e => ⟨?_, fun z tz nd => ?_⟩⟩
  · have cx : c ≠ x := fun e => nc (Or.inr e)
    obtain ⟨a, b⟩ := hF.2 c (sp c tc cx) (fun r => nc (Or.inl r))
    exact ⟨Or.inl a, b⟩
  · by_cases e : z = x
    · subst e
      rw [hs_ss, hs_ss]
      refine ⟨Or.inl rfl, Or.inl rfl, fun _ => rfl, fun c tc nc pc => ?_⟩
      have cx : c ≠ z := fun e => nc (Or.inr e)
      exact absurd (pc ▸ (hF.2 c (sp c tc cx) (fun r => nc (Or.inl r))).1) tx
    · have tz' := sp z tz e
      obtain ⟨z1, z2, z3, z4⟩ := hS z tz'
      rw [hs_sn e, hs_sn e]
      have oth : ∀ c, c = 24 ∨ (T c ∧ ¬ R c ∧ p c = z) → c = 24 ∨ ((T c ∨ c = x) ∧ ¬ (R c ∨ c = x) ∧ p c = z) := fun c hc => hc.imp id (fun hc => ⟨Or.inl hc.1, fun o => o.elim hc.2.1 (fun e => tx (e ▸ hc.1)), hc.2.2⟩)
      refine ⟨oth _ z1, oth _ z2, z3, fun c tc nc pc => z4 c (sp c tc (fun e => nc (Or.inr e))) (fun r => nc (Or.inl r)) pc⟩
  · by_cases e : z = x
    · subst e
      rw [hs_ss, hs_ss, hs_ss, hs_ss]
      exact ⟨fun _ => ⟨rfl, fun _ => rfl⟩, fun h => h.elim, fun nr => absurd (Or.inr rfl) nr, fun h => h.elim⟩
    · obtain ⟨b1, b2, b3, b4⟩ := hA z (sp z tz e)
      rw [hs_sn e, hs_sn e, hs_sn (by omega), hs_sn (by omega), hs_sn (by omega)]
      exact ⟨b1, b2, fun nr => b3 (fun r => nr (Or.inl r)), b4⟩
  · subst e
    rw [hs_sn (by omega)]; exact (hk rfl).1
  · subst e
    rw [Nat.zero_add]
    by_cases e : z = x
    · subst e
      rw [hs_ss, hs_ss, hs_ss, hs_sn (by omega), (hk rfl).1]; exact ⟨Nat.le_refl _, rfl⟩
    · have tz' := sp z tz e
      obtain ⟨z1, z2, z3, z4⟩ := hS z tz'
      have ne : ∀ c, c = 24 ∨ (T c ∧ ¬ R c ∧ p c = z) → c ≠ x := fun c hc e => hc.elim (fun o => by omega) (fun o => tx (e ▸ o.1))
      rw [hs_sn e, hs_sn e, hs_sn e, hs_sn (ne _ z1), hs_sn (ne _ z2)]
      exact (hk rfl).2 z tz' nd
/-- both children of x become roots -/
theorem h4_free {bs : Nat} {K : Nat → Int32} {g ll lR lp lk : Nat → Nat} {T R : Nat → Prop} {x : Nat} (h : h4_W bs K g T R hs_no hs_no hs_no ll lR lp lk) (tx : T x) : h4_W bs K g T (fun z => R z ∨ z = ll (bs + x) ∨ z = lR (bs + x)) hs_no (fun z => z = x) (fun z => z = x) ll lR lp lk := by
  obtain ⟨p, l, r, hF, hS, hA, hk⟩ := h
  obtain ⟨a1, a2, a3, a4⟩ := hA x tx
  obtain ⟨s1, s2, s3, s4⟩ := hS x tx
  rw [(a1 id).1, (a1 id).2 id]
  refine ⟨p, hs_s l x 24, hs_s r x 24, ⟨hF.1, fun c tc nc => hF.2 c tc (fun r => nc (Or.inl r))⟩, fun z tz => ?_, fun z tz => ?_, fun e => ⟨(hk e).1, fun z tz nd => ?_⟩⟩
  · by_cases e : z = x
    · subst e
      rw [hs_ss, hs_ss]
      refine ⟨Or.inl rfl, Or.inl rfl, fun _ => rfl, fun c tc nc pc => ?_⟩
      rcases s4 c tc (fun r => nc (Or.inl r)) pc with o | o
      · exact absurd (Or.inr (Or.inl o)) nc
      · exact absurd (Or.inr (Or.inr o)) nc
    · obtain ⟨z1, z2, z3, z4⟩ := hS z tz
      rw [hs_sn e, hs_sn e]
      have nx : ∀ c d, (c = 24 ∨ (T c ∧ ¬ R c ∧ p c = x)) → T d → p d = z → d ≠ c := by
        intro c d hc td pd e'
        rcases hc with o | o
        · have := hF.1 d td; omega
        · rw [← e', pd] at o; exact e o.2.2
      have oth : ∀ c, c = 24 ∨ (T c ∧ ¬ R c ∧ p c = z) → c = 24 ∨ (T c ∧ ¬ (R c ∨ c = l x ∨ c = r x) ∧ p c = z) := fun c hc => hc.imp id (fun hc => ⟨hc.1, fun o => o.elim hc.2.1 (fun o => o.elim (nx _ c s1 hc.1 hc.2.2) (nx _ c s2 hc.1 hc.2.2)), hc.2.2⟩)
      exact ⟨oth _ z1, oth _ z2, z3, fun c tc nc pc => z4 c tc (fun r => nc (Or.inl r)) pc⟩
  · obtain ⟨b1, b2, b3, b4⟩ := hA z tz
    refine ⟨fun ne => ?_, fun h => h.elim, fun nr => b3 (fun r => nr (Or.inl r)), fun e => by rw [hs_se e, hs_se e]; exact ⟨rfl, rfl⟩⟩
    rw [hs_sn ne, hs_sn ne]; exact b1 id
  · rw [hs_sn nd, hs_sn nd]; exact (hk e).2 z tz id
/-- a root without children leaves -/
theorem h4_del {bs : Nat} {K : Nat → Int32} {g ll lR lp lk : Nat → Nat} {T R E D : Nat → Prop} {x : Nat} (h : h4_W bs K g T R hs_no E D ll lR lp lk) (tx : T x) (rx : R x) (ex : E x) (hE : ∀ z, E z → z = x) : h4_W bs K g (fun z => T z ∧ z ≠ x) R hs_no hs_no D ll lR lp lk := by
  obtain ⟨p, l, r, hF, hS, hA, hk⟩ := h
  obtain ⟨a1, a2, a3, a4⟩ := hA x tx
  obtain ⟨s1, s2, s3, s4⟩ := hS x tx
  obtain ⟨l0, r0⟩ := a4 ex
  refine ⟨p, l, r, ⟨fun z hz => hF.1 z hz.1, fun c tc nc => ?_⟩, fun z tz => ?_, fun z tz => ?_, fun e => ⟨(hk e).1, fun z tz nd => (hk e).2 z tz.1 nd⟩⟩
  · obtain ⟨a, b⟩ := hF.2 c tc.1 nc
    refine ⟨⟨a, fun e => ?_⟩, b⟩
    have := s4 c tc.1 nc e
    have := hF.1 c tc.1
    omega
  · obtain ⟨z1, z2, z3, z4⟩ := hS z tz.1
    have oth : ∀ c, c = 24 ∨ (T c ∧ ¬ R c ∧ p c = z) → c = 24 ∨ ((T c ∧ c ≠ x) ∧ ¬ R c ∧ p c = z) := fun c hc => hc.imp id (fun hc => ⟨⟨hc.1, fun e => hc.2.1 (e ▸ rx)⟩, hc.2⟩)
    exact ⟨oth _ z1, oth _ z2, z3, fun c tc nc pc => z4 c tc.1 nc pc⟩
  · obtain ⟨b1, b2, b3, b4⟩ := hA z tz.1
    exact ⟨fun _ => b1 (fun e => tz.2 (hE z e)), b2, b3, fun h => h.elim⟩
theorem h4_cutL {bs : Nat} {K : Nat → Int32} {g ll lR lp lk : Nat → Nat} {T R E D : Nat → Prop} {x u : Nat} (h : h4_W bs K g T R hs_no E D ll lR lp lk) (tx : T x) (tu : T u) (eu : ¬ E u) (du : D u) (hl : ll (bs + u) = x) : h4_W bs K g T (fun z => R z ∨ z = x) hs_no E D (hs_s ll (bs + u) 24) lR lp lk := by
  obtain ⟨p, l, r, hF, hS, hA, hk⟩ := h
  obtain ⟨a1, a2, a3, a4⟩ := hA u tu
  obtain ⟨s1, s2, s3, s4⟩ := hS u tu
  have lu : l u = x := by rw [← (a1 eu).1]; exact hl
  have x24 := hF.1 x tx
  have px : T x ∧ ¬ R x ∧ p x = u := by
    rw [lu] at s1; exact s1.resolve_left (by omega)
  refine ⟨p, hs_s l u 24, r, ⟨hF.1, fun c tc nc => hF.2 c tc (fun r => nc (Or.inl r))⟩, fun z tz => ?_, fun z tz => ?_, fun e => ⟨(hk e).1, fun z tz nd => ?_⟩⟩
  · obtain ⟨z1, z2, z3, z4⟩ := hS z tz
    have oth : ∀ c, (z ≠ u ∨ c ≠ x) → (c = 24 ∨ (T c ∧ ¬ R c ∧ p c = z)) → c = 24 ∨ (T c ∧ ¬ (R c ∨ c = x) ∧ p c = z) := fun c ho hc => hc.imp id (fun hc => ⟨hc.1, fun o => o.elim hc.2.1 (fun e => ho.elim (fun h => h (by rw [← hc.2.2, e]; exact px.2.2)) (fun h => h e)), hc.2.2⟩)
    by_cases e : z = u
    · subst e
      rw [hs_ss]
      refine ⟨Or.inl rfl, oth _ (Or.inr (fun e => ?_)) z2, fun _ => rfl, fun c tc nc pc => ?_⟩
      · have := z3 (lu.trans e.symm)
        omega
      · rcases z4 c tc (fun r => nc (Or.inl r)) pc with o | o
        · exact absurd (Or.inr (o.trans lu)) nc
        · exact Or.inr o
    · rw [hs_sn e]
      exact ⟨oth _ (Or.inl e) z1, oth _ (Or.inl e) z2, z3, fun c tc nc pc => z4 c tc (fun r => nc (Or.inl r)) pc⟩
  · obtain ⟨b1, b2, b3, b4⟩ := hA z tz
    by_cases e : z = u
    · subst e
      rw [hs_ss, hs_ss]
      exact ⟨fun ne => ⟨rfl, (b1 ne).2⟩, b2, fun nr => b3 (fun r => nr (Or.inl r)), fun h => absurd h eu⟩
    · rw [hs_sn e, hs_sn (by omega)]
      exact ⟨b1, b2, fun nr => b3 (fun r => nr (Or.inl r)), b4⟩
  · have e' : z ≠ u := fun e => nd (e ▸ du)
    rw [hs_sn e']; exact (hk e).2 z tz nd
theorem h4_cutR {bs : Nat} {K : Nat → Int32} {g ll lR lp lk : Nat → Nat} {T R E D : Nat → Prop} {x u : Nat} (h : h4_W bs K g T R hs_no E D ll lR lp lk) (tx : T x) (tu : T u) (eu : ¬ E u) (du : D u) (hl : lR (bs + u) = x) : h4_W bs K g T (fun z => R z ∨ z = x) hs_no E D ll (hs_s lR (bs + u) 24) lp lk := by
  have h1 := h4_swap h tu eu id du
  have h2 := h4_cutL h1 tx tu eu du (by rw [hs_ss]; exact hl)
  have h3 := h4_swap h2 tu eu id du
  refine h4_fr h3 (fun z tz _ => ?_) (fun z tz _ _ => ?_) (fun _ _ _ => rfl) (fun _ _ _ => rfl)
  · by_cases e : z = u
    · rw [e, hs_ss, hs_ss]
    · rw [hs_sn (by omega), hs_sn (by omega), hs_sn (by omega)]
  · by_cases e : z = u
    · rw [e, hs_ss, hs_ss, hs_ss]
    · rw [hs_sn (by omega), hs_sn (by omega), hs_sn (by omega)]
theorem h4_attL {bs : Nat} {K : Nat → Int32} {g ll lR lp lk : Nat → Nat} {T R E D : Nat → Prop} {u m : Nat} (h : h4_W bs K g T R hs_no E D ll lR lp lk) (tu : T u) (eu : ¬ E u) (du : D u) (hl : ll (bs + u) = 24) (tm : T m) (rm : R m) (hb : hs_bef K u m) (hg : g m = g u) : h4_W bs K g T (fun z => R z ∧ z ≠ m) hs_no E D (hs_s ll (bs + u) m) lR (hs_s lp (bs + m) u) lk := by
  obtain ⟨p, l, r, hF, hS, hA, hk⟩ := h
  obtain ⟨a1, a2, a3, a4⟩ := hA u tu
  have lu : l u = 24 := by rw [← (a1 eu).1]; exact hl
  have nm : ∀ c, ¬ R c → c ≠ m := fun c nc e => nc (e ▸ rm)
  refine ⟨hs_s p m u, hs_s l u m, r, ⟨hF.1, fun c tc nc => ?_⟩, fun z tz => ?_, fun z tz => ?_, fun e => ⟨(hk e).1, fun z tz nd => ?_⟩⟩
  · by_cases e : c = m
    · rw [hs_se e, e]; exact ⟨tu, hb, hg.symm⟩
    · rw [hs_sn e]; exact hF.2 c tc (fun r => nc ⟨r, e⟩)
  · obtain ⟨z1, z2, z3, z4⟩ := hS z tz
    have oth : ∀ c, c = 24 ∨ (T c ∧ ¬ R c ∧ p c = z) → c = 24 ∨ (T c ∧ ¬ (R c ∧ c ≠ m) ∧ hs_s p m u c = z) := fun c hc => hc.imp id (fun hc => ⟨hc.1, fun o => hc.2.1 o.1, by rw [hs_sn (nm c hc.2.1)]; exact hc.2.2⟩)
    by_cases e : z = u
    · subst e
      rw [hs_ss]
      refine ⟨Or.inr ⟨tm, fun h => h.2 rfl, hs_ss⟩, oth _ z2, fun e => ?_, fun c tc nc pc => ?_⟩
      · rcases z2 with o | o
        · exact e.trans o
        · exact absurd e.symm (nm _ o.2.1)
      · by_cases e : c = m
        · exact Or.inl e
        · rw [hs_sn e] at pc
          rcases z4 c tc (fun r => nc ⟨r, e⟩) pc with o | o
          · rw [lu] at o; have := hF.1 c tc; omega
          · exact Or.inr o
    · rw [hs_sn e]
      refine ⟨oth _ z1, oth _ z2, z3, fun c tc nc pc => ?_⟩
      by_cases e' : c = m
      · rw [hs_se e'] at pc; exact absurd pc.symm e
      · rw [hs_sn e'] at pc
        exact z4 c tc (fun r => nc ⟨r, e'⟩) pc
  · obtain ⟨b1, b2, b3, b4⟩ := hA z tz
    refine ⟨fun ne => ⟨?_, (b1 ne).2⟩, b2, fun nr => ?_, fun h => ?_⟩
    · by_cases e : z = u
      · rw [e, hs_ss, hs_ss]
      · rw [hs_sn e, hs_sn (by omega)]; exact (b1 ne).1
    · by_cases e : z = m
      · rw [e, hs_ss, hs_ss]
      · rw [hs_sn e, hs_sn (by omega)]; exact b3 (fun h => nr ⟨h, e⟩)
    · have zu : z ≠ u := fun e => eu (e ▸ h)
      rw [hs_sn zu]; exact b4 h
  · have e' : z ≠ u := fun e => nd (e ▸ du)
    rw [hs_sn e']; exact (hk e).2 z tz nd
theorem h4_attR {bs : Nat} {K : Nat → Int32} {g ll lR lp lk : Nat → Nat} {T R E D : Nat → Prop} {u m : Nat} (h : h4_W bs K g T R hs_no E D ll lR lp lk) (tu : T u) (eu : ¬ E u) (du : D u) (hl : lR (bs + u) = 24) (tm : T m) (rm : R m) (hb : hs_bef K u m) (hg : g m = g u) : h4_W bs K g T (fun z => R z ∧ z ≠ m) hs_no E D ll (hs_s lR (bs + u) m) (hs_s lp (bs + m) u) lk := by
  have h1 := h4_swap h tu eu id du
  have h2 := h4_attL h1 tu eu du (by rw [hs_ss]; exact hl) tm rm hb hg
  have h3 := h4_swap h2 tu eu id du
  refine h4_fr h3 (fun z tz _ => ?_) (fun z tz _ _ => ?_) (fun _ _ _ => rfl) (fun _ _ _ => rfl)
  · by_cases e : z = u
    · rw [e, hs_ss, hs_ss]
    · rw [hs_sn (by omega), hs_sn (by omega), hs_sn (by omega)]
  · by_cases e : z = u
    · rw [e, hs_ss, hs_ss, hs_ss]
    · rw [hs_sn (by omega), hs_sn (by omega), hs_sn (by omega)]
end
section
/-! engines 4 and 5: the walks -/
theorem hs_bx {bs : Nat} (x : Nat) : nI bs + nI x = nI (bs + x) := nI_add bs x
/-- outside of the base's 25 places nothing changes -/
def h4_FR (bs : Nat) (ll lR lp lk ll' lR' lp' lk' : Nat → Nat) : Prop :=
  ∀ j, (j < bs ∨ bs + 25 ≤ j) → ll' j = ll j ∧ lR' j = lR j ∧ lp' j = lp j ∧ lk' j = lk j
def hs_bot : Nat → List Nat → Nat
  | m, [] => m
  | _, y :: t => hs_bot y t
section
variable {st : Nat} {K A : Nat → Int32} {sz hp pl pr pc pn pb rF rI rN rU rC rX rP rD gF gC gL gR gP gD gM gO lr ll lR lp lk wn sk : Nat → Nat}
theorem h4_setR {post : SX → Prop} {bs : Nat} {g : Nat → Nat} {T R H E D : Nat → Prop} {b' x' : Int32} (x : Nat) (hbs : bs = 0 ∨ bs = 25) (h : h4_W bs K g T R H E D ll lR lp lk) (tx : T x) (ex : ¬ E x) (hx : ¬ H x) (dx : D x) (hd : ∀ z, T z → hs_bef K x z → ¬ D z) (hpost : ∀ ll' lR' lk', h4_W bs K g T R H E (fun z => (D z ∧ z ≠ x) ∨ (¬ R x ∧ z = lp (bs + x))) ll' lR' lp lk' → (∀ j, j ≠ bs + x → ll' j = ll j ∧ lR' j = lR j ∧ lk' j = lk j) → post ((nI st), K, A, (hs_A sz), (hs_A hp), (hs_A pl), (hs_A pr), (hs_A pc), (hs_A pn), (hs_A pb), (hs_A rF), (hs_A rI), (hs_A rN), (hs_A rU), (hs_A rC), (hs_A rX), (hs_A rP), (hs_A rD), (hs_A gF), (hs_A gC), (hs_A gL), (hs_A gR), (hs_A gP), (hs_A gD), (hs_A gM), (hs_A gO), (hs_A lr), (hs_A ll'), (hs_A lR'), (hs_A lp), (hs_A lk'), (hs_A wn), (hs_A sk))) (eb : b' = nI bs := by rfl) (ey : x' = nI x := by rfl) : wpX_setRight post ((nI st), K, A, (hs_A sz), (hs_A hp), (hs_A pl), (hs_A pr), (hs_A pc), (hs_A pn), (hs_A pb), (hs_A rF), (hs_A rI), (hs_A rN), (hs_A rU), (hs_A rC), (hs_A rX), (hs_A rP), (hs_A rD), (hs_A gF), (hs_A gC), (hs_A gL), (hs_A gR), (hs_A gP), (hs_A gD), (hs_A gM), (hs_A gO), (hs_A lr), (hs_A ll), (hs_A lR), (hs_A lp), (hs_A lk), (hs_A wn), (hs_A sk)) b' x' := by
  subst eb; subst ey
  have x24 := h4_lt h x tx
  have rdx := h4_read h tx ex
  have lt := h4_lt h
  have l24 : ll (bs + x) ≤ 24 := by
    rcases rdx.1 with o | o
    · omega
    · have := lt _ o.1; omega
  have r24 : lR (bs + x) ≤ 24 := by
    rcases rdx.2.1 hx with o | o
    · omega
    · have := lt _ o.1; omega
  unfold wpX_setRight
  dsimp only
  refine hs_r (bs + x) (by omega) (hs_r (bs + x) (by omega) ?_ (hs_bx x)) (hs_bx x)
  rcases hbs with e | e
  · subst e
    simp only [Nat.zero_add] at *
    obtain ⟨b1, b2, _, _⟩ := h4_rb h tx ex hx hd
    have fin : ∀ ll lR, h4_W 0 K g T R H E D ll lR lp lk → lk (lR x) ≤ lk (ll x) → lk (lR x) ≤ 24 → lR x ≤ 24 → (∀ ll' lR' lk', h4_W 0 K g T R H E (fun z => (D z ∧ z ≠ x) ∨ (¬ R x ∧ z = lp x)) ll' lR' lp lk' → (∀ j, j ≠ x → ll' j = ll j ∧ lR' j = lR j ∧ lk' j = lk j) → post ((nI st), K, A, (hs_A sz), (hs_A hp), (hs_A pl), (hs_A pr), (hs_A pc), (hs_A pn), (hs_A pb), (hs_A rF), (hs_A rI), (hs_A rN), (hs_A rU), (hs_A rC), (hs_A rX), (hs_A rP), (hs_A rD), (hs_A gF), (hs_A gC), (hs_A gL), (hs_A gR), (hs_A gP), (hs_A gD), (hs_A gM), (hs_A gO), (hs_A lr), (hs_A ll'), (hs_A lR'), (hs_A lp), (hs_A lk'), (hs_A wn), (hs_A sk))) → wX_setRight_60 post (nI 0) (nI x) (nI st) K A (hs_A sz) (hs_A hp) (hs_A pl) (hs_A pr) (hs_A pc) (hs_A pn) (hs_A pb) (hs_A rF) (hs_A rI) (hs_A rN) (hs_A rU) (hs_A rC) (hs_A rX) (hs_A rP) (hs_A rD) (hs_A gF) (hs_A gC) (hs_A gL) (hs_A gR) (hs_A gP) (hs_A gD) (hs_A gM) (hs_A gO) (hs_A lr) (hs_A ll) (hs_A lR) (hs_A lp) (hs_A lk) (hs_A wn) (hs_A sk) := by
      intro ll lR h' hle hb24 hr24 hp'
      unfold wX_setRight_60
      refine br_t (by rfl) ?_
      refine hs_in x (by omega) (hs_in (lR x) (by omega) ?_ (hs_rd x (by omega)))
      refine hs_w x (lk (lR x) + 1) (by omega) (by omega) ?_ rfl (by rw [hs_rd (lR x) (by omega) (hs_rd x (by omega)), nI_1])
      refine hp' ll lR _ (h4_rank h' tx ex hx hle) (fun j hj => ⟨rfl, rfl, hs_sn hj⟩)
    refine br_f (by decide) ?_
    refine hs_in (ll x) (by omega) (hs_in (lR x) (by omega) ?_)
    refine pk_le (lk (lR x)) (lk (ll x)) (fun hle => ?_) (fun hlt => ?_) (hs_rd _ (by omega)) (hs_rd _ (by omega))
    · exact fin ll lR h hle b2 r24 hpost
    · unfold wX_setRight_39
      refine hs_w x (lR x) (by omega) (by omega) (hs_w x (ll x) (by omega) (by omega) ?_ (by rw [hs_bx, Nat.zero_add])) (by rw [hs_bx, Nat.zero_add])
      have h' := h4_swap h tx ex hx dx
      simp only [Nat.zero_add] at h'
      refine fin _ _ h' (by rw [hs_ss, hs_ss]; omega) (by rw [hs_ss]; exact b1) (by rw [hs_ss]; exact l24) (fun ll' lR' lk' hw hf => hpost ll' lR' lk' hw (fun j hj => ?_))
      obtain ⟨f1, f2, f3⟩ := hf j hj
      rw [f1, f2, hs_sn hj, hs_sn hj]; exact ⟨rfl, rfl, f3⟩
  · subst e
    refine br_t (by decide) ?_
    unfold wX_setRight_39
    refine hs_w (25 + x) (lR (25 + x)) (by omega) (by omega) (hs_w (25 + x) (ll (25 + x)) (by omega) (by omega) ?_ (hs_bx x)) (hs_bx x)
    unfold wX_setRight_60
    refine br_f (by decide) ?_
    exact hpost _ _ _ (h4_25 (h4_swap h tx ex hx dx) (by decide)) (fun j hj => ⟨hs_sn hj, hs_sn hj, rfl⟩)
/-- melt, going up again -/
theorem h4_m2 {post : Int32 → SX → Prop} {bs G : Nat} {g ll0 lR0 lp0 lk0 : Nat → Nat} {T R0 E : Nat → Prop} (hbs : bs = 0 ∨ bs = 25) : ∀ (stk : List Nat) (m : Nat) (sk ll lR lp lk : Nat → Nat), hs_K sk stk → stk.Nodup → stk.length ≤ 64 → (∀ z, z ∈ stk → T z ∧ ¬ R0 z ∧ ¬ E z ∧ g z = G ∧ z ≠ m) → stk.Pairwise (fun a b => hs_bef K b a) → (m = 24 ∨ (T m ∧ ¬ R0 m ∧ ¬ E m ∧ g m = G)) → (∀ z, z ∈ stk → m ≠ 24 → hs_bef K z m) → (∀ e, E e → T e → ∀ z, z ∈ stk → hs_bef K e z) → h4_W bs K g T (fun z => R0 z ∨ z ∈ stk ∨ z = m) (fun z => z ∈ stk) E (fun z => E z ∨ z ∈ stk) ll lR lp lk → h4_FR bs ll0 lR0 lp0 lk0 ll lR lp lk → (∀ z, T z → R0 z → lp (bs + z) = lp0 (bs + z)) → (∀ st' sk' ll' lR' lp' lk', h4_W bs K g T (fun z => R0 z ∨ z = hs_bot m stk) hs_no E E ll' lR' lp' lk' → h4_FR bs ll0 lR0 lp0 lk0 ll' lR' lp' lk' → (∀ z, T z → R0 z → lp' (bs + z) = lp0 (bs + z)) → lp' (bs + hs_bot m stk) = 24 → post (nI (hs_bot m stk)) ((nI (st')), K, A, (hs_A sz), (hs_A hp), (hs_A pl), (hs_A pr), (hs_A pc), (hs_A pn), (hs_A pb), (hs_A rF), (hs_A rI), (hs_A rN), (hs_A rU), (hs_A rC), (hs_A rX), (hs_A rP), (hs_A rD), (hs_A gF), (hs_A gC), (hs_A gL), (hs_A gR), (hs_A gP), (hs_A gD), (hs_A gM), (hs_A gO), (hs_A lr), (hs_A ll'), (hs_A lR'), (hs_A lp'), (hs_A lk'), (hs_A wn), (hs_A sk'))) → wX_melt_100 post (nI bs) (stk.length + 1) (nI m) (nI (stk.length)) K A (hs_A sz) (hs_A hp) (hs_A pl) (hs_A pr) (hs_A pc) (hs_A pn) (hs_A pb) (hs_A rF) (hs_A rI) (hs_A rN) (hs_A rU) (hs_A rC) (hs_A rX) (hs_A rP) (hs_A rD) (hs_A gF) (hs_A gC) (hs_A gL) (hs_A gR) (hs_A gP) (hs_A gD) (hs_A gM) (hs_A gO) (hs_A lr) (hs_A ll) (hs_A lR) (hs_A lp) (hs_A lk) (hs_A wn) (hs_A sk) := by
  intro stk
  induction stk with
  | nil =>
    intro m sk ll lR lp lk hk hd hl hz hs hm hzm hE hW hfr hro hpost
    have lt := h4_lt hW
    have m24 : m ≤ 24 := by
      rcases hm with o | o
      · omega
      · have := lt _ o.1; omega
    rw [wX_melt_100]
    refine br_t (by decide) ?_
    refine hs_wn (bs + m) 24 (by omega) (by omega) ?_ (hs_bx m)
    refine hpost 0 sk _ _ _ _ (h4_fr (h4_cg hW (R' := fun z => R0 z ∨ z = m) (H' := hs_no) (E' := E) (D' := E) (fun z _ => by simp) (fun z _ => by simp [hs_no]) (fun _ _ => Iff.rfl) (fun z _ h => by simpa using h)) (fun _ _ _ => rfl) (fun _ _ _ _ => rfl) (fun z tz nr => hs_sn (fun e => nr (Or.inr (by show z = m; omega)))) (fun _ _ _ => rfl)) (fun j hj => ?_) (fun z tz rz => ?_) hs_ss
    · obtain ⟨f1, f2, f3, f4⟩ := hfr j hj
      exact ⟨f1, f2, by rw [hs_sn (by omega)]; exact f3, f4⟩
    · rw [hs_sn]
      · exact hro z tz rz
      · intro e
        have zm : z = m := by omega
        rcases hm with o | o
        · have := lt z tz; omega
        · exact o.2.1 (zm ▸ rz)
  | cons y stk ih =>
    intro m sk ll lR lp lk hk hd hl hz hs hm hzm hE hW hfr hro hpost
    have lt := h4_lt hW
    have m24 : m ≤ 24 := by
      rcases hm with o | o
      · omega
      · have := lt _ o.1; omega
    rw [List.nodup_cons] at hd
    rw [List.pairwise_cons] at hs
    obtain ⟨ty, ry, ey, gy, ym⟩ := hz y (by simp)
    have y24 := lt y ty
    rw [List.length_cons] at hl
    rw [wX_melt_100, List.length_cons]
    refine br_f (nI_nle (by omega) (by omega)) (nm_r (nI_pred _) ?_)
    refine hs_r stk.length (by omega) ?_
    rw [hk.1]
    refine hs_w (bs + y) m (by omega) (by omega) (hs_w (bs + m) y (by omega) (by omega) ?_ (hs_bx m)) (hs_bx y)
    have hW1 := h4_link hW ty ey (List.mem_cons_self) (Or.inr List.mem_cons_self) (hm.imp id (fun o => ⟨o.1, Or.inr (Or.inr rfl), hzm y (by simp) (by have := lt m o.1; omega), o.2.2.2.trans gy.symm⟩))
    refine h4_setR y hbs hW1 ty ey (fun h => h.2 rfl) (Or.inr List.mem_cons_self) (fun z tz b o => ?_) (fun ll' lR' lk' hW2 hf2 => ?_)
    · rcases o with o | o
      · exact hs_bef_as b (hE z o tz y (by simp))
      · rcases List.mem_cons.1 o with o | o
        · rw [o] at b; exact hs_bef_irr b
        · exact hs_bef_as b (hs.1 z o)
    · dsimp only
      refine ih y sk ll' lR' _ lk' hk.2 hd.2 (by omega) (fun z hz' => ?_) hs.2 (Or.inr ⟨ty, ry, ey, gy⟩) (fun z hz' _ => hs.1 z hz') (fun e he te z hz' => hE e he te z (by simp [hz'])) (h4_cg hW2 (fun z tz => ?_) (fun z tz => ?_) (fun _ _ => Iff.rfl) (fun z tz o => ?_)) (fun j hj => ?_) (fun z tz rz => ?_) hpost
      · obtain ⟨c1, c2, c3, c4, c5⟩ := hz z (by simp [hz'])
        exact ⟨c1, c2, c3, c4, fun e => hd.1 (e ▸ hz')⟩
      · constructor
        · intro ⟨o, n⟩
          rcases o with o | o | o
          · exact Or.inl o
          · rcases List.mem_cons.1 o with o | o
            · exact Or.inr (Or.inr o)
            · exact Or.inr (Or.inl o)
          · exact absurd o n
        · intro o
          rcases o with o | o | o
          · refine ⟨Or.inl o, fun e => ?_⟩
            rcases hm with h | h
            · have := lt z tz; omega
            · exact h.2.1 (e ▸ o)
          · exact ⟨Or.inr (Or.inl (by simp [o])), (hz z (by simp [o])).2.2.2.2⟩
          · exact ⟨Or.inr (Or.inl (by simp [o])), by rw [o]; exact ym⟩
      · constructor
        · intro ⟨o, n⟩
          exact (List.mem_cons.1 o).resolve_left n
        · intro o
          exact ⟨by simp [o], fun e => hd.1 (e ▸ o)⟩
      · rcases o with ⟨o, n⟩ | ⟨o, _⟩
        · rcases o with o | o
          · exact Or.inl o
          · exact Or.inr ((List.mem_cons.1 o).resolve_left n)
        · exact absurd ⟨Or.inr (Or.inl (by simp)), ym⟩ o
      · obtain ⟨f1, f2, f3, f4⟩ := hfr j hj
        obtain ⟨k1, k2, k3⟩ := hf2 j (by omega)
        refine ⟨k1.trans f1, ?_, ?_, k3.trans f4⟩
        · rw [k2, hs_sn (by omega)]; exact f2
        · rw [hs_sn (by omega)]; exact f3
      · rw [hs_sn]
        · exact hro z tz rz
        · intro e
          have zm : z = m := by omega
          rcases hm with o | o
          · have := lt z tz; omega
          · exact o.2.1 (zm ▸ rz)
/-- melt, going down -/
theorem h4_m1 {post : Int32 → SX → Prop} {bs G : Nat} {g : Nat → Nat} {T R0 E B : Nat → Prop} (hbs : bs = 0 ∨ bs = 25) (hpost : ∀ st' sk' r ll' lR' lp' lk', B r → h4_W bs K g T (fun z => R0 z ∨ z = r) hs_no E E ll' lR' lp' lk' → h4_FR bs ll lR lp lk ll' lR' lp' lk' → (∀ z, T z → R0 z → lp' (bs + z) = lp (bs + z)) → lp' (bs + r) = 24 → post (nI r) ((nI (st')), K, A, (hs_A sz), (hs_A hp), (hs_A pl), (hs_A pr), (hs_A pc), (hs_A pn), (hs_A pb), (hs_A rF), (hs_A rI), (hs_A rN), (hs_A rU), (hs_A rC), (hs_A rX), (hs_A rP), (hs_A rD), (hs_A gF), (hs_A gC), (hs_A gL), (hs_A gR), (hs_A gP), (hs_A gD), (hs_A gM), (hs_A gO), (hs_A lr), (hs_A ll'), (hs_A lR'), (hs_A lp'), (hs_A lk'), (hs_A wn), (hs_A sk'))) : ∀ (n x y : Nat) (stk : List Nat) (sk : Nat → Nat), 25 ≤ n + stk.length → hs_K sk stk → stk.Nodup → (∀ z, z ∈ stk → T z ∧ ¬ R0 z ∧ ¬ E z ∧ g z = G ∧ z ≠ x ∧ z ≠ y) → stk.Pairwise (fun a b => hs_bef K b a) → (x = 24 ∨ (T x ∧ ¬ R0 x ∧ ¬ E x ∧ g x = G)) → (y = 24 ∨ (T y ∧ ¬ R0 y ∧ ¬ E y ∧ g y = G)) → (x = 24 ∨ x ≠ y) → (∀ z, z ∈ stk → (x ≠ 24 → hs_bef K z x) ∧ (y ≠ 24 → hs_bef K z y)) → (∀ e, E e → T e → (x ≠ 24 → hs_bef K e x) ∧ (y ≠ 24 → hs_bef K e y) ∧ ∀ z, z ∈ stk → hs_bef K e z) → h4_W bs K g T (fun z => R0 z ∨ z ∈ stk ∨ z = x ∨ z = y) (fun z => z ∈ stk) E (fun z => E z ∨ z ∈ stk) ll lR lp lk → (∀ m, m = x ∨ m = y → (m ≠ 24 ∨ (x = 24 ∧ y = 24)) → B (hs_bot m stk)) → wX_melt_11 post (nI bs) n (nI x) (nI y) (nI (stk.length)) K A (hs_A sz) (hs_A hp) (hs_A pl) (hs_A pr) (hs_A pc) (hs_A pn) (hs_A pb) (hs_A rF) (hs_A rI) (hs_A rN) (hs_A rU) (hs_A rC) (hs_A rX) (hs_A rP) (hs_A rD) (hs_A gF) (hs_A gC) (hs_A gL) (hs_A gR) (hs_A gP) (hs_A gD) (hs_A gM) (hs_A gO) (hs_A lr) (hs_A ll) (hs_A lR) (hs_A lp) (hs_A lk) (hs_A wn) (hs_A sk) := by
  intro n
  induction n with
  | zero =>
    intro x y stk sk hn hk hd hz hs hx hy hxy hzb hE hW hB
    have := hs_len (n := 24) hd (fun z hz' => h4_lt hW z (hz z hz').1)
    omega
  | succ n ih =>
    intro x y stk sk hn hk hd hz hs hx hy hxy hzb hE hW hB
    have lt := h4_lt hW
    have len := hs_len (n := 24) hd (fun z hz' => lt z (hz z hz').1)
    have up : ∀ m, (m = x ∨ m = y) → (x = 24 ∨ y = 24) → (m ≠ 24 ∨ (x = 24 ∧ y = 24)) → ∃ n100, wX_melt_100 post (nI bs) n100 (nI m) (nI (stk.length)) K A (hs_A sz) (hs_A hp) (hs_A pl) (hs_A pr) (hs_A pc) (hs_A pn) (hs_A pb) (hs_A rF) (hs_A rI) (hs_A rN) (hs_A rU) (hs_A rC) (hs_A rX) (hs_A rP) (hs_A rD) (hs_A gF) (hs_A gC) (hs_A gL) (hs_A gR) (hs_A gP) (hs_A gD) (hs_A gM) (hs_A gO) (hs_A lr) (hs_A ll) (hs_A lR) (hs_A lp) (hs_A lk) (hs_A wn) (hs_A sk) := by
      intro m hm hxy' hm'
      refine ⟨_, h4_m2 (G := G) (ll0 := ll) (lR0 := lR) (lp0 := lp) (lk0 := lk) hbs stk m sk ll lR lp lk hk hd (by omega) (fun z hz' => ?_) hs ?_ (fun z hz' hm24 => ?_) (fun e he te z hz' => (hE e he te).2.2 z hz') (h4_cg hW (fun z tz => ?_) (fun _ _ => Iff.rfl) (fun _ _ => Iff.rfl) (fun _ _ h => h)) (fun _ _ => ⟨rfl, rfl, rfl, rfl⟩) (fun _ _ _ => rfl) (fun st' sk' ll' lR' lp' lk' a b c d => hpost st' sk' _ ll' lR' lp' lk' (hB m hm hm') a b c d)⟩
      · obtain ⟨c1, c2, c3, c4, c5, c6⟩ := hz z hz'
        exact ⟨c1, c2, c3, c4, by rcases hm with e | e <;> rw [e] <;> assumption⟩
      · rcases hm with e | e
        · rw [e]; exact hx
        · rw [e]; exact hy
      · rcases hm with e | e
        · rw [e] at hm24 ⊢; exact (hzb z hz').1 hm24
        · rw [e] at hm24 ⊢; exact (hzb z hz').2 hm24
      · have z24 := lt z tz
        constructor
        · intro o
          rcases o with o | o | o | o
          · exact Or.inl o
          · exact Or.inr (Or.inl o)
          · exact Or.inr (Or.inr (by omega))
          · exact Or.inr (Or.inr (by omega))
        · intro o
          rcases o with o | o | o
          · exact Or.inl o
          · exact Or.inr (Or.inl o)
          · exact Or.inr (Or.inr (by omega))
    have x24 : x ≤ 24 := by
      rcases hx with o | o
      · omega
      · have := lt _ o.1; omega
    have y24 : y ≤ 24 := by
      rcases hy with o | o
      · omega
      · have := lt _ o.1; omega
    have dn : ∀ a b, ((a = x ∧ b = y) ∨ (a = y ∧ b = x)) → a ≠ 24 → b ≠ 24 → hs_bef K a b → wX_melt_48 post (wX_melt_11 post (nI bs) n) (nI bs) (nI a) (nI b) (nI (stk.length)) K A (hs_A sz) (hs_A hp) (hs_A pl) (hs_A pr) (hs_A pc) (hs_A pn) (hs_A pb) (hs_A rF) (hs_A rI) (hs_A rN) (hs_A rU) (hs_A rC) (hs_A rX) (hs_A rP) (hs_A rD) (hs_A gF) (hs_A gC) (hs_A gL) (hs_A gR) (hs_A gP) (hs_A gD) (hs_A gM) (hs_A gO) (hs_A lr) (hs_A ll) (hs_A lR) (hs_A lp) (hs_A lk) (hs_A wn) (hs_A sk) := by
      intro a b hab a24 b24 hlt
      have ta : T a ∧ ¬ R0 a ∧ ¬ E a ∧ g a = G := by
        rcases hab with ⟨e, _⟩ | ⟨e, _⟩
        · rw [e] at a24 ⊢; exact hx.resolve_left a24
        · rw [e] at a24 ⊢; exact hy.resolve_left a24
      have tb : T b ∧ ¬ R0 b ∧ ¬ E b ∧ g b = G := by
        rcases hab with ⟨_, e⟩ | ⟨_, e⟩
        · rw [e] at b24 ⊢; exact hy.resolve_left b24
        · rw [e] at b24 ⊢; exact hx.resolve_left b24
      have an : a ∉ stk := by
        intro hm
        obtain ⟨c1, c2, c3, c4, c5, c6⟩ := hz a hm
        rcases hab with ⟨e, _⟩ | ⟨e, _⟩
        · exact c5 e
        · exact c6 e
      have bn : b ∉ stk := by
        intro hm
        obtain ⟨c1, c2, c3, c4, c5, c6⟩ := hz b hm
        rcases hab with ⟨_, e⟩ | ⟨_, e⟩
        · exact c6 e
        · exact c5 e
      have zab : ∀ z, z ∈ stk → hs_bef K z a ∧ hs_bef K z b := by
        intro z hz'
        have := hzb z hz'
        rcases hab with ⟨e, e'⟩ | ⟨e, e'⟩
        · rw [e, e']; exact ⟨this.1 (by omega), this.2 (by omega)⟩
        · rw [e, e']; exact ⟨this.2 (by omega), this.1 (by omega)⟩
      have eab : ∀ e, E e → T e → hs_bef K e a ∧ hs_bef K e b := by
        intro z he te
        have := hE z he te
        rcases hab with ⟨e, e'⟩ | ⟨e, e'⟩
        · rw [e, e']; exact ⟨this.1 (by omega), this.2.1 (by omega)⟩
        · rw [e, e']; exact ⟨this.2.1 (by omega), this.1 (by omega)⟩
      have rab : ∀ z, (z = x ∨ z = y) ↔ (z = a ∨ z = b) := by
        intro z
        rcases hab with ⟨e, e'⟩ | ⟨e, e'⟩ <;> omega
      have a24' := lt a ta.1
      have nd' : (a :: stk).Nodup := List.nodup_cons.2 ⟨an, hd⟩
      have len' := hs_len (n := 24) nd' (fun z hz' => by
        rcases List.mem_cons.1 hz' with o | o
        · rw [o]; exact a24'
        · exact lt z (hz z o).1)
      rw [List.length_cons] at len'
      have rda := h4_read hW ta.1 ta.2.2.1
      have rc := rda.2.1 an
      unfold wX_melt_48
      refine hs_w stk.length a (by omega) (by omega) (nm_r (nI_1 _) ?_)
      refine hs_r (bs + a) (by omega) ?_ (hs_bx a)
      have hW1 := h4_unlink hW ta.1 ta.2.2.1 an
      have rnew : lR (bs + a) ≠ 24 → T (lR (bs + a)) ∧ ¬ R0 (lR (bs + a)) ∧ ¬ E (lR (bs + a)) ∧ g (lR (bs + a)) = G ∧ lR (bs + a) ∉ a :: stk ∧ lR (bs + a) ≠ b ∧ hs_bef K a (lR (bs + a)) := by
        intro hne
        obtain ⟨c1, c2, c3, c4, c5⟩ := rc.resolve_left hne
        refine ⟨c1, fun o => c2 (Or.inl o), fun o => ?_, c4.trans ta.2.2.2, fun o => ?_, fun o => c2 (Or.inr (Or.inr ((rab _).2 (Or.inr o)))), c3⟩
        · exact hs_bef_as c3 (eab _ o c1).1
        · rcases List.mem_cons.1 o with o | o
          · exact c2 (Or.inr (Or.inr ((rab _).2 (Or.inl o))))
          · exact c2 (Or.inr (Or.inl o))
      refine ih (lR (bs + a)) b (a :: stk) _ (by rw [List.length_cons]; omega) (hs_K_push hk) nd' (fun z hz' => ?_) (List.pairwise_cons.2 ⟨fun z hz' => (zab z hz').1, hs⟩) ?_ (Or.inr tb) ?_ (fun z hz' => ?_) (fun e he te => ?_) (h4_cg hW1 (fun z tz => ?_) (fun z tz => ?_) (fun _ _ => Iff.rfl) (fun z tz o => ?_)) (fun m hm hm' => ?_)
      · rcases List.mem_cons.1 hz' with o | o
        · rw [o]
          refine ⟨ta.1, ta.2.1, ta.2.2.1, ta.2.2.2, fun e => ?_, hs_bef_ne hlt⟩
          exact (rnew (by omega)).2.2.2.2.1 (by rw [← e]; simp)
        · obtain ⟨c1, c2, c3, c4, c5, c6⟩ := hz z o
          have z24 := lt z c1
          refine ⟨c1, c2, c3, c4, fun e => ?_, fun e => bn (e ▸ o)⟩
          exact (rnew (by omega)).2.2.2.2.1 (by rw [← e]; simp [o])
      · by_cases e : lR (bs + a) = 24
        · exact Or.inl e
        · have := rnew e
          exact Or.inr ⟨this.1, this.2.1, this.2.2.1, this.2.2.2.1⟩
      · by_cases e : lR (bs + a) = 24
        · exact Or.inl e
        · exact Or.inr (rnew e).2.2.2.2.2.1
      · rcases List.mem_cons.1 hz' with o | o
        · rw [o]; exact ⟨fun e => (rnew e).2.2.2.2.2.2, fun _ => hlt⟩
        · exact ⟨fun e => hs_bef_tr (zab z o).1 (rnew e).2.2.2.2.2.2, fun _ => (zab z o).2⟩
      · refine ⟨fun h => hs_bef_tr (eab e he te).1 (rnew h).2.2.2.2.2.2, fun _ => (eab e he te).2, fun z hz' => ?_⟩
        rcases List.mem_cons.1 hz' with o | o
        · rw [o]; exact (eab e he te).1
        · exact (hE e he te).2.2 z o
      · rw [List.mem_cons]
        constructor
        · intro o
          rcases o with (o | o | o) | o
          · exact Or.inl o
          · exact Or.inr (Or.inl (Or.inr o))
          · rcases (rab z).1 o with o | o
            · exact Or.inr (Or.inl (Or.inl o))
            · exact Or.inr (Or.inr (Or.inr o))
          · exact Or.inr (Or.inr (Or.inl o))
        · intro o
          rcases o with o | (o | o) | o | o
          · exact Or.inl (Or.inl o)
          · exact Or.inl (Or.inr (Or.inr ((rab z).2 (Or.inl o))))
          · exact Or.inl (Or.inr (Or.inl o))
          · exact Or.inr o
          · exact Or.inl (Or.inr (Or.inr ((rab z).2 (Or.inr o))))
      · rw [List.mem_cons]
        exact ⟨fun o => o.elim Or.inr Or.inl, fun o => o.elim Or.inr Or.inl⟩
      · rw [List.mem_cons]
        rcases o with (o | o) | o
        · exact Or.inl o
        · exact Or.inr (Or.inr o)
        · exact Or.inr (Or.inl o)
      · exact hB a ((rab a).2 (Or.inl rfl)) (Or.inl a24)
    rw [wX_melt_11]
    refine pk_eq x 24 (fun e => ?_) (fun e => pk_eq y 24 (fun e' => ?_) (fun e' => ?_))
    · unfold wX_melt_84
      refine pk_eq x 24 (fun _ => up y (Or.inr rfl) (Or.inl e) ?_) (fun n => absurd e n)
      by_cases e' : y = 24
      · exact Or.inr ⟨e, e'⟩
      · exact Or.inl e'
    · unfold wX_melt_84
      exact pk_eq x 24 (fun n => absurd n e) (fun _ => up x (Or.inl rfl) (Or.inr e') (Or.inl e))
    · refine hs_cbb y x (by omega) (by omega) (fun hlt => dn y x (Or.inr ⟨rfl, rfl⟩) e' e hlt) (fun hlt => dn x y (Or.inl ⟨rfl, rfl⟩) e e' ?_)
      exact hs_bef_tot hlt (Ne.symm (hxy.resolve_left e))
theorem h4_melt {post : Int32 → SX → Prop} {bs G : Nat} {g : Nat → Nat} {T R E : Nat → Prop} {b' x' y' : Int32} (R0 : Nat → Prop) (a b : Nat) (hbs : bs = 0 ∨ bs = 25) (hW : h4_W bs K g T R hs_no E E ll lR lp lk) (hR : ∀ z, T z → (R z ↔ R0 z ∨ z = a ∨ z = b)) (ha : a = 24 ∨ (T a ∧ ¬ R0 a ∧ ¬ E a ∧ g a = G)) (hb : b = 24 ∨ (T b ∧ ¬ R0 b ∧ ¬ E b ∧ g b = G)) (hab : a = 24 ∨ a ≠ b) (hE : ∀ e, E e → T e → (a ≠ 24 → hs_bef K e a) ∧ (b ≠ 24 → hs_bef K e b)) (hpost : ∀ st' sk' r ll' lR' lp' lk', (r = a ∨ r = b) → (r = 24 → a = 24 ∧ b = 24) → h4_W bs K g T (fun z => R0 z ∨ z = r) hs_no E E ll' lR' lp' lk' → h4_FR bs ll lR lp lk ll' lR' lp' lk' → (∀ z, T z → R0 z → lp' (bs + z) = lp (bs + z)) → lp' (bs + r) = 24 → post (nI r) ((nI (st')), K, A, (hs_A sz), (hs_A hp), (hs_A pl), (hs_A pr), (hs_A pc), (hs_A pn), (hs_A pb), (hs_A rF), (hs_A rI), (hs_A rN), (hs_A rU), (hs_A rC), (hs_A rX), (hs_A rP), (hs_A rD), (hs_A gF), (hs_A gC), (hs_A gL), (hs_A gR), (hs_A gP), (hs_A gD), (hs_A gM), (hs_A gO), (hs_A lr), (hs_A ll'), (hs_A lR'), (hs_A lp'), (hs_A lk'), (hs_A wn), (hs_A sk'))) (eb : b' = nI bs := by rfl) (ex : x' = nI a := by rfl) (ey : y' = nI b := by rfl) : wpX_melt post ((nI st), K, A, (hs_A sz), (hs_A hp), (hs_A pl), (hs_A pr), (hs_A pc), (hs_A pn), (hs_A pb), (hs_A rF), (hs_A rI), (hs_A rN), (hs_A rU), (hs_A rC), (hs_A rX), (hs_A rP), (hs_A rD), (hs_A gF), (hs_A gC), (hs_A gL), (hs_A gR), (hs_A gP), (hs_A gD), (hs_A gM), (hs_A gO), (hs_A lr), (hs_A ll), (hs_A lR), (hs_A lp), (hs_A lk), (hs_A wn), (hs_A sk)) b' x' y' := by
  subst eb; subst ex; subst ey
  unfold wpX_melt
  dsimp only
  refine ⟨25, h4_m1 (G := G) (R0 := R0) (E := E) (B := fun r => (r = a ∨ r = b) ∧ (r = 24 → a = 24 ∧ b = 24)) hbs (fun st' sk' r ll' lR' lp' lk' hB => hpost st' sk' r ll' lR' lp' lk' hB.1 hB.2) 25 a b [] sk (by simp) trivial List.nodup_nil (fun z hz => by simp at hz) List.Pairwise.nil ha hb hab (fun z hz => by simp at hz) (fun e he te => ⟨(hE e he te).1, (hE e he te).2, fun z hz => by simp at hz⟩) (h4_cg hW (fun z tz => by rw [hR z tz]; simp) (fun z _ => by simp [hs_no]) (fun _ _ => Iff.rfl) (fun _ _ h => Or.inl h)) (fun m hm hm' => ⟨hm, fun e => ?_⟩)⟩
  rcases hm' with h | h
  · exact absurd e h
  · exact h
end
end
section
/-! engines 4 and 5: the operations -/
theorem hs_R_set {Q ro : Nat → Nat} {q r : Nat} (hr : r = 24 ∨ (r < 24 ∧ Q r = q + 1)) {z : Nat} (tz : hs_T Q z) : ((hs_R Q ro z ∧ Q z ≠ q + 1) ∨ z = r) ↔ hs_R Q (hs_s ro q r) z := by
  have z0 := tz.2
  have z24 := tz.1
  unfold hs_R
  by_cases e : Q z = q + 1
  · have e' : Q z - 1 = q := by omega
    rw [e', hs_ss]
    exact ⟨fun o => o.elim (fun o => absurd e o.2) Eq.symm, fun o => Or.inr o.symm⟩
  · rw [hs_sn (by omega : Q z - 1 ≠ q)]
    refine ⟨fun o => o.elim (fun o => o.1) (fun o => ?_), fun o => Or.inl ⟨o, e⟩⟩
    rcases hr with h | h
    · omega
    · rw [← o] at h; exact absurd h.2 e
theorem hs_RQ_set {Q ro : Nat → Nat} {q r : Nat} (hr : r = 24 ∨ (r < 24 ∧ Q r = q + 1)) (h : ∀ p, p < 4 → p ≠ q → ro p = 24 ∨ (ro p < 24 ∧ Q (ro p) = p + 1)) : hs_RQ Q (hs_s ro q r) := by
  intro p hp
  by_cases e : p = q
  · rw [e, hs_ss]; exact hr
  · rw [hs_sn e]; exact h p hp e
/-- the root of queue q among all roots -/
theorem hs_R_q {Q ro : Nat → Nat} (hr : hs_RQ Q ro) {q : Nat} (hq : q < 4) {z : Nat} (tz : hs_T Q z) : hs_R Q ro z ↔ (hs_R Q ro z ∧ Q z ≠ q + 1) ∨ z = ro q := by
  have z0 := tz.2
  have z24 := tz.1
  unfold hs_R
  by_cases e : Q z = q + 1
  · have e' : Q z - 1 = q := by omega
    rw [e']
    exact ⟨fun o => Or.inr o.symm, fun o => o.elim (fun o => absurd e o.2) Eq.symm⟩
  · refine ⟨fun o => Or.inl ⟨o, e⟩, fun o => o.elim (fun o => o.1) (fun o => ?_)⟩
    rcases hr q hq with h | h
    · omega
    · rw [← o] at h; exact absurd h.2 e
def h4_I (bs : Nat) (K : Nat → Int32) (Q ro ll lR lp lk : Nat → Nat) : Prop :=
  hs_RQ Q ro ∧ h4_W bs K Q (hs_T Q) (hs_R Q ro) hs_no hs_no hs_no ll lR lp lk ∧ ∀ x, hs_T Q x → hs_R Q ro x → lp (bs + x) = 24
theorem h4_first {bs : Nat} {K : Nat → Int32} {Q ro ll lR lp lk : Nat → Nat} (h : h4_I bs K Q ro ll lR lp lk) {q : Nat} (hq : q < 4) : hs_min K Q q (ro q) := by
  obtain ⟨hr, ⟨p, l, r, hF, _⟩, _⟩ := h
  exact hs_RQ_min hr hF hq
theorem h4_I_K {bs : Nat} {K K' : Nat → Int32} {Q ro ll lR lp lk : Nat → Nat} (h : h4_I bs K Q ro ll lR lp lk) (hK : ∀ j, hs_T Q j → K' j = K j) : h4_I bs K' Q ro ll lR lp lk := by
  obtain ⟨hr, ⟨p, l, r, hF, hs⟩, hro⟩ := h
  refine ⟨hr, ⟨p, l, r, ⟨hF.1, fun c tc nc => ?_⟩, hs⟩, hro⟩
  obtain ⟨a, b, d⟩ := hF.2 c tc nc
  refine ⟨a, ?_, d⟩
  unfold hs_bef at *
  rw [hK _ a, hK _ tc]; exact b
/-- the other engine's part of the arrays -/
theorem h4_I_fr {bs : Nat} {K : Nat → Int32} {Q ro ro' ll lR lp lk ll' lR' lp' lk' : Nat → Nat} (h : h4_I bs K Q ro ll lR lp lk) (h0 : ∀ q, q < 4 → ro' q = ro q) (hQ : ∀ x, Q x ≤ 4) (h1 : ∀ j, bs ≤ j → j < bs + 25 → ll' j = ll j ∧ lR' j = lR j ∧ lp' j = lp j ∧ lk' j = lk j) : h4_I bs K Q ro' ll' lR' lp' lk' := by
  obtain ⟨hr, hW, hro⟩ := h
  have lt := h4_lt hW
  have er : ∀ z, hs_T Q z → (hs_R Q ro z ↔ hs_R Q ro' z) := fun z tz => by
    unfold hs_R
    rw [h0 (Q z - 1) (by have := hQ z; have := tz.2; omega)]
  refine ⟨fun q hq => by rw [h0 q hq]; exact hr q hq, h4_cg (h4_fr hW (fun z tz _ => ?_) (fun z tz _ _ => ?_) (fun z tz _ => ?_) (fun e z tz => ?_)) er (fun _ _ => Iff.rfl) (fun _ _ => Iff.rfl) (fun _ _ h => h), fun x tx rx => ?_⟩
  · have := lt z tz; exact (h1 _ (by omega) (by omega)).1
  · have := lt z tz; exact (h1 _ (by omega) (by omega)).2.1
  · have := lt z tz; exact (h1 _ (by omega) (by omega)).2.2.1
  · have : z ≤ 24 := tz.elim (fun t => by have := lt z t; omega) (fun e => by omega)
    exact (h1 z (by omega) (by omega)).2.2.2
  · have := lt x tx
    rw [(h1 _ (by omega) (by omega)).2.2.1]; exact hro x tx ((er x tx).2 rx)
theorem h4_up {bs : Nat} {K : Nat → Int32} {g ll lR lp lk : Nat → Nat} {T R E D : Nat → Prop} {x : Nat} (h : h4_W bs K g T R hs_no E D ll lR lp lk) (tx : T x) (rx : ¬ R x) : T (lp (bs + x)) ∧ hs_bef K (lp (bs + x)) x ∧ g (lp (bs + x)) = g x ∧ (¬ E (lp (bs + x)) → ll (bs + lp (bs + x)) = x ∨ lR (bs + lp (bs + x)) = x) := by
  obtain ⟨p, l, r, hF, hS, hA, hk⟩ := h
  rw [(hA x tx).2.2.1 rx]
  obtain ⟨a, b, c⟩ := hF.2 x tx rx
  refine ⟨a, b, c, fun ne => ?_⟩
  obtain ⟨a1, _⟩ := hA _ a
  rw [(a1 ne).1, (a1 ne).2 id]
  exact ((hS _ a).2.2.2 x tx rx rfl).imp Eq.symm Eq.symm
/-- a lowered key that still is behind its parent -/
theorem h4_Kc2 {bs : Nat} {K K' : Nat → Int32} {g ll lR lp lk : Nat → Nat} {T R H E D : Nat → Prop} {x : Nat} (h : h4_W bs K g T R H E D ll lR lp lk) (tx : T x) (hx : hs_bef K' (lp (bs + x)) x) (hK : ∀ j, j ≠ x → K' j = K j) (hl : K' x ≤ K x) : h4_W bs K' g T R H E D ll lR lp lk := by
  obtain ⟨p, l, r, hF, hS, hA, hk⟩ := h
  refine ⟨p, l, r, ⟨hF.1, fun c tc nc => ?_⟩, hS, hA, hk⟩
  obtain ⟨a, b, d⟩ := hF.2 c tc nc
  refine ⟨a, ?_, d⟩
  by_cases e : c = x
  · subst e
    rw [← (hA c tc).2.2.1 nc]; exact hx
  · exact hs_bef_low hK hl e b
section
variable {st : Nat} {K A : Nat → Int32} {sz hp pl pr pc pn pb rF rI rN rU rC rX rP rD gF gC gL gR gP gD gM gO lr ll lR lp lk wn sk : Nat → Nat}
theorem h4_rp {post : Int32 → Prop} {bs o q : Nat} {b' q' : Int32} (hbo : (bs = 0 ∧ o = 0) ∨ (bs = 25 ∧ o = 4)) (h : post (nI (o + q))) (eb : b' = nI bs := by rfl) (eq : q' = nI q := by rfl) : wpX_rootPlace post ((nI st), K, A, (hs_A sz), (hs_A hp), (hs_A pl), (hs_A pr), (hs_A pc), (hs_A pn), (hs_A pb), (hs_A rF), (hs_A rI), (hs_A rN), (hs_A rU), (hs_A rC), (hs_A rX), (hs_A rP), (hs_A rD), (hs_A gF), (hs_A gC), (hs_A gL), (hs_A gR), (hs_A gP), (hs_A gD), (hs_A gM), (hs_A gO), (hs_A lr), (hs_A ll), (hs_A lR), (hs_A lp), (hs_A lk), (hs_A wn), (hs_A sk)) b' q' := by
  subst eb; subst eq
  unfold wpX_rootPlace
  dsimp only
  rcases hbo with ⟨e, e'⟩ | ⟨e, e'⟩
  · subst e; subst e'
    rw [Nat.zero_add] at h
    exact br_t (by decide) h
  · subst e; subst e'
    exact br_f (by decide) (by rw [← nI_add] at h; exact h)
theorem h4_setL {post : SX → Prop} {bs o : Nat} {b' q' x' : Int32} (q x : Nat) (hbo : (bs = 0 ∧ o = 0) ∨ (bs = 25 ∧ o = 4)) (hq : q < 4) (hx : x ≤ 24) (hp0 : lp (bs + x) = 24) (h : post ((nI st), K, A, (hs_A sz), (hs_A hp), (hs_A pl), (hs_A pr), (hs_A pc), (hs_A pn), (hs_A pb), (hs_A rF), (hs_A rI), (hs_A rN), (hs_A rU), (hs_A rC), (hs_A rX), (hs_A rP), (hs_A rD), (hs_A gF), (hs_A gC), (hs_A gL), (hs_A gR), (hs_A gP), (hs_A gD), (hs_A gM), (hs_A gO), (hs_A (hs_s lr (o + q) x)), (hs_A ll), (hs_A lR), (hs_A lp), (hs_A lk), (hs_A wn), (hs_A sk))) (eb : b' = nI bs := by rfl) (eq : q' = nI q := by rfl) (ex : x' = nI x := by rfl) : wpX_setLean post ((nI st), K, A, (hs_A sz), (hs_A hp), (hs_A pl), (hs_A pr), (hs_A pc), (hs_A pn), (hs_A pb), (hs_A rF), (hs_A rI), (hs_A rN), (hs_A rU), (hs_A rC), (hs_A rX), (hs_A rP), (hs_A rD), (hs_A gF), (hs_A gC), (hs_A gL), (hs_A gR), (hs_A gP), (hs_A gD), (hs_A gM), (hs_A gO), (hs_A lr), (hs_A ll), (hs_A lR), (hs_A lp), (hs_A lk), (hs_A wn), (hs_A sk)) b' q' x' := by
  subst eb; subst eq; subst ex
  unfold wpX_setLean
  dsimp only
  refine h4_rp (q := q) hbo ?_
  refine hs_w (o + q) x (by omega) (by omega) ?_
  refine pk_eq x 24 (fun e => h) (fun e => ?_)
  refine hs_wn (bs + x) 24 (by omega) (by omega) ?_ (hs_bx x)
  have : hs_s lp (bs + x) 24 = lp := by rw [← hp0, hs_self]
  rw [this]; exact h
theorem h4_fix {post : SX → Prop} {bs : Nat} {g : Nat → Nat} {T R C : Nat → Prop} (hbs : bs = 0 ∨ bs = 25) (hro : ∀ z, T z → R z → C z → lp (bs + z) = 24) (hC : ∀ z, T z → ¬ R z → C z → C (lp (bs + z))) {ll0 lR0 lk0 : Nat → Nat} (hpost : ∀ ll' lR' lk', h4_W bs K g T R hs_no hs_no hs_no ll' lR' lp lk' → (∀ j, (j < bs ∨ bs + 25 ≤ j) → ll' j = ll0 j ∧ lR' j = lR0 j ∧ lk' j = lk0 j) → post ((nI st), K, A, (hs_A sz), (hs_A hp), (hs_A pl), (hs_A pr), (hs_A pc), (hs_A pn), (hs_A pb), (hs_A rF), (hs_A rI), (hs_A rN), (hs_A rU), (hs_A rC), (hs_A rX), (hs_A rP), (hs_A rD), (hs_A gF), (hs_A gC), (hs_A gL), (hs_A gR), (hs_A gP), (hs_A gD), (hs_A gM), (hs_A gO), (hs_A lr), (hs_A ll'), (hs_A lR'), (hs_A lp), (hs_A lk'), (hs_A wn), (hs_A sk))) : ∀ (n u : Nat) (ll lR lk : Nat → Nat), (u = 24 ∧ 0 < n ∨ (T u ∧ C u ∧ hs_rk K u + 1 < n)) → h4_W bs K g T R hs_no hs_no (fun z => z = u) ll lR lp lk → (∀ j, (j < bs ∨ bs + 25 ≤ j) → ll j = ll0 j ∧ lR j = lR0 j ∧ lk j = lk0 j) → wX_putInPlace_65 post (nI bs) n (nI u) (nI st) K A (hs_A sz) (hs_A hp) (hs_A pl) (hs_A pr) (hs_A pc) (hs_A pn) (hs_A pb) (hs_A rF) (hs_A rI) (hs_A rN) (hs_A rU) (hs_A rC) (hs_A rX) (hs_A rP) (hs_A rD) (hs_A gF) (hs_A gC) (hs_A gL) (hs_A gR) (hs_A gP) (hs_A gD) (hs_A gM) (hs_A gO) (hs_A lr) (hs_A ll) (hs_A lR) (hs_A lp) (hs_A lk) (hs_A wn) (hs_A sk) := by
  intro n
  induction n with
  | zero => intro u ll lR lk h; omega
  | succ n ih =>
    intro u ll lR lk hu hW hfr
    have lt := h4_lt hW
    have u24 : u ≤ 24 := by
      rcases hu with h | h
      · omega
      · have := lt u h.1; omega
    rw [wX_putInPlace_65]
    refine pk_eq u 24 (fun e => ?_) (fun e => ?_)
    · refine hpost ll lR lk (h4_cg hW (fun _ _ => Iff.rfl) (fun _ _ => Iff.rfl) (fun _ _ => Iff.rfl) (fun z tz h => ?_)) hfr
      have := lt z tz; omega
    · have tu : T u := by
        rcases hu with h | h
        · exact absurd h.1 e
        · exact h.1
      have hrk : C u ∧ hs_rk K u + 1 < n + 1 := by
        rcases hu with h | h
        · exact absurd h.1 e
        · exact h.2
      rcases hbs with e0 | e0
      · subst e0
        refine br_t (by rfl) ?_
        refine h4_setR u (Or.inl rfl) hW tu id id rfl (fun z tz b h => ?_) (fun ll' lR' lk' hW2 hf2 => ?_)
        · rw [h] at b; exact hs_bef_irr b
        · dsimp only
          have ut := lt u tu
          refine hs_r u (by omega) ?_
          by_cases ru : R u
          · have e1 := hro u tu ru hrk.1
            rw [Nat.zero_add] at e1
            rw [e1]
            refine ih 24 ll' lR' lk' (Or.inl ⟨rfl, by omega⟩) (h4_cg hW2 (fun _ _ => Iff.rfl) (fun _ _ => Iff.rfl) (fun _ _ => Iff.rfl) (fun z tz h => ?_)) (fun j hj => ?_)
            · rcases h with h | h
              · exact absurd h.1 h.2
              · exact absurd ru h.1
            · obtain ⟨f1, f2, f3⟩ := hf2 j (by omega)
              rw [f1, f2, f3]; exact hfr j hj
          · obtain ⟨c1, c2, c3, c4⟩ := h4_up hW2 tu ru
            rw [Nat.zero_add] at c1 c2
            have lt2 := hs_rk_lt c2 (lt _ c1)
            refine ih (lp u) ll' lR' lk' (Or.inr ⟨c1, by have := hC u tu ru hrk.1; rwa [Nat.zero_add] at this, by omega⟩) (h4_cg hW2 (fun _ _ => Iff.rfl) (fun _ _ => Iff.rfl) (fun _ _ => Iff.rfl) (fun z tz h => ?_)) (fun j hj => ?_)
            · rcases h with h | h
              · exact absurd h.1 h.2
              · rw [h.2, Nat.zero_add]
            · obtain ⟨f1, f2, f3⟩ := hf2 j (by omega)
              rw [f1, f2, f3]; exact hfr j hj
      · subst e0
        refine br_f (by decide) ?_
        exact hpost ll lR lk (h4_25 hW (by decide)) hfr
theorem h4_put {post : SX → Prop} {bs : Nat} {g : Nat → Nat} {T R C : Nat → Prop} {b' x' m' : Int32} (x m u : Nat) (hbs : bs = 0 ∨ bs = 25) (eu : lp (bs + x) = u) (tu : T u) (hx : x < 24) (hm : m ≤ 24) (hl : ll (bs + u) ≤ 24) (hL : ll (bs + u) = x → h4_W bs K g T R hs_no hs_no (fun z => z = u) (hs_s ll (bs + u) m) lR (if m = 24 then lp else hs_s lp (bs + m) u) lk) (hR : ll (bs + u) ≠ x → h4_W bs K g T R hs_no hs_no (fun z => z = u) ll (hs_s lR (bs + u) m) (if m = 24 then lp else hs_s lp (bs + m) u) lk) (hro : ∀ z, T z → R z → C z → (if m = 24 then lp else hs_s lp (bs + m) u) (bs + z) = 24) (hC : ∀ z, T z → ¬ R z → C z → C ((if m = 24 then lp else hs_s lp (bs + m) u) (bs + z))) (cu : C u) (hpost : ∀ ll' lR' lk', h4_W bs K g T R hs_no hs_no hs_no ll' lR' (if m = 24 then lp else hs_s lp (bs + m) u) lk' → (∀ j, (j < bs ∨ bs + 25 ≤ j) → ll' j = ll j ∧ lR' j = lR j ∧ lk' j = lk j) → post ((nI st), K, A, (hs_A sz), (hs_A hp), (hs_A pl), (hs_A pr), (hs_A pc), (hs_A pn), (hs_A pb), (hs_A rF), (hs_A rI), (hs_A rN), (hs_A rU), (hs_A rC), (hs_A rX), (hs_A rP), (hs_A rD), (hs_A gF), (hs_A gC), (hs_A gL), (hs_A gR), (hs_A gP), (hs_A gD), (hs_A gM), (hs_A gO), (hs_A lr), (hs_A ll'), (hs_A lR'), (hs_A (if m = 24 then lp else hs_s lp (bs + m) u)), (hs_A lk'), (hs_A wn), (hs_A sk))) (eb : b' = nI bs := by rfl) (ex : x' = nI x := by rfl) (em : m' = nI m := by rfl) : wpX_putInPlace post ((nI st), K, A, (hs_A sz), (hs_A hp), (hs_A pl), (hs_A pr), (hs_A pc), (hs_A pn), (hs_A pb), (hs_A rF), (hs_A rI), (hs_A rN), (hs_A rU), (hs_A rC), (hs_A rX), (hs_A rP), (hs_A rD), (hs_A gF), (hs_A gC), (hs_A gL), (hs_A gR), (hs_A gP), (hs_A gD), (hs_A gM), (hs_A gO), (hs_A lr), (hs_A ll), (hs_A lR), (hs_A lp), (hs_A lk), (hs_A wn), (hs_A sk)) b' x' m' := by
  subst eb; subst ex; subst em
  have u24 : u < 24 := by
    by_cases e : ll (bs + u) = x
    · exact h4_lt (hL e) u tu
    · exact h4_lt (hR e) u tu
  have go : ∀ ll1 lR1, h4_W bs K g T R hs_no hs_no (fun z => z = u) ll1 lR1 (if m = 24 then lp else hs_s lp (bs + m) u) lk → (∀ j, (j < bs ∨ bs + 25 ≤ j) → ll1 j = ll j ∧ lR1 j = lR j) → wX_putInPlace_48 post (nI bs) (nI m) (nI u) (nI st) K A (hs_A sz) (hs_A hp) (hs_A pl) (hs_A pr) (hs_A pc) (hs_A pn) (hs_A pb) (hs_A rF) (hs_A rI) (hs_A rN) (hs_A rU) (hs_A rC) (hs_A rX) (hs_A rP) (hs_A rD) (hs_A gF) (hs_A gC) (hs_A gL) (hs_A gR) (hs_A gP) (hs_A gD) (hs_A gM) (hs_A gO) (hs_A lr) (hs_A ll1) (hs_A lR1) (hs_A lp) (hs_A lk) (hs_A wn) (hs_A sk) := by
    intro ll1 lR1 hW hf
    unfold wX_putInPlace_48
    refine pk_eq m 24 (fun e => ?_) (fun e => ?_)
    · rw [if_pos e] at hW hro hpost hC
      exact ⟨_, h4_fix hbs hro hC hpost (hs_rk K u + 2) u ll1 lR1 lk (Or.inr ⟨tu, cu, by omega⟩) hW (fun j hj => ⟨(hf j hj).1, (hf j hj).2, rfl⟩)⟩
    · rw [if_neg e] at hW hro hpost hC
      refine hs_w (bs + m) u (by omega) (by omega) ?_ (hs_bx m)
      exact ⟨_, h4_fix hbs hro hC hpost (hs_rk K u + 2) u ll1 lR1 lk (Or.inr ⟨tu, cu, by omega⟩) hW (fun j hj => ⟨(hf j hj).1, (hf j hj).2, rfl⟩)⟩
  unfold wpX_putInPlace
  dsimp only
  refine hs_r (bs + x) (by omega) ?_ (hs_bx x)
  rw [eu]
  refine hs_in (bs + u) (by omega) ?_ (hs_bx u)
  refine pk_eq (ll (bs + u)) x (fun e => ?_) (fun e => ?_) (hs_rd _ (by omega) (hs_bx u)) rfl
  · refine hs_w (bs + u) m (by omega) (by omega) ?_ (hs_bx u)
    exact go _ _ (hL e) (fun j hj => ⟨hs_sn (by omega), rfl⟩)
  · refine hs_w (bs + u) m (by omega) (by omega) ?_ (hs_bx u)
    exact go _ _ (hR e) (fun j hj => ⟨rfl, hs_sn (by omega)⟩)
end
end
section
/-! engines 4 and 5: add, remove, lower, join -/
theorem h4_lr {lr : Nat → Nat} {o q r : Nat} : (fun p => hs_s lr (o + q) r (o + p)) = hs_s (fun p => lr (o + p)) q r := by
  funext p; unfold hs_s
  by_cases e : p = q
  · rw [if_pos (by omega), if_pos e]
  · rw [if_neg (by omega), if_neg e]
theorem h4_fin {bs : Nat} {K : Nat → Int32} {Q ro ll lR lp lk : Nat → Nat} {q r : Nat} (hW : h4_W bs K Q (hs_T Q) (fun z => (hs_R Q ro z ∧ Q z ≠ q + 1) ∨ z = r) hs_no hs_no hs_no ll lR lp lk) (hr : r = 24 ∨ (r < 24 ∧ Q r = q + 1)) (ho : ∀ p, p < 4 → p ≠ q → ro p = 24 ∨ (ro p < 24 ∧ Q (ro p) = p + 1)) (h1 : ∀ z, hs_T Q z → hs_R Q ro z ∧ Q z ≠ q + 1 → lp (bs + z) = 24) (h2 : lp (bs + r) = 24) : h4_I bs K Q (hs_s ro q r) ll lR lp lk := by
  refine ⟨hs_RQ_set hr ho, h4_cg hW (fun z tz => hs_R_set hr tz) (fun _ _ => Iff.rfl) (fun _ _ => Iff.rfl) (fun _ _ h => h), fun z tz rz => ?_⟩
  rcases (hs_R_set hr tz).2 rz with o | o
  · exact h1 z tz o
  · rw [o]; exact h2
section
variable {st : Nat} {K A : Nat → Int32} {sz hp pl pr pc pn pb rF rI rN rU rC rX rP rD gF gC gL gR gP gD gM gO lr ll lR lp lk wn sk : Nat → Nat}
theorem h4_add {post : SX → Prop} {Q : Nat → Nat} {b' q' x' : Int32} (bs o q x : Nat) (hbo : (bs = 0 ∧ o = 0) ∨ (bs = 25 ∧ o = 4)) (hq : q < 4) (hx : x < 24) (hI : h4_I bs K Q (fun p => lr (o + p)) ll lR lp lk) (hQx : Q x = 0) (hpost : ∀ st' sk' lr' ll' lR' lp' lk', h4_I bs K (hs_s Q x (q + 1)) (fun p => lr' (o + p)) ll' lR' lp' lk' → h4_FR bs ll lR lp lk ll' lR' lp' lk' → (∀ j, (j < o ∨ o + 4 ≤ j) → lr' j = lr j) → post ((nI (st')), K, A, (hs_A sz), (hs_A hp), (hs_A pl), (hs_A pr), (hs_A pc), (hs_A pn), (hs_A pb), (hs_A rF), (hs_A rI), (hs_A rN), (hs_A rU), (hs_A rC), (hs_A rX), (hs_A rP), (hs_A rD), (hs_A gF), (hs_A gC), (hs_A gL), (hs_A gR), (hs_A gP), (hs_A gD), (hs_A gM), (hs_A gO), (hs_A lr'), (hs_A ll'), (hs_A lR'), (hs_A lp'), (hs_A lk'), (hs_A wn), (hs_A sk'))) (eb : b' = nI bs := by rfl) (eq : q' = nI q := by rfl) (ex : x' = nI x := by rfl) : wpX_addToLean post ((nI st), K, A, (hs_A sz), (hs_A hp), (hs_A pl), (hs_A pr), (hs_A pc), (hs_A pn), (hs_A pb), (hs_A rF), (hs_A rI), (hs_A rN), (hs_A rU), (hs_A rC), (hs_A rX), (hs_A rP), (hs_A rD), (hs_A gF), (hs_A gC), (hs_A gL), (hs_A gR), (hs_A gP), (hs_A gD), (hs_A gM), (hs_A gO), (hs_A lr), (hs_A ll), (hs_A lR), (hs_A lp), (hs_A lk), (hs_A wn), (hs_A sk)) b' q' x' := by
  subst eb; subst eq; subst ex
  obtain ⟨hr, hW, hro⟩ := hI
  have hbs : bs = 0 ∨ bs = 25 := by omega
  have ntx : ¬ hs_T Q x := fun h => h.2 hQx
  have hW1 := h4_new hW ntx hx
  rw [hs_T_add (q := q) hx] at hW1
  have hW2 := h4_g (g' := hs_s Q x (q + 1)) hW1 (fun z z' tz tz' e => by
    unfold hs_T hs_s at *
    by_cases e1 : z = x <;> by_cases e2 : z' = x <;> simp_all)
  have rq := hr q hq
  dsimp only at rq
  have sp : ∀ z, hs_T (hs_s Q x (q + 1)) z → z ≠ x → hs_T Q z ∧ hs_s Q x (q + 1) z = Q z := fun z tz e => by
    have := tz.2
    rw [hs_sn e] at this
    exact ⟨⟨tz.1, this⟩, hs_sn e⟩
  have nx : ∀ p, p < 4 → lr (o + p) ≠ 24 → lr (o + p) ≠ x := fun p hp e e' => by
    have := ((hr p hp).resolve_left e).2
    dsimp only at this
    rw [e'] at this; omega
  unfold wpX_addToLean
  dsimp only
  refine hs_wn (bs + x) 24 (by omega) (by omega) (hs_wn (bs + x) 24 (by omega) (by omega) (hs_wn (bs + x) 24 (by omega) (by omega) (hs_wn (bs + x) 1 (by omega) (by omega) ?_ (hs_bx x)) (hs_bx x)) (hs_bx x)) (hs_bx x)
  refine h4_rp (q := q) hbo ?_
  refine hs_in (o + q) (by omega) ?_
  refine h4_melt (G := q + 1) (fun z => hs_R (hs_s Q x (q + 1)) (fun p => lr (o + p)) z ∧ hs_s Q x (q + 1) z ≠ q + 1) (lr (o + q)) x hbs hW2 (fun z tz => ?_) ?_ (Or.inr ⟨⟨hx, by rw [hs_ss]; omega⟩, fun h => h.2 hs_ss, id, hs_ss⟩) ?_ (fun e he => he.elim) (fun st' sk' r ll' lR' lp' lk' hr1 hr2 hW3 hfr hrt hlp => ?_) rfl (hs_rd (o + q) (by omega)) rfl
  · by_cases e : z = x
    · rw [e]; exact ⟨fun _ => Or.inr (Or.inr rfl), fun _ => Or.inr rfl⟩
    · obtain ⟨t1, t2⟩ := sp z tz e
      have := hs_R_q hr hq t1
      have e2 : hs_R (hs_s Q x (q + 1)) (fun p => lr (o + p)) z ↔ hs_R Q (fun p => lr (o + p)) z := by unfold hs_R; rw [t2]
      rw [e2, t2]
      constructor
      · intro h
        rcases this.1 (h.resolve_right e) with h | h
        · exact Or.inl h
        · exact Or.inr (Or.inl h)
      · intro h
        rcases h with h | h | h
        · exact Or.inl h.1
        · exact Or.inl (this.2 (Or.inr h))
        · exact absurd h e
  · by_cases e : lr (o + q) = 24
    · exact Or.inl e
    · have h1 := rq.resolve_left e
      have h2 := nx q hq e
      have h3 : hs_s Q x (q + 1) (lr (o + q)) = q + 1 := by rw [hs_sn h2]; exact h1.2
      exact Or.inr ⟨⟨h1.1, by omega⟩, fun h => h.2 h3, id, h3⟩
  · by_cases e : lr (o + q) = 24
    · exact Or.inl e
    · exact Or.inr (nx q hq e)
  · dsimp only
    have r24 : r ≤ 24 := by omega
    refine h4_setL q r hbo hq r24 hlp ?_
    refine hpost st' sk' _ ll' lR' lp' lk' ?_ (fun j hj => ?_) (fun j hj => hs_sn (by omega))
    · rw [h4_lr]
      refine h4_fin hW3 ?_ (fun p hp hpq => ?_) (fun z tz hz => ?_) hlp
      · by_cases e : r = 24
        · exact Or.inl e
        · refine Or.inr ⟨by omega, ?_⟩
          rcases hr1 with h | h
          · rw [h, hs_sn (nx q hq (by omega))]; exact (rq.resolve_left (by omega)).2
          · rw [h, hs_ss]
      · by_cases e : lr (o + p) = 24
        · exact Or.inl e
        · have h1 := (hr p hp).resolve_left e
          dsimp only at h1
          refine Or.inr ⟨h1.1, ?_⟩
          rw [hs_sn (nx p hp e)]; exact h1.2
      · have e : z ≠ x := fun e => hz.2 (by rw [hs_se e])
        obtain ⟨t1, t2⟩ := sp z tz e
        rw [hrt z tz hz, hs_sn (by omega)]
        refine hro z t1 ?_
        have := hz.1
        unfold hs_R at this ⊢
        rwa [t2] at this
    · obtain ⟨f1, f2, f3, f4⟩ := hfr j hj
      rw [f1, f2, f3, f4, hs_sn (by omega), hs_sn (by omega), hs_sn (by omega), hs_sn (by omega)]
      exact ⟨rfl, rfl, rfl, rfl⟩
theorem h4_join {post : SX → Prop} {Q : Nat → Nat} {b' x' y' : Int32} (bs o a b : Nat) (hbo : (bs = 0 ∧ o = 0) ∨ (bs = 25 ∧ o = 4)) (ha : a < 4) (hb : b < 4) (hab : a ≠ b) (hI : h4_I bs K Q (fun p => lr (o + p)) ll lR lp lk) (hpost : ∀ st' sk' lr' ll' lR' lp' lk', h4_I bs K (hs_jQ Q a b) (fun p => lr' (o + p)) ll' lR' lp' lk' → h4_FR bs ll lR lp lk ll' lR' lp' lk' → (∀ j, (j < o ∨ o + 4 ≤ j) → lr' j = lr j) → post ((nI (st')), K, A, (hs_A sz), (hs_A hp), (hs_A pl), (hs_A pr), (hs_A pc), (hs_A pn), (hs_A pb), (hs_A rF), (hs_A rI), (hs_A rN), (hs_A rU), (hs_A rC), (hs_A rX), (hs_A rP), (hs_A rD), (hs_A gF), (hs_A gC), (hs_A gL), (hs_A gR), (hs_A gP), (hs_A gD), (hs_A gM), (hs_A gO), (hs_A lr'), (hs_A ll'), (hs_A lR'), (hs_A lp'), (hs_A lk'), (hs_A wn), (hs_A sk'))) (eb : b' = nI bs := by rfl) (ex : x' = nI a := by rfl) (ey : y' = nI b := by rfl) : wpX_joinLean post ((nI st), K, A, (hs_A sz), (hs_A hp), (hs_A pl), (hs_A pr), (hs_A pc), (hs_A pn), (hs_A pb), (hs_A rF), (hs_A rI), (hs_A rN), (hs_A rU), (hs_A rC), (hs_A rX), (hs_A rP), (hs_A rD), (hs_A gF), (hs_A gC), (hs_A gL), (hs_A gR), (hs_A gP), (hs_A gD), (hs_A gM), (hs_A gO), (hs_A lr), (hs_A ll), (hs_A lR), (hs_A lp), (hs_A lk), (hs_A wn), (hs_A sk)) b' x' y' := by
  subst eb; subst ex; subst ey
  obtain ⟨hr, hW, hro⟩ := hI
  have hbs : bs = 0 ∨ bs = 25 := by omega
  have hT : hs_T Q = hs_T (hs_jQ Q a b) := by
    funext z; apply propext; unfold hs_T hs_jQ
    by_cases e : Q z = b + 1
    · rw [if_pos e]; exact ⟨fun h => ⟨h.1, by omega⟩, fun h => ⟨h.1, by omega⟩⟩
    · rw [if_neg e]
  have hW1 := h4_g (g' := hs_jQ Q a b) hW (fun z z' _ _ e => by unfold hs_jQ; rw [e])
  have ra := hr a ha
  have rb := hr b hb
  dsimp only at ra rb
  have jn : ∀ z, (Q z = a + 1 ∨ Q z = b + 1) ↔ hs_jQ Q a b z = a + 1 := fun z => by
    unfold hs_jQ
    by_cases e : Q z = b + 1
    · rw [if_pos e]; exact ⟨fun _ => rfl, fun _ => Or.inr e⟩
    · rw [if_neg e]; exact ⟨fun h => h.resolve_right e, Or.inl⟩
  have jo : ∀ z, hs_jQ Q a b z ≠ a + 1 → hs_jQ Q a b z = Q z ∧ Q z ≠ a + 1 ∧ Q z ≠ b + 1 := fun z h => by
    have h1 : Q z ≠ b + 1 := fun e => h ((jn z).1 (Or.inr e))
    refine ⟨by unfold hs_jQ; rw [if_neg h1], fun e => h ((jn z).1 (Or.inl e)), h1⟩
  unfold wpX_joinLean
  dsimp only
  refine h4_rp (q := a) hbo (h4_rp (q := b) hbo ?_)
  refine hs_in (o + a) (by omega) (hs_in (o + b) (by omega) ?_)
  refine h4_melt (G := a + 1) (fun z => hs_R Q (fun p => lr (o + p)) z ∧ hs_jQ Q a b z ≠ a + 1) (lr (o + a)) (lr (o + b)) hbs hW1 (fun z tz => ?_) ?_ ?_ ?_ (fun e he => he.elim) (fun st' sk' r ll' lR' lp' lk' hr1 hr2 hW3 hfr hrt hlp => ?_) rfl (hs_rd (o + a) (by omega)) (hs_rd (o + b) (by omega))
  · have h1 := hs_R_q hr ha tz
    have h2 := hs_R_q hr hb tz
    constructor
    · intro h
      rcases h1.1 h with ⟨_, n1⟩ | h1
      · rcases h2.1 h with ⟨_, n2⟩ | h2
        · exact Or.inl ⟨h, fun e => ((jn z).2 e).elim n1 n2⟩
        · exact Or.inr (Or.inr h2)
      · exact Or.inr (Or.inl h1)
    · intro h
      rcases h with h | h | h
      · exact h.1
      · exact h1.2 (Or.inr h)
      · exact h2.2 (Or.inr h)
  · by_cases e : lr (o + a) = 24
    · exact Or.inl e
    · have h1 := ra.resolve_left e
      have h3 := (jn (lr (o + a))).1 (Or.inl h1.2)
      exact Or.inr ⟨⟨h1.1, by omega⟩, fun h => h.2 h3, id, h3⟩
  · by_cases e : lr (o + b) = 24
    · exact Or.inl e
    · have h1 := rb.resolve_left e
      have h3 := (jn (lr (o + b))).1 (Or.inr h1.2)
      exact Or.inr ⟨⟨h1.1, by omega⟩, fun h => h.2 h3, id, h3⟩
  · by_cases e : lr (o + a) = 24
    · exact Or.inl e
    · refine Or.inr (fun e' => ?_)
      have h1 := (ra.resolve_left e).2
      have h2 := (rb.resolve_left (by omega)).2
      rw [e'] at h1; omega
  · dsimp only
    have r24 : r ≤ 24 := by omega
    refine hs_wn (o + b) 24 (by omega) (by omega) ?_
    refine h4_setL a r hbo ha r24 hlp ?_
    have hrr : r = 24 ∨ (r < 24 ∧ hs_jQ Q a b r = a + 1) := by
      by_cases e : r = 24
      · exact Or.inl e
      · refine Or.inr ⟨by omega, (jn r).1 ?_⟩
        rcases hr1 with h | h
        · rw [h]; exact Or.inl (ra.resolve_left (by omega)).2
        · rw [h]; exact Or.inr (rb.resolve_left (by omega)).2
    have eR : ∀ z, hs_T Q z → (hs_R Q (fun p => lr (o + p)) z ∧ hs_jQ Q a b z ≠ a + 1 ↔ hs_R (hs_jQ Q a b) (hs_s (fun p => lr (o + p)) b 24) z ∧ hs_jQ Q a b z ≠ a + 1) := by
      intro z tz
      constructor
      · intro ⟨h1, h2⟩
        refine ⟨?_, h2⟩
        obtain ⟨j1, j2, j3⟩ := jo z h2
        unfold hs_R at h1 ⊢
        rw [j1, hs_sn (by have := tz.2; omega)]; exact h1
      · intro ⟨h1, h2⟩
        refine ⟨?_, h2⟩
        obtain ⟨j1, j2, j3⟩ := jo z h2
        unfold hs_R at h1 ⊢
        rw [j1, hs_sn (by have := tz.2; omega)] at h1; exact h1
    refine hpost st' sk' _ ll' lR' lp' lk' ?_ hfr (fun j hj => by rw [hs_sn (by omega), hs_sn (by omega)])
    rw [h4_lr, h4_lr]
    rw [hT] at hW3
    refine h4_fin (h4_cg hW3 (fun z tz => ?_) (fun _ _ => Iff.rfl) (fun _ _ => Iff.rfl) (fun _ _ h => h)) hrr (fun p hp hpa => ?_) (fun z tz hz => ?_) hlp
    · rw [eR z (by rw [hT]; exact tz)]
    · by_cases e : p = b
      · rw [hs_se e]; exact Or.inl rfl
      · rw [hs_sn e]
        rcases hr p hp with h | h
        · exact Or.inl h
        · refine Or.inr ⟨h.1, ?_⟩
          have h2 := h.2
          dsimp only at h2 ⊢
          unfold hs_jQ; rw [if_neg (by omega)]; exact h2
    · have tz' : hs_T Q z := by rw [hT]; exact tz
      have hz' := (eR z tz').2 hz
      rw [hrt z tz' hz']
      exact hro z tz' hz'.1
theorem h4_low {post : SX → Prop} {Q : Nat → Nat} {K0 : Nat → Int32} {b' q' x' : Int32} (bs o q x : Nat) (hbo : (bs = 0 ∧ o = 0) ∨ (bs = 25 ∧ o = 4)) (hq : q < 4) (hx : x < 24) (hI : h4_I bs K0 Q (fun p => lr (o + p)) ll lR lp lk) (hQx : Q x = q + 1) (hK : ∀ j, j ≠ x → K j = K0 j) (hl : K x ≤ K0 x) (hpost : ∀ st' sk' lr' ll' lR' lp' lk', h4_I bs K Q (fun p => lr' (o + p)) ll' lR' lp' lk' → h4_FR bs ll lR lp lk ll' lR' lp' lk' → (∀ j, (j < o ∨ o + 4 ≤ j) → lr' j = lr j) → post ((nI (st')), K, A, (hs_A sz), (hs_A hp), (hs_A pl), (hs_A pr), (hs_A pc), (hs_A pn), (hs_A pb), (hs_A rF), (hs_A rI), (hs_A rN), (hs_A rU), (hs_A rC), (hs_A rX), (hs_A rP), (hs_A rD), (hs_A gF), (hs_A gC), (hs_A gL), (hs_A gR), (hs_A gP), (hs_A gD), (hs_A gM), (hs_A gO), (hs_A lr'), (hs_A ll'), (hs_A lR'), (hs_A lp'), (hs_A lk'), (hs_A wn), (hs_A sk'))) (eb : b' = nI bs := by rfl) (eq : q' = nI q := by rfl) (ex : x' = nI x := by rfl) : wpX_lowerInLean post ((nI st), K, A, (hs_A sz), (hs_A hp), (hs_A pl), (hs_A pr), (hs_A pc), (hs_A pn), (hs_A pb), (hs_A rF), (hs_A rI), (hs_A rN), (hs_A rU), (hs_A rC), (hs_A rX), (hs_A rP), (hs_A rD), (hs_A gF), (hs_A gC), (hs_A gL), (hs_A gR), (hs_A gP), (hs_A gD), (hs_A gM), (hs_A gO), (hs_A lr), (hs_A ll), (hs_A lR), (hs_A lp), (hs_A lk), (hs_A wn), (hs_A sk)) b' q' x' := by
  subst eb; subst eq; subst ex
  have fst := h4_first hI hq
  obtain ⟨hr, hW, hro⟩ := hI
  have hbs : bs = 0 ∨ bs = 25 := by omega
  have tx : hs_T Q x := ⟨hx, by omega⟩
  have lt := h4_lt hW
  have rq := hr q hq
  dsimp only at rq
  have rq' := rq.resolve_left (fun e => by
    rcases fst with ⟨_, h⟩ | ⟨h, _⟩
    · exact h x hx hQx
    · omega)
  have sm : ∀ j, (j < bs ∨ bs + 25 ≤ j) → ll j = ll j ∧ lR j = lR j ∧ lp j = lp j ∧ lk j = lk j := fun _ _ => ⟨rfl, rfl, rfl, rfl⟩
  unfold wpX_lowerInLean
  dsimp only
  refine hs_r (bs + x) (by omega) ?_ (hs_bx x)
  by_cases rx : hs_R Q (fun p => lr (o + p)) x
  · rw [hro x tx rx]
    refine br_t (by rfl) ?_
    exact hpost st sk lr ll lR lp lk ⟨hr, h4_Kc hW rx hK hl, hro⟩ sm (fun _ _ => rfl)
  · obtain ⟨u1, u2, u3, u4⟩ := h4_up hW tx rx
    generalize eu : lp (bs + x) = u at *
    have u24 := lt u u1
    refine pk_eq u 24 (fun e => by omega) (fun _ => ?_)
    refine hs_cbb x u hx u24 (fun hb => ?_) (fun hb => ?_)
    · have un : u ≠ x := hs_bef_ne u2
      have rd := h4_read hW u1 id
      have l24 : ll (bs + u) ≤ 24 := by
        rcases rd.1 with h | h
        · omega
        · have := lt _ h.1; omega
      have hWd : h4_W bs K0 Q (hs_T Q) (hs_R Q (fun p => lr (o + p))) hs_no hs_no (fun z => z = u) ll lR lp lk := h4_cg hW (fun _ _ => Iff.rfl) (fun _ _ => Iff.rfl) (fun _ _ => Iff.rfl) (fun _ _ h => h.elim)
      have pre : ∀ z, hs_T Q z → ¬ (hs_R Q (fun p => lr (o + p)) z ∨ z = x) → hs_bef K0 (lp (bs + z)) z := fun z tz nz => (h4_up hW tz (fun h => nz (Or.inl h))).2.1
      refine h4_put (g := Q) (T := hs_T Q) (R := fun z => hs_R Q (fun p => lr (o + p)) z ∨ z = x) (C := fun z => hs_bef K0 z x) x 24 u hbs eu u1 hx (by omega) l24 (fun e => ?_) (fun e => ?_) (fun z tz rz cz => ?_) (fun z tz nz cz => ?_) u2 (fun ll' lR' lk' hW2 hf2 => ?_)
      · rw [if_pos rfl]
        exact h4_Kc (h4_cutL hWd tx u1 id rfl e) (Or.inr rfl) hK hl
      · rw [if_pos rfl]
        exact h4_Kc (h4_cutR hWd tx u1 id rfl ((u4 id).resolve_left e)) (Or.inr rfl) hK hl
      · rw [if_pos rfl]
        rcases rz with h | h
        · exact hro z tz h
        · rw [h] at cz; exact absurd cz hs_bef_irr
      · rw [if_pos rfl]
        exact hs_bef_tr (pre z tz nz) cz
      · rw [if_pos rfl] at *
        dsimp only
        refine hs_wn (bs + x) 24 (by omega) (by omega) ?_ (hs_bx x)
        refine h4_rp (q := q) hbo ?_
        refine hs_in (o + q) (by omega) ?_
        have ne : lr (o + q) ≠ x := fun e => rx (by unfold hs_R; dsimp only; rw [hQx]; exact e)
        have hW3 := h4_fr (lp' := hs_s lp (bs + x) 24) hW2 (fun _ _ _ => rfl) (fun _ _ _ _ => rfl) (fun z tz nr => hs_sn (fun e => nr (Or.inr (by omega)))) (fun _ _ _ => rfl)
        refine h4_melt (G := q + 1) (fun z => hs_R Q (fun p => lr (o + p)) z ∧ Q z ≠ q + 1) (lr (o + q)) x hbs hW3 (fun z tz => ?_) (Or.inr ⟨⟨rq'.1, by omega⟩, fun h => h.2 rq'.2, id, rq'.2⟩) (Or.inr ⟨tx, fun h => h.2 hQx, id, hQx⟩) (Or.inr ne) (fun e he => he.elim) (fun st' sk' r ll2 lR2 lp2 lk2 hr1 hr2 hW4 hfr hrt hlp => ?_) rfl (hs_rd (o + q) (by omega)) rfl
        · have h1 := hs_R_q hr hq tz
          constructor
          · intro h
            rcases h with h | h
            · rcases h1.1 h with h | h
              · exact Or.inl h
              · exact Or.inr (Or.inl h)
            · exact Or.inr (Or.inr h)
          · intro h
            rcases h with h | h | h
            · exact Or.inl h.1
            · exact Or.inl (h1.2 (Or.inr h))
            · exact Or.inr h
        · dsimp only
          refine h4_setL q r hbo hq (by omega) hlp ?_
          refine hpost st' sk' _ ll2 lR2 lp2 lk2 ?_ (fun j hj => ?_) (fun j hj => hs_sn (by omega))
          · rw [h4_lr]
            refine h4_fin hW4 (Or.inr ?_) (fun p hp hpq => hr p hp) (fun z tz hz => ?_) hlp
            · rcases hr1 with h | h
              · rw [h]; exact rq'
              · rw [h]; exact ⟨hx, hQx⟩
            · have zx : z ≠ x := fun e => hz.2 (e ▸ hQx)
              rw [hrt z tz hz, hs_sn (by omega)]
              exact hro z tz hz.1
          · obtain ⟨f1, f2, f3, f4⟩ := hfr j hj
            obtain ⟨k1, k2, k3⟩ := hf2 j hj
            rw [f1, f2, f3, f4, k1, k2, k3, hs_sn (by omega)]
            exact ⟨rfl, rfl, rfl, rfl⟩
    · refine hpost st sk lr ll lR lp lk ⟨hr, h4_Kc2 hW tx ?_ hK hl, hro⟩ sm (fun _ _ => rfl)
      rw [eu]; exact hs_bef_tot hb (Ne.symm (hs_bef_ne u2))
end
end
section
/-! engines 4 and 5: remove -/
section
variable {st : Nat} {K A : Nat → Int32} {sz hp pl pr pc pn pb rF rI rN rU rC rX rP rD gF gC gL gR gP gD gM gO lr ll lR lp lk wn sk : Nat → Nat}
theorem h4_rem {post : SX → Prop} {Q : Nat → Nat} {b' q' x' : Int32} (bs o q x : Nat) (hbo : (bs = 0 ∧ o = 0) ∨ (bs = 25 ∧ o = 4)) (hq : q < 4) (hx : x < 24) (hI : h4_I bs K Q (fun p => lr (o + p)) ll lR lp lk) (hQx : Q x = q + 1) (hpost : ∀ st' sk' lr' ll' lR' lp' lk', h4_I bs K (hs_s Q x 0) (fun p => lr' (o + p)) ll' lR' lp' lk' → h4_FR bs ll lR lp lk ll' lR' lp' lk' → (∀ j, (j < o ∨ o + 4 ≤ j) → lr' j = lr j) → post ((nI (st')), K, A, (hs_A sz), (hs_A hp), (hs_A pl), (hs_A pr), (hs_A pc), (hs_A pn), (hs_A pb), (hs_A rF), (hs_A rI), (hs_A rN), (hs_A rU), (hs_A rC), (hs_A rX), (hs_A rP), (hs_A rD), (hs_A gF), (hs_A gC), (hs_A gL), (hs_A gR), (hs_A gP), (hs_A gD), (hs_A gM), (hs_A gO), (hs_A lr'), (hs_A ll'), (hs_A lR'), (hs_A lp'), (hs_A lk'), (hs_A wn), (hs_A sk'))) (eb : b' = nI bs := by rfl) (eq : q' = nI q := by rfl) (ex : x' = nI x := by rfl) : wpX_removeFromLean post ((nI st), K, A, (hs_A sz), (hs_A hp), (hs_A pl), (hs_A pr), (hs_A pc), (hs_A pn), (hs_A pb), (hs_A rF), (hs_A rI), (hs_A rN), (hs_A rU), (hs_A rC), (hs_A rX), (hs_A rP), (hs_A rD), (hs_A gF), (hs_A gC), (hs_A gL), (hs_A gR), (hs_A gP), (hs_A gD), (hs_A gM), (hs_A gO), (hs_A lr), (hs_A ll), (hs_A lR), (hs_A lp), (hs_A lk), (hs_A wn), (hs_A sk)) b' q' x' := by
  subst eb; subst eq; subst ex
  obtain ⟨hr, hW, hro⟩ := hI
  have hbs : bs = 0 ∨ bs = 25 := by omega
  have tx : hs_T Q x := ⟨hx, by omega⟩
  have lt := h4_lt hW
  have rd := h4_read hW tx id
  have hW1 := h4_free hW tx
  have up24 : ¬ hs_R Q (fun p => lr (o + p)) x → lp (bs + x) < 24 := fun h => lt _ (h4_up hW tx h).1
  unfold wpX_removeFromLean
  dsimp only
  refine hs_r (bs + x) (by omega) (hs_in (bs + x) (by omega) (hs_in (bs + x) (by omega) ?_ (hs_bx x)) (hs_bx x)) (hs_bx x)
  refine h4_melt (G := q + 1) (E := fun z => z = x) (hs_R Q (fun p => lr (o + p))) (ll (bs + x)) (lR (bs + x)) hbs hW1 (fun z tz => Iff.rfl) ?_ ?_ ?_ (fun e he te => ?_) (fun st' sk' r ll' lR' lp' lk' hr1 hr2 hW2 hfr hrt hlp => ?_) rfl (hs_rd _ (by omega) (hs_bx x)) (hs_rd _ (by omega) (hs_bx x))
  · refine rd.1.imp id (fun h => ⟨h.1, h.2.1, fun e => ?_, h.2.2.2.1.trans hQx⟩)
    have := h.2.2.1; rw [e] at this; exact hs_bef_irr this
  · refine (rd.2.1 id).imp id (fun h => ⟨h.1, h.2.1, fun e => ?_, h.2.2.2.1.trans hQx⟩)
    have := h.2.2.1; rw [e] at this; exact hs_bef_irr this
  · by_cases e : ll (bs + x) = lR (bs + x)
    · exact Or.inl (rd.2.2.1 id e)
    · exact Or.inr e
  · rw [he]
    exact ⟨fun h => (rd.1.resolve_left h).2.2.1, fun h => ((rd.2.1 id).resolve_left h).2.2.1⟩
  · dsimp only
    have rr : r = 24 ∨ (hs_T Q r ∧ ¬ hs_R Q (fun p => lr (o + p)) r ∧ hs_bef K x r ∧ Q r = q + 1) := by
      rcases hr1 with h | h
      · rw [h]; exact rd.1.imp id (fun h => ⟨h.1, h.2.1, h.2.2.1, h.2.2.2.1.trans hQx⟩)
      · rw [h]; exact (rd.2.1 id).imp id (fun h => ⟨h.1, h.2.1, h.2.2.1, h.2.2.2.1.trans hQx⟩)
    have r24 : r ≤ 24 := by
      rcases rr with h | h
      · omega
      · have := h.1.1; omega
    have rx' : r ≠ x := by
      rcases rr with h | h
      · omega
      · exact Ne.symm (hs_bef_ne h.2.2.1)
    have sp : ∀ z, hs_T (hs_s Q x 0) z → z ≠ x ∧ hs_T Q z ∧ hs_s Q x 0 z = Q z := fun z tz => by
      have zx : z ≠ x := fun e => tz.2 (by rw [hs_se e])
      have := tz.2
      rw [hs_sn zx] at this
      exact ⟨zx, ⟨tz.1, this⟩, hs_sn zx⟩
    have eRz : ∀ z, hs_T (hs_s Q x 0) z → (hs_R (hs_s Q x 0) (fun p => lr (o + p)) z ↔ hs_R Q (fun p => lr (o + p)) z) := fun z tz => by
      unfold hs_R; rw [(sp z tz).2.2]
    by_cases rx : hs_R Q (fun p => lr (o + p)) x
    · rw [hro x tx rx]
      refine br_t (by rfl) ?_
      refine h4_setL q r hbo hq r24 hlp ?_
      have hW3 := h4_del hW2 tx (Or.inl rx) rfl (fun _ h => h)
      rw [hs_T_rem] at hW3
      have hW4 := h4_g (g' := hs_s Q x 0) hW3 (fun z z' tz tz' e => by rw [(sp z tz).2.2, (sp z' tz').2.2]; exact e)
      have rootx : lr (o + q) = x := by
        have : lr (o + (Q x - 1)) = x := rx
        rwa [hQx] at this
      have qz : ∀ z, hs_T (hs_s Q x 0) z → hs_R Q (fun p => lr (o + p)) z → Q z ≠ q + 1 := by
        intro z tz hz e
        have : lr (o + (Q z - 1)) = z := hz
        rw [e] at this
        exact (sp z tz).1 (this.symm.trans rootx)
      refine hpost st' sk' _ ll' lR' lp' lk' ?_ hfr (fun j hj => hs_sn (by omega))
      rw [h4_lr]
      refine h4_fin (h4_cg hW4 (fun z tz => ?_) (fun _ _ => Iff.rfl) (fun _ _ => Iff.rfl) (fun z tz h => absurd h (sp z tz).1)) ?_ (fun p hp hpq => ?_) (fun z tz hz => ?_) hlp
      · rw [eRz z tz, (sp z tz).2.2]
        exact ⟨fun h => h.imp (fun h => ⟨h, qz z tz h⟩) id, fun h => h.imp (fun h => h.1) id⟩
      · refine rr.imp id (fun h => ⟨h.1.1, ?_⟩)
        rw [hs_sn rx']; exact h.2.2.2
      · rcases hr p hp with h | h
        · exact Or.inl h
        · have h2 := h.2
          dsimp only at h2 ⊢
          have : lr (o + p) ≠ x := fun e => by rw [e] at h2; omega
          refine Or.inr ⟨h.1, ?_⟩
          rw [hs_sn this]; exact h2
      · have tz' := (sp z tz).2.1
        have hz' := (eRz z tz).1 hz.1
        rw [hrt z tz' hz']; exact hro z tz' hz'
    · have upx := up24 rx
      refine pk_eq (lp (bs + x)) 24 (fun e => by omega) (fun _ => ?_)
      have nrx : ¬ (hs_R Q (fun p => lr (o + p)) x ∨ x = r) := fun h => h.elim rx (fun e => rx' e.symm)
      obtain ⟨u1, u2, u3, u4⟩ := h4_up hW2 tx nrx
      generalize eu : lp' (bs + x) = u at *
      have u24 := lt u u1
      have un : u ≠ x := hs_bef_ne u2
      have l24 : ll' (bs + u) ≤ 24 := by
        rcases (h4_read hW2 u1 un).1 with h | h
        · omega
        · have := lt _ h.1; omega
      have bur : r ≠ 24 → hs_bef K u r := fun h => hs_bef_tr u2 (rr.resolve_left h).2.2.1
      have hWd : h4_W bs K Q (hs_T Q) (fun z => hs_R Q (fun p => lr (o + p)) z ∨ z = r) hs_no (fun z => z = x) (fun z => z = x ∨ z = u) ll' lR' lp' lk' := h4_cg hW2 (fun _ _ => Iff.rfl) (fun _ _ => Iff.rfl) (fun _ _ => Iff.rfl) (fun _ _ h => Or.inl h)
      have tu' : hs_T (hs_s Q x 0) u := ⟨u24, by rw [hs_sn un]; exact u1.2⟩
      have tr' : r ≠ 24 → hs_T (hs_s Q x 0) r := fun h => ⟨(rr.resolve_left h).1.1, by rw [hs_sn rx']; exact (rr.resolve_left h).1.2⟩
      have fin1 : ∀ llx lRx lpx, h4_W bs K Q (hs_T Q) (fun z => (hs_R Q (fun p => lr (o + p)) z ∨ z = r) ∨ z = x) hs_no (fun z => z = x) (fun z => z = x ∨ z = u) llx lRx lpx lk' → h4_W bs K (hs_s Q x 0) (hs_T (hs_s Q x 0)) (fun z => hs_R Q (fun p => lr (o + p)) z ∨ z = r) hs_no hs_no (fun z => z = u) llx lRx lpx lk' := by
        intro llx lRx lpx hx1
        have h3 := h4_del hx1 tx (Or.inr rfl) rfl (fun _ h => h)
        rw [hs_T_rem] at h3
        have h4 := h4_g (g' := hs_s Q x 0) h3 (fun z z' tz tz' e => by rw [(sp z tz).2.2, (sp z' tz').2.2]; exact e)
        exact h4_cg h4 (fun z tz => ⟨fun h => h.resolve_right (sp z tz).1, Or.inl⟩) (fun _ _ => Iff.rfl) (fun _ _ => Iff.rfl) (fun z tz h => h.resolve_left (sp z tz).1)
      have cgR : ∀ llx lRx lpx, h4_W bs K (hs_s Q x 0) (hs_T (hs_s Q x 0)) (fun z => (hs_R Q (fun p => lr (o + p)) z ∨ z = r) ∧ z ≠ r) hs_no hs_no (fun z => z = u) llx lRx lpx lk' → h4_W bs K (hs_s Q x 0) (hs_T (hs_s Q x 0)) (hs_R (hs_s Q x 0) (fun p => lr (o + p))) hs_no hs_no (fun z => z = u) llx lRx lpx lk' := by
        intro llx lRx lpx hx1
        refine h4_cg hx1 (fun z tz => ?_) (fun _ _ => Iff.rfl) (fun _ _ => Iff.rfl) (fun _ _ h => h)
        rw [eRz z tz]
        refine ⟨fun h => h.1.resolve_right h.2, fun h => ⟨Or.inl h, fun e => ?_⟩⟩
        have z24 := tz.1
        exact (rr.resolve_left (by omega)).2.1 (e ▸ h)
      have gru : r ≠ 24 → hs_s Q x 0 r = hs_s Q x 0 u := fun h => by
        rw [hs_sn rx', hs_sn un, u3, (rr.resolve_left h).2.2.2]; exact hQx.symm
      refine h4_put (g := hs_s Q x 0) (T := hs_T (hs_s Q x 0)) (R := hs_R (hs_s Q x 0) (fun p => lr (o + p))) (C := fun _ => True) x r u hbs eu tu' hx r24 l24 (fun e => ?_) (fun e => ?_) (fun z tz rz cz => ?_) (fun _ _ _ _ => trivial) trivial (fun ll2 lR2 lk2 hW5 hf5 => ?_)
      · have hc := fin1 _ _ _ (h4_cutL hWd tx u1 un (Or.inr rfl) e)
        by_cases e24 : r = 24
        · rw [if_pos e24, e24]
          exact cgR _ _ _ (h4_cg hc (fun z tz => ⟨fun h => ⟨h, by have := tz.1; omega⟩, fun h => h.1⟩) (fun _ _ => Iff.rfl) (fun _ _ => Iff.rfl) (fun _ _ h => h))
        · rw [if_neg e24]
          have ha := h4_attL hc tu' id rfl hs_ss (tr' e24) (Or.inr rfl) (bur e24) (gru e24)
          rw [h0_s2] at ha
          exact cgR _ _ _ ha
      · have hc := fin1 _ _ _ (h4_cutR hWd tx u1 un (Or.inr rfl) ((u4 un).resolve_left e))
        by_cases e24 : r = 24
        · rw [if_pos e24, e24]
          exact cgR _ _ _ (h4_cg hc (fun z tz => ⟨fun h => ⟨h, by have := tz.1; omega⟩, fun h => h.1⟩) (fun _ _ => Iff.rfl) (fun _ _ => Iff.rfl) (fun _ _ h => h))
        · rw [if_neg e24]
          have ha := h4_attR hc tu' id rfl hs_ss (tr' e24) (Or.inr rfl) (bur e24) (gru e24)
          rw [h0_s2] at ha
          exact cgR _ _ _ ha
      · have tz' := (sp z tz).2.1
        have rz' := (eRz z tz).1 rz
        have z24 := tz.1
        have : lp' (bs + z) = 24 := by rw [hrt z tz' rz']; exact hro z tz' rz'
        by_cases e24 : r = 24
        · rw [if_pos e24]; exact this
        · have zr : z ≠ r := fun e => (rr.resolve_left e24).2.1 (e ▸ rz')
          rw [if_neg e24, hs_sn (by omega)]; exact this
      · refine hpost st' sk' lr ll2 lR2 _ lk2 ⟨fun p hp => ?_, hW5, fun z tz rz => ?_⟩ (fun j hj => ?_) (fun _ _ => rfl)
        · rcases hr p hp with h | h
          · exact Or.inl h
          · have h2 := h.2
            dsimp only at h2 ⊢
            have ne : lr (o + p) ≠ x := fun e => by
              rw [e, hQx] at h2
              have : p = q := by omega
              subst this
              exact rx (by unfold hs_R; dsimp only; rw [hQx]; exact e)
            refine Or.inr ⟨h.1, ?_⟩
            rw [hs_sn ne]; exact h2
        · have tz' := (sp z tz).2.1
          have rz' := (eRz z tz).1 rz
          have z24 := tz.1
          have : lp' (bs + z) = 24 := by rw [hrt z tz' rz']; exact hro z tz' rz'
          by_cases e24 : r = 24
          · rw [if_pos e24]; exact this
          · have zr : z ≠ r := fun e => (rr.resolve_left e24).2.1 (e ▸ rz')
            rw [if_neg e24, hs_sn (by omega)]; exact this
        · obtain ⟨f1, f2, f3, f4⟩ := hfr j hj
          obtain ⟨k1, k2, k3⟩ := hf5 j hj
          refine ⟨k1.trans f1, k2.trans f2, ?_, k3.trans f4⟩
          by_cases e24 : r = 24
          · rw [if_pos e24]; exact f3
          · rw [if_neg e24, hs_sn (by omega)]; exact f3
end
end
section
/-! engine 3: rings, the pure part -/
def h3_la : List Nat → Nat
  | [] => 24
  | [x] => x
  | _ :: y :: t => h3_la (y :: t)
def h3_ch (gR gL : Nat → Nat) : List Nat → Prop
  | [] => True
  | [_] => True
  | x :: y :: t => gR x = y ∧ gL y = x ∧ h3_ch gR gL (y :: t)
theorem h3_la_m : ∀ {l : List Nat}, l ≠ [] → h3_la l ∈ l
  | [], h => absurd rfl h
  | [x], _ => by simp [h3_la]
  | x :: y :: t, _ => by
    have := h3_la_m (l := y :: t) (by simp)
    simp only [h3_la]
    exact List.mem_cons_of_mem _ this
theorem h3_la_app : ∀ {l1 l2 : List Nat}, l2 ≠ [] → h3_la (l1 ++ l2) = h3_la l2
  | [], _, _ => rfl
  | [x], l2, h => by
    cases l2 with
    | nil => exact absurd rfl h
    | cons y t => rfl
  | x :: y :: t, l2, h => by
    have := h3_la_app (l1 := y :: t) (l2 := l2) h
    exact this
theorem h3_hd_app {l1 l2 : List Nat} (h : l1 ≠ []) : h1_hd (l1 ++ l2) = h1_hd l1 := by
  cases l1 with
  | nil => exact absurd rfl h
  | cons a t => rfl
theorem h3_ch_app {gR gL : Nat → Nat} : ∀ {l1 l2 : List Nat}, l1 ≠ [] → l2 ≠ [] → (h3_ch gR gL (l1 ++ l2) ↔ h3_ch gR gL l1 ∧ h3_ch gR gL l2 ∧ gR (h3_la l1) = h1_hd l2 ∧ gL (h1_hd l2) = h3_la l1)
  | [], _, h, _ => absurd rfl h
  | [x], l2, _, h => by
    cases l2 with
    | nil => exact absurd rfl h
    | cons y t =>
      show (gR x = y ∧ gL y = x ∧ h3_ch gR gL (y :: t)) ↔ _
      exact ⟨fun ⟨a, b, c⟩ => ⟨trivial, c, a, b⟩, fun ⟨_, c, a, b⟩ => ⟨a, b, c⟩⟩
  | x :: y :: t, l2, _, h => by
    have ih := h3_ch_app (gR := gR) (gL := gL) (l1 := y :: t) (l2 := l2) (by simp) h
    show (gR x = y ∧ gL y = x ∧ h3_ch gR gL ((y :: t) ++ l2)) ↔ (gR x = y ∧ gL y = x ∧ h3_ch gR gL (y :: t)) ∧ _
    rw [ih]
    exact ⟨fun ⟨a, b, c, d, e, f⟩ => ⟨⟨a, b, c⟩, d, e, f⟩, fun ⟨⟨a, b, c⟩, d, e, f⟩ => ⟨a, b, c, d, e, f⟩⟩
theorem h3_ch_fr {gR gL gR' gL' : Nat → Nat} : ∀ {l : List Nat}, l.Nodup → (∀ z, z ∈ l → z ≠ h3_la l → gR' z = gR z) → (∀ z, z ∈ l → z ≠ h1_hd l → gL' z = gL z) → h3_ch gR gL l → h3_ch gR' gL' l
  | [], _, _, _, _ => trivial
  | [_], _, _, _, _ => trivial
  | x :: y :: t, hd, h1, h2, ⟨a, b, c⟩ => by
    have hd' := List.nodup_cons.1 hd
    have lm := h3_la_m (l := y :: t) (by simp)
    refine ⟨?_, ?_, h3_ch_fr hd'.2 (fun z hz hn => h1 z (List.mem_cons_of_mem _ hz) hn) (fun z hz hn => h2 z (List.mem_cons_of_mem _ hz) ?_) c⟩
    · rw [h1 x (by simp)]
      · exact a
      · intro e
        exact hd'.1 (by rw [e]; exact lm)
    · rw [h2 y (by simp)]
      · exact b
      · intro e
        exact hd'.1 (by rw [← show y = x from e]; simp)
    · intro e
      exact hd'.1 (by rw [← show z = x from e]; exact hz)
def h3_rg (gR gL : Nat → Nat) (l : List Nat) : Prop := h3_ch gR gL l ∧ gR (h3_la l) = h1_hd l ∧ gL (h1_hd l) = h3_la l
theorem h3_rot {gR gL : Nat → Nat} {l1 l2 : List Nat} (h1 : l1 ≠ []) (h2 : l2 ≠ []) (h : h3_rg gR gL (l1 ++ l2)) : h3_rg gR gL (l2 ++ l1) := by
  obtain ⟨a, b, c⟩ := h
  rw [h3_ch_app h1 h2] at a
  rw [h3_la_app h2, h3_hd_app h1] at b c
  refine ⟨(h3_ch_app h2 h1).2 ⟨a.2.1, a.1, b, c⟩, ?_, ?_⟩
  · rw [h3_la_app h1, h3_hd_app h2]; exact a.2.2.1
  · rw [h3_la_app h1, h3_hd_app h2]; exact a.2.2.2
/-- the nodes of one rid are a ring -/
def h3_RS (T : Nat → Prop) (rid gR gL : Nat → Nat) : Prop := ∀ a, T a → ∃ l : List Nat, a ∈ l ∧ h3_rg gR gL l ∧ l.Nodup ∧ ∀ c, c ∈ l ↔ T c ∧ rid c = rid a
theorem h3_at {T : Nat → Prop} {rid gR gL : Nat → Nat} (h : h3_RS T rid gR gL) {a : Nat} (ta : T a) : ∃ t : List Nat, h3_rg gR gL (a :: t) ∧ (a :: t).Nodup ∧ ∀ c, c ∈ a :: t ↔ T c ∧ rid c = rid a := by
  obtain ⟨l, al, hr, hd, hm⟩ := h a ta
  obtain ⟨l1, l2, e⟩ := List.append_of_mem al
  subst e
  by_cases e : l1 = []
  · subst e
    exact ⟨l2, hr, hd, hm⟩
  · have p : (l1 ++ a :: l2).Perm ((a :: l2) ++ l1) := List.perm_append_comm
    exact ⟨l2 ++ l1, h3_rot e (by simp) hr, p.nodup hd, fun c => (p.mem_iff).symm.trans (hm c)⟩
/-- the same rings under other names; fewer nodes only by whole rings -/
theorem h3_rel {T T' : Nat → Prop} {rid rid' gR gL : Nat → Nat} (h : h3_RS T rid gR gL) (hT : ∀ z, T' z → T z) (hr : ∀ a, T' a → ∀ c, (T' c ∧ rid' c = rid' a) ↔ (T c ∧ rid c = rid a)) : h3_RS T' rid' gR gL := by
  intro a ta
  obtain ⟨l, al, hg, hd, hm⟩ := h a (hT a ta)
  exact ⟨l, al, hg, hd, fun c => (hm c).trans (hr a ta c).symm⟩
theorem h3_leave {T : Nat → Prop} {rid gR gL : Nat → Nat} {x f : Nat} (h : h3_RS T rid gR gL) (tx : T x) (hf : ∀ c, T c → rid c ≠ f) : h3_RS T (hs_s rid x f) (hs_s (hs_s gR (gL x) (gR x)) x x) (hs_s (hs_s gL (gR x) (gL x)) x x) := by
  obtain ⟨t, ⟨r1, r2, r3⟩, hd, hm⟩ := h3_at h tx
  have hd' := List.nodup_cons.1 hd
  have other : ∀ a, T a → rid a ≠ rid x → ∃ l : List Nat, a ∈ l ∧ h3_rg (hs_s (hs_s gR (gL x) (gR x)) x x) (hs_s (hs_s gL (gR x) (gL x)) x x) l ∧ l.Nodup ∧ ∀ c, c ∈ l ↔ T c ∧ hs_s rid x f c = hs_s rid x f a := by
    intro a ta ne
    obtain ⟨l, al, ⟨g1, g2, g3⟩, ld, lm⟩ := h a ta
    have ax : a ≠ x := fun e => ne (by rw [e])
    have fx : ∀ z, z ∈ l → z ∉ x :: t := by
      intro z hz hz'
      exact ne (((lm z).1 hz).2.symm.trans ((hm z).1 hz').2)
    have gLx : gL x ∈ x :: t := by
      have : gL x = h3_la (x :: t) := r3
      rw [this]; exact h3_la_m (by simp)
    have gRx : gR x ∈ x :: t := by
      cases t with
      | nil => have : gR x = x := r2
               rw [this]; simp
      | cons b s => have : gR x = b := r1.1
                    rw [this]; simp
    have f1 : ∀ z, z ∈ l → hs_s (hs_s gR (gL x) (gR x)) x x z = gR z := by
      intro z hz
      rw [hs_sn (fun e => fx z hz (by rw [e]; simp)), hs_sn (fun e => fx z hz (by rw [e]; exact gLx))]
    have f2 : ∀ z, z ∈ l → hs_s (hs_s gL (gR x) (gL x)) x x z = gL z := by
      intro z hz
      rw [hs_sn (fun e => fx z hz (by rw [e]; simp)), hs_sn (fun e => fx z hz (by rw [e]; exact gRx))]
    have ln : l ≠ [] := List.ne_nil_of_mem al
    refine ⟨l, al, ⟨h3_ch_fr ld (fun z hz _ => f1 z hz) (fun z hz _ => f2 z hz) g1, ?_, ?_⟩, ld, fun c => ?_⟩
    · rw [f1 _ (h3_la_m ln)]; exact g2
    · rw [f2 _ (h1_hd_m ln)]; exact g3
    · rw [lm c, hs_sn ax]
      by_cases e : c = x
      · rw [e, hs_ss]
        exact ⟨fun h => absurd h.2.symm ne, fun h => absurd h.2.symm (hf a ta)⟩
      · rw [hs_sn e]
  intro a ta
  by_cases ax : a = x
  · subst ax
    refine ⟨[a], by simp, ⟨trivial, ?_, ?_⟩, by simp, fun c => ?_⟩
    · show hs_s _ a a a = a
      rw [hs_ss]
    · show hs_s _ a a a = a
      rw [hs_ss]
    · rw [hs_ss, List.mem_singleton]
      by_cases e : c = a
      · rw [e, hs_ss]; exact ⟨fun _ => ⟨ta, rfl⟩, fun _ => rfl⟩
      · rw [hs_sn e]; exact ⟨fun h => absurd h e, fun h => absurd h.2 (hf c h.1)⟩
  · by_cases ne : rid a = rid x
    · have am : a ∈ x :: t := (hm a).2 ⟨ta, ne⟩
      have am' : a ∈ t := (List.mem_cons.1 am).resolve_left ax
      have tn : t ≠ [] := List.ne_nil_of_mem am'
      have eL : gL x = h3_la t := by
        have : gL x = h3_la (x :: t) := r3
        rw [this]; exact h3_la_app (l1 := [x]) tn
      have eR : gR x = h1_hd t := by
        cases t with
        | nil => exact absurd rfl tn
        | cons b s => exact r1.1
      have c1 : h3_ch gR gL t := by
        cases t with
        | nil => trivial
        | cons b s => exact r1.2.2
      have zx : ∀ z, z ∈ t → z ≠ x := fun z hz e => hd'.1 (e ▸ hz)
      refine ⟨t, am', ⟨h3_ch_fr hd'.2 (fun z hz hn => ?_) (fun z hz hn => ?_) c1, ?_, ?_⟩, hd'.2, fun c => ?_⟩
      · rw [hs_sn (zx z hz), hs_sn (by rw [eL]; exact hn)]
      · rw [hs_sn (zx z hz), hs_sn (by rw [eR]; exact hn)]
      · rw [hs_sn (zx _ (h3_la_m tn)), ← eL, hs_ss]; exact eR
      · rw [hs_sn (zx _ (h1_hd_m tn)), ← eR, hs_ss]; exact eL
      · rw [hs_sn ax]
        by_cases e : c = x
        · rw [e, hs_ss]
          exact ⟨fun h => absurd h hd'.1, fun h => absurd h.2.symm (hf a ta)⟩
        · rw [hs_sn e, ne, ← hm c, List.mem_cons]
          exact ⟨Or.inr, fun h => h.resolve_left e⟩
    · exact other a ta ne
theorem h3_splice {T : Nat → Prop} {rid gR gL : Nat → Nat} {a b : Nat} (h : h3_RS T rid gR gL) (ta : T a) (tb : T b) (hab : rid a ≠ rid b) : h3_RS T (fun c => if rid c = rid b then rid a else rid c) (hs_s (hs_s gR a b) (gL b) (gR a)) (hs_s (hs_s gL b a) (gR a) (gL b)) := by
  obtain ⟨t1, ⟨p1, p2, p3⟩, pd, pm⟩ := h3_at h ta
  obtain ⟨t2, ⟨q1, q2, q3⟩, qd, qm⟩ := h3_at h tb
  have dis : ∀ z, z ∈ a :: t1 → z ∉ b :: t2 := fun z hz hz' => hab (((pm z).1 hz).2.symm.trans ((qm z).1 hz').2)
  have pd' := List.nodup_cons.1 pd
  have eL : gL b = h3_la (b :: t2) := q3
  have gLm : gL b ∈ b :: t2 := by rw [eL]; exact h3_la_m (by simp)
  have gRm : gR a ∈ a :: t1 := by
    cases t1 with
    | nil => have : gR a = a := p2
             rw [this]; simp
    | cons c s => have : gR a = c := p1.1
                  rw [this]; simp
  have am : a ∈ a :: t1 := by simp
  have bm : b ∈ b :: t2 := by simp
  have ab : a ≠ b := fun e => dis a am (by rw [e]; simp)
  -- the new ring
  have new : h3_rg (hs_s (hs_s gR a b) (gL b) (gR a)) (hs_s (hs_s gL b a) (gR a) (gL b)) ([a] ++ ((b :: t2) ++ t1)) := by
    have c2 : h3_ch (hs_s (hs_s gR a b) (gL b) (gR a)) (hs_s (hs_s gL b a) (gR a) (gL b)) (b :: t2) := by
      refine h3_ch_fr qd (fun z hz hn => ?_) (fun z hz hn => ?_) q1
      · rw [hs_sn (by rw [eL]; exact hn), hs_sn (fun e => dis a am (by rw [← e]; exact hz))]
      · rw [hs_sn (fun e => dis _ gRm (by rw [← e]; exact hz))]
        exact hs_sn hn
    have v1 : hs_s (hs_s gR a b) (gL b) (gR a) a = b := by
      rw [hs_sn (fun e => dis a am (by rw [e]; exact gLm)), hs_ss]
    have v2 : hs_s (hs_s gL b a) (gR a) (gL b) b = a := by
      rw [hs_sn (fun e => dis _ gRm (by rw [← e]; exact bm)), hs_ss]
    have v3 : hs_s (hs_s gR a b) (gL b) (gR a) (h3_la (b :: t2)) = gR a := by rw [← eL, hs_ss]
    have v4 : hs_s (hs_s gL b a) (gR a) (gL b) (gR a) = h3_la (b :: t2) := by rw [hs_ss]; exact eL
    by_cases tn : t1 = []
    · subst tn
      have ea : gR a = a := p2
      rw [List.append_nil]
      refine ⟨(h3_ch_app (by simp) (by simp)).2 ⟨trivial, c2, v1, v2⟩, ?_, ?_⟩
      · rw [h3_la_app (by simp), v3]; exact ea
      · rw [h3_la_app (by simp)]
        rw [ea] at v4 ⊢; exact v4
    · have ea : gR a = h1_hd t1 := by
        cases t1 with
        | nil => exact absurd rfl tn
        | cons c s => exact p1.1
      have cc : h3_ch gR gL t1 := by
        cases t1 with
        | nil => trivial
        | cons c s => exact p1.2.2
      have z1 : ∀ z, z ∈ t1 → z ≠ gL b := fun z hz e => dis z (by simp [hz]) (by rw [e]; exact gLm)
      have z2 : ∀ z, z ∈ t1 → z ≠ a := fun z hz e => pd'.1 (e ▸ hz)
      have z3 : ∀ z, z ∈ t1 → z ≠ b := fun z hz e => dis z (by simp [hz]) (by rw [e]; exact bm)
      have c1 : h3_ch (hs_s (hs_s gR a b) (gL b) (gR a)) (hs_s (hs_s gL b a) (gR a) (gL b)) t1 := by
        refine h3_ch_fr pd'.2 (fun z hz hn => ?_) (fun z hz hn => ?_) cc
        · rw [hs_sn (z1 z hz), hs_sn (z2 z hz)]
        · rw [hs_sn (by rw [ea]; exact hn), hs_sn (z3 z hz)]
      have la1 : h3_la (a :: t1) = h3_la t1 := h3_la_app (l1 := [a]) tn
      refine ⟨(h3_ch_app (by simp) (by simp)).2 ⟨trivial, (h3_ch_app (by simp) tn).2 ⟨c2, c1, ?_, ?_⟩, v1, v2⟩, ?_, ?_⟩
      · rw [v3, ea]
      · rw [← ea]; exact v4
      · rw [h3_la_app (by simp), h3_la_app tn, hs_sn (z1 _ (h3_la_m tn)), hs_sn (z2 _ (h3_la_m tn)), ← la1]; exact p2
      · rw [h3_la_app (by simp), h3_la_app tn]
        show hs_s (hs_s gL b a) (gR a) (gL b) a = _
        rw [hs_sn (fun e => z2 (gR a) (by rw [ea]; exact h1_hd_m tn) e.symm), hs_sn ab, ← la1]; exact p3
  have pm' : ([a] ++ ((b :: t2) ++ t1)).Perm ((a :: t1) ++ (b :: t2)) := by
    show (a :: ((b :: t2) ++ t1)).Perm (a :: (t1 ++ (b :: t2)))
    exact List.Perm.cons a List.perm_append_comm
  have nd : ([a] ++ ((b :: t2) ++ t1)).Nodup := by
    refine pm'.symm.nodup ?_
    rw [List.nodup_append]
    exact ⟨pd, qd, fun x hx y hy e => dis x hx (e ▸ hy)⟩
  intro c tc
  by_cases k : rid c = rid a ∨ rid c = rid b
  · have rc : (if rid c = rid b then rid a else rid c) = rid a := by
      rcases k with k | k
      · rw [if_neg (by rw [k]; exact hab), k]
      · rw [if_pos k]
    have cm : ∀ z, z ∈ [a] ++ ((b :: t2) ++ t1) ↔ T z ∧ (rid z = rid a ∨ rid z = rid b) := by
      intro z
      rw [pm'.mem_iff, List.mem_append, pm z, qm z]
      exact ⟨fun h => h.elim (fun h => ⟨h.1, Or.inl h.2⟩) (fun h => ⟨h.1, Or.inr h.2⟩), fun h => h.2.elim (fun k => Or.inl ⟨h.1, k⟩) (fun k => Or.inr ⟨h.1, k⟩)⟩
    refine ⟨_, (cm c).2 ⟨tc, k⟩, new, nd, fun z => ?_⟩
    dsimp only
    rw [cm z, rc]
    by_cases kb : rid z = rid b
    · rw [if_pos kb]; exact ⟨fun h => ⟨h.1, rfl⟩, fun h => ⟨h.1, Or.inr kb⟩⟩
    · rw [if_neg kb]; exact ⟨fun h => ⟨h.1, h.2.resolve_right kb⟩, fun h => ⟨h.1, Or.inl h.2⟩⟩
  · have ka : rid c ≠ rid a := fun e => k (Or.inl e)
    have kb : rid c ≠ rid b := fun e => k (Or.inr e)
    obtain ⟨l, al, ⟨g1, g2, g3⟩, ld, lm⟩ := h c tc
    have na : ∀ z, z ∈ l → z ∉ a :: t1 := fun z hz hz' => ka (((lm z).1 hz).2.symm.trans ((pm z).1 hz').2)
    have nb : ∀ z, z ∈ l → z ∉ b :: t2 := fun z hz hz' => kb (((lm z).1 hz).2.symm.trans ((qm z).1 hz').2)
    have f1 : ∀ z, z ∈ l → hs_s (hs_s gR a b) (gL b) (gR a) z = gR z := by
      intro z hz
      rw [hs_sn (fun e => nb z hz (by rw [e]; exact gLm)), hs_sn (fun e => na z hz (by rw [e]; exact am))]
    have f2 : ∀ z, z ∈ l → hs_s (hs_s gL b a) (gR a) (gL b) z = gL z := by
      intro z hz
      rw [hs_sn (fun e => na z hz (by rw [e]; exact gRm)), hs_sn (fun e => nb z hz (by rw [e]; exact bm))]
    have ln : l ≠ [] := List.ne_nil_of_mem al
    refine ⟨l, al, ⟨h3_ch_fr ld (fun z hz _ => f1 z hz) (fun z hz _ => f2 z hz) g1, ?_, ?_⟩, ld, fun z => ?_⟩
    · rw [f1 _ (h3_la_m ln)]; exact g2
    · rw [f2 _ (h1_hd_m ln)]; exact g3
    · dsimp only
      rw [lm z, if_neg kb]
      by_cases kz : rid z = rid b
      · rw [if_pos kz]
        exact ⟨fun h => absurd (h.2.symm.trans kz) kb, fun h => absurd h.2.symm ka⟩
      · rw [if_neg kz]
/-- a new node alone -/
theorem h3_alone {T : Nat → Prop} {rid gR gL : Nat → Nat} {x f : Nat} (h : h3_RS T rid gR gL) (tx : ¬ T x) (hf : ∀ c, T c → rid c ≠ f) : h3_RS (fun z => T z ∨ z = x) (hs_s rid x f) (hs_s gR x x) (hs_s gL x x) := by
  intro a ta
  by_cases ax : a = x
  · subst ax
    refine ⟨[a], by simp, ⟨trivial, ?_, ?_⟩, by simp, fun c => ?_⟩
    · show hs_s _ a a a = a
      rw [hs_ss]
    · show hs_s _ a a a = a
      rw [hs_ss]
    · rw [hs_ss, List.mem_singleton]
      by_cases e : c = a
      · rw [e, hs_ss]; exact ⟨fun _ => ⟨Or.inr rfl, rfl⟩, fun _ => rfl⟩
      · rw [hs_sn e]; exact ⟨fun h => absurd h e, fun h => absurd h.2 (hf c (h.1.resolve_right e))⟩
  · obtain ⟨l, al, ⟨g1, g2, g3⟩, ld, lm⟩ := h a (ta.resolve_right ax)
    have nx : ∀ z, z ∈ l → z ≠ x := fun z hz e => tx (e ▸ ((lm z).1 hz).1)
    have ln : l ≠ [] := List.ne_nil_of_mem al
    refine ⟨l, al, ⟨h3_ch_fr ld (fun z hz _ => hs_sn (nx z hz)) (fun z hz _ => hs_sn (nx z hz)) g1, ?_, ?_⟩, ld, fun z => ?_⟩
    · rw [hs_sn (nx _ (h3_la_m ln))]; exact g2
    · rw [hs_sn (nx _ (h1_hd_m ln))]; exact g3
    · rw [lm z, hs_sn ax]
      by_cases e : z = x
      · rw [e, hs_ss]
        exact ⟨fun h => absurd h.1 tx, fun h => absurd h.2.symm (hf a (ta.resolve_right ax))⟩
      · rw [hs_sn e]
        exact ⟨fun h => ⟨Or.inl h.1, h.2⟩, fun h => ⟨h.1.resolve_right e, h.2⟩⟩
/-- the neighbour on the right, and whether a ring is one node alone -/
theorem h3_right {T : Nat → Prop} {rid gR gL : Nat → Nat} (h : h3_RS T rid gR gL) {x : Nat} (tx : T x) : T (gR x) ∧ rid (gR x) = rid x ∧ T (gL x) ∧ rid (gL x) = rid x ∧ gL (gR x) = x ∧ (gR x = x → ∀ c, T c → rid c = rid x → c = x) := by
  obtain ⟨t, ⟨r1, r2, r3⟩, hd, hm⟩ := h3_at h tx
  have gLx : gL x ∈ x :: t := by
    have : gL x = h3_la (x :: t) := r3
    rw [this]; exact h3_la_m (by simp)
  have gRx : gR x ∈ x :: t := by
    cases t with
    | nil => have : gR x = x := r2
             rw [this]; simp
    | cons b s => have : gR x = b := r1.1
                  rw [this]; simp
  obtain ⟨m1, m2⟩ := (hm _).1 gRx
  obtain ⟨m3, m4⟩ := (hm _).1 gLx
  refine ⟨m1, m2, m3, m4, ?_, fun e c tc ec => ?_⟩
  · cases t with
    | nil => have e1 : gR x = x := r2
             have e2 : gL x = x := r3
             rw [e1]; exact e2
    | cons b s => have e1 : gR x = b := r1.1
                  rw [e1]; exact r1.2.1
  · have cm := (hm c).2 ⟨tc, ec⟩
    cases t with
    | nil => simpa using cm
    | cons b s =>
      have e1 : gR x = b := r1.1
      exact absurd (e1.symm.trans e) (fun e' => (List.nodup_cons.1 hd).1 (by rw [← e']; simp))
end
section
/-! engine 3: degrees, marks, children -/
def h3_fb (v : Nat → Nat) : Nat → List Nat → Prop
  | _, [] => True
  | k, c :: t => k ≤ v c ∧ h3_fb v (k + 1) t
theorem h3_fb_le {v : Nat → Nat} : ∀ {l : List Nat} {j k : Nat}, j ≤ k → h3_fb v k l → h3_fb v j l
  | [], _, _, _, _ => trivial
  | _ :: _, _, _, h, ⟨a, b⟩ => ⟨by omega, h3_fb_le (by omega) b⟩
theorem h3_fb_mo {v v' : Nat → Nat} : ∀ {l : List Nat} {k : Nat}, (∀ c, c ∈ l → v c ≤ v' c) → h3_fb v k l → h3_fb v' k l
  | [], _, _, _ => trivial
  | c :: _, _, h, ⟨a, b⟩ => ⟨by have := h c (by simp); omega, h3_fb_mo (fun c hc => h c (by simp [hc])) b⟩
theorem h3_fb_cut {v : Nat → Nat} {x : Nat} {l2 : List Nat} : ∀ {l1 : List Nat} {k : Nat}, h3_fb v k (l1 ++ x :: l2) → h3_fb v k (l1 ++ l2)
  | [], _, ⟨_, b⟩ => h3_fb_le (by omega) b
  | _ :: t, _, ⟨a, b⟩ => ⟨a, h3_fb_cut (l1 := t) b⟩
theorem h3_fb_app {v : Nat → Nat} {u : Nat} : ∀ {l : List Nat} {k : Nat}, h3_fb v k l → k + l.length ≤ v u → h3_fb v k (l ++ [u])
  | [], _, _, h => ⟨by simpa using h, trivial⟩
  | _ :: t, _, ⟨a, b⟩, h => ⟨a, h3_fb_app (l := t) b (by simp at h; omega)⟩
def h3_Z (g gP : Nat → Nat) (c : Nat) : Nat := if gP c = 24 then 31 + g c else gP c
def h3_C (T X : Nat → Prop) (gC gP : Nat → Nat) : Prop := ∀ x, T x → ¬ X x → (gC x = 24 ∧ ∀ c, T c → gP c ≠ x) ∨ (T (gC x) ∧ gP (gC x) = x)
def h3_Dg (T X : Nat → Prop) (B gP gD gM : Nat → Nat) : Prop := ∀ x, T x → ¬ X x → ∃ lo : List Nat, lo.Nodup ∧ (∀ c, c ∈ lo ↔ T c ∧ gP c = x) ∧ gD x = lo.length ∧ h3_fb (fun c => gD c + gM c + B c) 0 lo
def h3_V (K : Nat → Int32) (g : Nat → Nat) (T X : Nat → Prop) (B gC gP gD gM : Nat → Nat) : Prop :=
  hs_F K g T (fun c => gP c = 24) gP ∧ (∀ x, T x → 1 ≤ g x ∧ g x ≤ 4) ∧ h3_C T X gC gP ∧ (∀ x, T x → gM x < 2) ∧ h3_Dg T X B gP gD gM
def hs_0 : Nat → Nat := fun _ => 0
def hs_1 (u : Nat) : Nat → Nat := fun c => if c = u then 1 else 0
theorem h3_gP {K : Nat → Int32} {g : Nat → Nat} {T X : Nat → Prop} {B gC gP gD gM : Nat → Nat} (h : h3_V K g T X B gC gP gD gM) {x : Nat} (tx : T x) : gP x = 24 ∨ (gP x < 24 ∧ T (gP x) ∧ hs_bef K (gP x) x ∧ g (gP x) = g x) := by
  by_cases e : gP x = 24
  · exact Or.inl e
  · have := h.1.2 x tx e
    exact Or.inr ⟨h.1.1 _ this.1, this⟩
theorem h3_Z_40 {K : Nat → Int32} {g : Nat → Nat} {T X : Nat → Prop} {B gC gP gD gM : Nat → Nat} (h : h3_V K g T X B gC gP gD gM) {x : Nat} (tx : T x) : h3_Z g gP x < 40 := by
  unfold h3_Z
  have := h3_gP h tx
  have := h.2.1 x tx
  split <;> omega
theorem h3_deg24 {K : Nat → Int32} {g : Nat → Nat} {T X : Nat → Prop} {B gC gP gD gM : Nat → Nat} (h : h3_V K g T X B gC gP gD gM) {x : Nat} (tx : T x) (nx : ¬ X x) : gD x ≤ 24 := by
  obtain ⟨lo, l1, l2, l3, l4⟩ := h.2.2.2.2 x tx nx
  rw [l3]
  exact hs_len l1 (fun z hz => h.1.1 z ((l2 z).1 hz).1)
theorem h3_chc {K : Nat → Int32} {g : Nat → Nat} {T X : Nat → Prop} {B gC gP gD gM : Nat → Nat} (h : h3_V K g T X B gC gP gD gM) {x : Nat} (tx : T x) (nx : ¬ X x) : gC x ≤ 24 := by
  rcases h.2.2.1 x tx nx with o | o
  · omega
  · have := h.1.1 _ o.1; omega
/-- no node has eight children -/
theorem h3_fm {gP : Nat → Nat} {ch : Nat → List Nat} : ∀ {lo : List Nat}, lo.Nodup → (∀ c, c ∈ lo → (ch c).Nodup ∧ ∀ z, z ∈ ch c → gP z = c) → (lo.flatMap ch).Nodup ∧ ∀ z, z ∈ lo.flatMap ch → gP z ∈ lo ∧ z ∈ ch (gP z)
  | [], _, _ => ⟨by simp, fun z hz => by simp at hz⟩
  | c :: t, hd, h => by
    have hd' := List.nodup_cons.1 hd
    obtain ⟨i1, i2⟩ := h3_fm (gP := gP) (ch := ch) hd'.2 (fun c hc => h c (by simp [hc]))
    obtain ⟨c1, c2⟩ := h c (by simp)
    rw [List.flatMap_cons]
    refine ⟨?_, fun z hz => ?_⟩
    · rw [List.nodup_append]
      refine ⟨c1, i1, fun a ha b hb e => ?_⟩
      have := (i2 b hb).1
      rw [← e, c2 a ha] at this
      exact hd'.1 this
    · rw [List.mem_append] at hz
      rcases hz with hz | hz
      · rw [c2 z hz]; exact ⟨by simp, hz⟩
      · exact ⟨List.mem_cons_of_mem _ (i2 z hz).1, (i2 z hz).2⟩
theorem h3_fs {ch : Nat → List Nat} {gD v : Nat → Nat} : ∀ {lo : List Nat} {k : Nat}, (∀ c, c ∈ lo → (ch c).length = gD c ∧ v c ≤ gD c + 1) → h3_fb v k lo → lo.length * (k - 1) ≤ (lo.flatMap ch).length ∧ (8 ≤ lo.length → k = 0 → 21 ≤ (lo.flatMap ch).length)
  | [], _, _, _ => ⟨by simp, fun h => by simp at h⟩
  | c0 :: t, k, h, hb => by
    obtain ⟨b1, b2⟩ := hb
    have d0 := h c0 (by simp)
    constructor
    · have ih := (h3_fs (k := k + 1) (fun c hc => h c (by simp [hc])) b2).1
      rw [List.flatMap_cons, List.length_append, List.length_cons, Nat.add_mul]
      have : t.length * (k - 1) ≤ t.length * (k + 1 - 1) := Nat.mul_le_mul_left _ (by omega)
      omega
    · intro h8 hk
      subst hk
      match t, h8, h, b2 with
      | c1 :: c2 :: c3 :: c4 :: c5 :: c6 :: c7 :: s, _, h, b2 =>
        have d1 := h c1 (by simp)
        have d2 := h c2 (by simp)
        have d3 := h c3 (by simp)
        have d4 := h c4 (by simp)
        have d5 := h c5 (by simp)
        have d6 := h c6 (by simp)
        have d7 := h c7 (by simp)
        obtain ⟨e1, e2, e3, e4, e5, e6, e7, _⟩ := b2
        simp only [List.flatMap_cons, List.length_append]
        omega
theorem h3_8 {K : Nat → Int32} {g : Nat → Nat} {T : Nat → Prop} {gC gP gD gM : Nat → Nat} (h : h3_V K g T hs_no hs_0 gC gP gD gM) {x : Nat} (tx : T x) : gD x < 8 := by
  obtain ⟨hF, hg, hC, hM, hD⟩ := h
  obtain ⟨ch, hch⟩ : ∃ ch : Nat → List Nat, ∀ x, T x → (ch x).Nodup ∧ (∀ c, c ∈ ch x ↔ T c ∧ gP c = x) ∧ gD x = (ch x).length ∧ h3_fb (fun c => gD c + gM c + hs_0 c) 0 (ch x) := by
    refine ⟨fun x => @dite _ (T x) (Classical.propDecidable _) (fun t => Classical.choose (hD x t id)) (fun _ => []), fun x t => ?_⟩
    have := Classical.choose_spec (hD x t id)
    try dsimp only
    rw [dif_pos t]
    exact this
  obtain ⟨x1, x2, x3, x4⟩ := hch x tx
  have cT : ∀ c, c ∈ ch x → T c := fun c hc => ((x2 c).1 hc).1
  have sub : ∀ c, c ∈ ch x → (ch c).Nodup ∧ ∀ z, z ∈ ch c → gP z = c := fun c hc => ⟨(hch c (cT c hc)).1, fun z hz => (((hch c (cT c hc)).2.1 z).1 hz).2⟩
  obtain ⟨m1, m2⟩ := h3_fm (gP := gP) x1 sub
  have bx : ∀ y c, T y → T c → gP c = y → hs_bef K y c := by
    intro y c ty tc e
    have := hF.1 y ty
    have := (hF.2 c tc (by omega)).2.1
    rwa [e] at this
  have gT : ∀ z, z ∈ (ch x).flatMap ch → T z ∧ T (gP z) ∧ gP (gP z) = x := by
    intro z hz
    obtain ⟨a, b⟩ := m2 z hz
    exact ⟨(((hch _ (cT _ a)).2.1 z).1 b).1, cT _ a, ((x2 _).1 a).2⟩
  have nd : (x :: (ch x ++ (ch x).flatMap ch)).Nodup := by
    rw [List.nodup_cons, List.nodup_append]
    refine ⟨fun hm => ?_, x1, m1, fun a ha b hb e => ?_⟩
    · rw [List.mem_append] at hm
      rcases hm with hm | hm
      · exact hs_bef_irr (bx x x tx tx ((x2 x).1 hm).2)
      · obtain ⟨a1, a2, a3⟩ := gT x hm
        exact hs_bef_as (bx (gP x) x a2 a1 rfl) (bx x (gP x) tx a2 a3)
    · subst e
      obtain ⟨a1, a2, a3⟩ := gT a hb
      have e1 := ((x2 a).1 ha).2
      rw [e1] at a3
      exact hs_bef_irr (bx x x tx tx a3)
  have len := hs_len (n := 24) nd (fun z hz => by
    rw [List.mem_cons, List.mem_append] at hz
    rcases hz with hz | hz | hz
    · rw [hz]; exact hF.1 x tx
    · exact hF.1 z (cT z hz)
    · exact hF.1 z (gT z hz).1)
  rw [List.length_cons, List.length_append] at len
  have s := h3_fs (gD := gD) (fun c hc => ⟨(hch c (cT c hc)).2.2.1.symm, by have := hM c (cT c hc); simp only [hs_0]; omega⟩) x4
  rw [x3]
  by_cases e : 8 ≤ (ch x).length
  · have := s.2 e rfl; omega
  · omega
theorem h3_Vcut {K K' : Nat → Int32} {g : Nat → Nat} {T X : Nat → Prop} {B gC gC' gP gD gM : Nat → Nat} {x u : Nat} (h : h3_V K g T X B gC gP gD gM) (tx : T x) (eu : gP x = u) (u24 : u ≠ 24) (xu : ¬ X u) (hB : ∀ c, c ≠ x → B c = 0) (hC' : (gC' u = 24 ∧ ∀ c, T c → c ≠ x → gP c ≠ u) ∨ (T (gC' u) ∧ gP (gC' u) = u ∧ gC' u ≠ x)) (hCo : ∀ z, z ≠ u → gC' z = gC z) (hF' : hs_F K' g T (fun c => hs_s gP x 24 c = 24) (hs_s gP x 24)) : h3_V K' g T X (hs_1 u) gC' (hs_s gP x 24) (hs_s gD u (gD u - 1)) (hs_s gM x 0) := by
  obtain ⟨hF, hg, hC, hM, hD⟩ := h
  have ux : u ≠ x := by
    intro e
    have := (hF.2 x tx (by omega)).2.1
    rw [eu, e] at this; exact hs_bef_irr this
  have tu : T u := by
    have := (hF.2 x tx (by omega)).1
    rwa [eu] at this
  obtain ⟨lu, u1, u2, u3, u4⟩ := hD u tu xu
  have xm : x ∈ lu := (u2 x).2 ⟨tx, eu⟩
  have up : 1 ≤ gD u := by
    have := List.length_pos_of_mem xm; omega
  refine ⟨hF', hg, fun y ty nx => ?_, fun y ty => ?_, fun y ty nx => ?_⟩
  · by_cases e : y = u
    · subst e
      rcases hC' with ⟨o1, o2⟩ | ⟨o1, o2, o3⟩
      · refine Or.inl ⟨o1, fun c tc => ?_⟩
        by_cases ec : c = x
        · rw [ec, hs_ss]; exact Ne.symm u24
        · rw [hs_sn ec]; exact o2 c tc ec
      · exact Or.inr ⟨o1, by rw [hs_sn o3]; exact o2⟩
    · rw [hCo y e]
      have y24 := hF.1 y ty
      rcases hC y ty nx with ⟨o1, o2⟩ | ⟨o1, o2⟩
      · refine Or.inl ⟨o1, fun c tc => ?_⟩
        by_cases ec : c = x
        · rw [ec, hs_ss]; omega
        · rw [hs_sn ec]; exact o2 c tc
      · refine Or.inr ⟨o1, ?_⟩
        rw [hs_sn (fun ec => e (by rw [← o2, ec]; exact eu))]; exact o2
  · by_cases e : y = x
    · rw [e, hs_ss]; omega
    · rw [hs_sn e]; exact hM y ty
  · have y24 := hF.1 y ty
    by_cases e : y = u
    · subst e
      obtain ⟨l1, l2, el⟩ := List.append_of_mem xm
      subst el
      have nd := List.nodup_cons.1 (List.perm_middle.nodup u1)
      refine ⟨l1 ++ l2, nd.2, fun c => ?_, ?_, ?_⟩
      · have m1 : c ∈ l1 ++ l2 ↔ c ∈ l1 ++ x :: l2 ∧ c ≠ x := by
          constructor
          · intro hm
            refine ⟨?_, fun e => nd.1 (e ▸ hm)⟩
            rw [List.mem_append] at hm ⊢
            rw [List.mem_cons]
            exact hm.elim Or.inl (fun h => Or.inr (Or.inr h))
          · intro ⟨hm, hn⟩
            rw [List.mem_append, List.mem_cons] at hm
            rw [List.mem_append]
            exact hm.elim Or.inl (fun h => h.elim (fun h => absurd h hn) Or.inr)
        rw [m1, u2 c]
        by_cases ec : c = x
        · rw [ec, hs_ss]; exact ⟨fun h => absurd rfl h.2, fun h => absurd h.2.symm u24⟩
        · rw [hs_sn ec]; exact ⟨fun h => h.1, fun h => ⟨h, ec⟩⟩
      · rw [hs_ss, u3, List.length_append, List.length_append, List.length_cons]; omega
      · refine h3_fb_mo (fun c hc => ?_) (h3_fb_cut u4)
        have cx : c ≠ x := fun e => nd.1 (e ▸ hc)
        have cm : c ∈ l1 ++ x :: l2 := by
          rw [List.mem_append] at hc ⊢
          rw [List.mem_cons]
          exact hc.elim Or.inl (fun h => Or.inr (Or.inr h))
        have cu : c ≠ y := by
          intro e
          obtain ⟨a, b⟩ := (u2 c).1 cm
          rw [e] at a b
          have := (hF.2 y a (by omega)).2.1
          rw [b] at this; exact hs_bef_irr this
        try dsimp only
        rw [hs_sn cu, hs_sn cx, hB c cx]
        omega
    · obtain ⟨lo, l1, l2, l3, l4⟩ := hD y ty nx
      refine ⟨lo, l1, fun c => ?_, by rw [hs_sn e]; exact l3, h3_fb_mo (fun c hc => ?_) l4⟩
      · rw [l2 c]
        by_cases ec : c = x
        · rw [ec, hs_ss, eu]; exact ⟨fun h => absurd h.2.symm e, fun h => by have := h.2; omega⟩
        · rw [hs_sn ec]
      · have cx : c ≠ x := by
          intro ec
          have := ((l2 c).1 hc).2
          rw [ec, eu] at this; exact e this.symm
        try dsimp only
        rw [hs_sn cx, hB c cx]
        by_cases ec : c = u
        · rw [ec, hs_ss]; unfold hs_1; rw [if_pos rfl]; omega
        · rw [hs_sn ec]; omega
/-- the end of cutUp -/
theorem h3_Vmark {K : Nat → Int32} {g : Nat → Nat} {T X : Nat → Prop} {gC gP gD gM : Nat → Nat} {x m : Nat} (h : h3_V K g T X (hs_1 x) gC gP gD gM) (tx : T x) (hm : (gP x = 24 ∧ m = 0) ∨ (gM x = 0 ∧ m = 1)) : h3_V K g T X hs_0 gC gP gD (hs_s gM x m) := by
  obtain ⟨hF, hg, hC, hM, hD⟩ := h
  refine ⟨hF, hg, hC, fun y ty => ?_, fun y ty nx => ?_⟩
  · by_cases e : y = x
    · rw [e, hs_ss]; omega
    · rw [hs_sn e]; exact hM y ty
  · obtain ⟨lo, l1, l2, l3, l4⟩ := hD y ty nx
    refine ⟨lo, l1, l2, l3, h3_fb_mo (fun c hc => ?_) l4⟩
    try dsimp only
    by_cases e : c = x
    · rw [e, hs_ss]
      have := ((l2 c).1 hc).2
      rw [e] at this
      have y24 := hF.1 y ty
      unfold hs_1 hs_0; rw [if_pos rfl]
      omega
    · rw [hs_sn e]
      unfold hs_1; rw [if_neg e]; omega
theorem h3_Vlink {K : Nat → Int32} {g : Nat → Nat} {T : Nat → Prop} {gC gC' gP gD gM : Nat → Nat} {a b : Nat} (h : h3_V K g T hs_no hs_0 gC gP gD gM) (ta : T a) (tb : T b) (ra : gP a = 24) (rb : gP b = 24) (hgab : g a = g b) (hb : hs_bef K a b) (hd : gD a = gD b) (hC' : (gC a = 24 ∧ gC' a = b) ∨ (gC a ≠ 24 ∧ gC' a = gC a)) (hCo : ∀ z, z ≠ a → gC' z = gC z) : h3_V K g T hs_no hs_0 gC' (hs_s gP b a) (hs_s gD a (gD a + 1)) (hs_s gM b 0) := by
  obtain ⟨hF, hg, hC, hM, hD⟩ := h
  have ab : a ≠ b := hs_bef_ne hb
  have a24 := hF.1 a ta
  refine ⟨⟨hF.1, fun c tc nc => ?_⟩, hg, fun y ty nx => ?_, fun y ty => ?_, fun y ty nx => ?_⟩
  · dsimp only at nc
    by_cases e : c = b
    · rw [e, hs_ss]; exact ⟨ta, hb, hgab⟩
    · rw [hs_sn e] at nc ⊢; exact hF.2 c tc nc
  · have y24 := hF.1 y ty
    by_cases e : y = a
    · subst e
      rcases hC' with ⟨o1, o2⟩ | ⟨o1, o2⟩
      · rw [o2]; exact Or.inr ⟨tb, hs_ss⟩
      · rw [o2]
        have := (hC y ty nx).resolve_left (fun h => o1 h.1)
        refine Or.inr ⟨this.1, ?_⟩
        rw [hs_sn (fun e => by rw [e, rb] at this; omega)]; exact this.2
    · rw [hCo y e]
      rcases hC y ty nx with ⟨o1, o2⟩ | ⟨o1, o2⟩
      · refine Or.inl ⟨o1, fun c tc => ?_⟩
        by_cases ec : c = b
        · rw [ec, hs_ss]; exact Ne.symm e
        · rw [hs_sn ec]; exact o2 c tc
      · refine Or.inr ⟨o1, ?_⟩
        rw [hs_sn (fun ec => by rw [ec, rb] at o2; omega)]; exact o2
  · by_cases e : y = b
    · rw [e, hs_ss]; omega
    · rw [hs_sn e]; exact hM y ty
  · have y24 := hF.1 y ty
    obtain ⟨lo, l1, l2, l3, l4⟩ := hD y ty nx
    have nb : b ∉ lo := fun hm => by have := ((l2 b).1 hm).2; omega
    have na : a ∉ lo := fun hm => by have := ((l2 a).1 hm).2; omega
    have mo : h3_fb (fun c => hs_s gD a (gD a + 1) c + hs_s gM b 0 c + hs_0 c) 0 lo := h3_fb_mo (fun c hc => by
      try dsimp only
      have ca : c ≠ a := fun e => na (e ▸ hc)
      have cb : c ≠ b := fun e => nb (e ▸ hc)
      rw [hs_sn ca, hs_sn cb]; omega) l4
    by_cases e : y = a
    · subst e
      refine ⟨lo ++ [b], ?_, fun c => ?_, ?_, h3_fb_app mo ?_⟩
      · rw [List.nodup_append]
        exact ⟨l1, by simp, fun p hp q hq e => nb (by rw [List.mem_singleton] at hq; rw [← hq, ← e]; exact hp)⟩
      · rw [List.mem_append, List.mem_singleton, l2 c]
        by_cases ec : c = b
        · rw [ec, hs_ss]; exact ⟨fun _ => ⟨tb, rfl⟩, fun _ => Or.inr rfl⟩
        · rw [hs_sn ec]; exact ⟨fun h => h.resolve_right ec, Or.inl⟩
      · rw [hs_ss, l3, List.length_append]; rfl
      · try dsimp only
        rw [hs_sn (Ne.symm ab), hs_ss, ← hd, l3]; omega
    · refine ⟨lo, l1, fun c => ?_, by rw [hs_sn e]; exact l3, mo⟩
      rw [l2 c]
      by_cases ec : c = b
      · rw [ec, hs_ss]; exact ⟨fun h => by have := h.2; omega, fun h => absurd h.2.symm e⟩
      · rw [hs_sn ec]
theorem h3_Vnew {K : Nat → Int32} {g : Nat → Nat} {T : Nat → Prop} {gC gP gD gM : Nat → Nat} {x : Nat} (h : h3_V K g T hs_no hs_0 gC gP gD gM) (tx : ¬ T x) (hx : x < 24) (gx : 1 ≤ g x ∧ g x ≤ 4) : h3_V K g (fun z => T z ∨ z = x) hs_no hs_0 (hs_s gC x 24) (hs_s gP x 24) (hs_s gD x 0) (hs_s gM x 0) := by
  obtain ⟨hF, hg, hC, hM, hD⟩ := h
  have pc : ∀ c, T c → gP c ≠ x := by
    intro c tc e
    have := (hF.2 c tc (by omega)).1
    rw [e] at this; exact tx this
  refine ⟨⟨fun z hz => hz.elim (hF.1 z) (fun e => e ▸ hx), fun c tc nc => ?_⟩, fun y ty => ?_, fun y ty nx => ?_, fun y ty => ?_, fun y ty nx => ?_⟩
  · dsimp only at nc
    by_cases e : c = x
    · rw [e, hs_ss] at nc; exact absurd rfl nc
    · rw [hs_sn e] at nc ⊢
      obtain ⟨a, b⟩ := hF.2 c (tc.resolve_right e) nc
      exact ⟨Or.inl a, b⟩
  · by_cases e : y = x
    · rw [e]; exact gx
    · exact hg y (ty.resolve_right e)
  · by_cases e : y = x
    · rw [e, hs_ss]
      refine Or.inl ⟨rfl, fun c tc => ?_⟩
      by_cases ec : c = x
      · rw [ec, hs_ss]; omega
      · rw [hs_sn ec]; exact pc c (tc.resolve_right ec)
    · rw [hs_sn e]
      have y24 := hF.1 y (ty.resolve_right e)
      rcases hC y (ty.resolve_right e) nx with ⟨o1, o2⟩ | ⟨o1, o2⟩
      · refine Or.inl ⟨o1, fun c tc => ?_⟩
        by_cases ec : c = x
        · rw [ec, hs_ss]; omega
        · rw [hs_sn ec]; exact o2 c (tc.resolve_right ec)
      · refine Or.inr ⟨Or.inl o1, ?_⟩
        have ne : gC y ≠ x := fun ec => tx (ec ▸ o1)
        rw [hs_sn ne]; exact o2
  · by_cases e : y = x
    · rw [e, hs_ss]; omega
    · rw [hs_sn e]; exact hM y (ty.resolve_right e)
  · by_cases e : y = x
    · rw [e]
      refine ⟨[], List.nodup_nil, fun c => ⟨fun hc => absurd hc (by simp), fun ⟨c1, c2⟩ => ?_⟩, by rw [hs_ss]; rfl, trivial⟩
      by_cases ec : c = x
      · rw [ec, hs_ss] at c2; omega
      · rw [hs_sn ec] at c2; exact absurd c2 (pc c (c1.resolve_right ec))
    · have y24 := hF.1 y (ty.resolve_right e)
      obtain ⟨lo, l1, l2, l3, l4⟩ := hD y (ty.resolve_right e) nx
      have nx' : x ∉ lo := fun hm => tx ((l2 x).1 hm).1
      refine ⟨lo, l1, fun c => ?_, by rw [hs_sn e]; exact l3, h3_fb_mo (fun c hc => ?_) l4⟩
      · rw [l2 c]
        by_cases ec : c = x
        · rw [ec, hs_ss]; exact ⟨fun h => absurd h.1 tx, fun h => by have := h.2; omega⟩
        · rw [hs_sn ec]; exact ⟨fun h => ⟨Or.inl h.1, h.2⟩, fun h => ⟨h.1.resolve_right ec, h.2⟩⟩
      · try dsimp only
        have ca : c ≠ x := fun e => nx' (e ▸ hc)
        rw [hs_sn ca, hs_sn ca]; omega
/-- a child of a node that is leaving becomes a root -/
theorem h3_Vroot {K : Nat → Int32} {g : Nat → Nat} {T X : Nat → Prop} {gC gP gD gM : Nat → Nat} {c x : Nat} (h : h3_V K g T X hs_0 gC gP gD gM) (tc : T c) (tx : T x) (e : gP c = x) (hX : X x) : h3_V K g T X hs_0 gC (hs_s gP c 24) gD (hs_s gM c 0) := by
  obtain ⟨hF, hg, hC, hM, hD⟩ := h
  refine ⟨⟨hF.1, fun z tz nz => ?_⟩, hg, fun y ty nx => ?_, fun y ty => ?_, fun y ty nx => ?_⟩
  · dsimp only at nz
    by_cases ec : z = c
    · rw [ec, hs_ss] at nz; exact absurd rfl nz
    · rw [hs_sn ec] at nz ⊢; exact hF.2 z tz nz
  · have y24 := hF.1 y ty
    have yx : y ≠ x := fun e' => nx (e' ▸ hX)
    rcases hC y ty nx with ⟨o1, o2⟩ | ⟨o1, o2⟩
    · refine Or.inl ⟨o1, fun z tz => ?_⟩
      by_cases ec : z = c
      · rw [ec, hs_ss]; omega
      · rw [hs_sn ec]; exact o2 z tz
    · refine Or.inr ⟨o1, ?_⟩
      rw [hs_sn (fun ec => yx (by rw [← o2, ec]; exact e))]; exact o2
  · by_cases ec : y = c
    · rw [ec, hs_ss]; omega
    · rw [hs_sn ec]; exact hM y ty
  · have y24 := hF.1 y ty
    have yx : y ≠ x := fun e' => nx (e' ▸ hX)
    obtain ⟨lo, l1, l2, l3, l4⟩ := hD y ty nx
    have nc : c ∉ lo := fun hm => yx (((l2 c).1 hm).2.symm.trans e)
    refine ⟨lo, l1, fun z => ?_, l3, h3_fb_mo (fun z hz => ?_) l4⟩
    · rw [l2 z]
      by_cases ec : z = c
      · rw [ec, hs_ss, e]; exact ⟨fun h => absurd h.2.symm yx, fun h => by have := h.2; omega⟩
      · rw [hs_sn ec]
    · try dsimp only
      have ca : z ≠ c := fun e => nc (e ▸ hz)
      rw [hs_sn ca]; omega
theorem h3_Vdel {K : Nat → Int32} {g : Nat → Nat} {T X : Nat → Prop} {gC gP gD gM : Nat → Nat} {x : Nat} (h : h3_V K g T X hs_0 gC gP gD gM) (hX : ∀ z, X z → z = x) (rx : gP x = 24) (hc : ∀ c, T c → gP c ≠ x) : h3_V K g (fun z => T z ∧ z ≠ x) hs_no hs_0 gC gP gD gM := by
  obtain ⟨hF, hg, hC, hM, hD⟩ := h
  refine ⟨⟨fun z hz => hF.1 z hz.1, fun z tz nz => ?_⟩, fun y ty => hg y ty.1, fun y ty nx => ?_, fun y ty => hM y ty.1, fun y ty nx => ?_⟩
  · obtain ⟨a, b⟩ := hF.2 z tz.1 nz
    exact ⟨⟨a, hc z tz.1⟩, b⟩
  · have y24 := hF.1 y ty.1
    rcases hC y ty.1 (fun h => ty.2 (hX y h)) with ⟨o1, o2⟩ | ⟨o1, o2⟩
    · exact Or.inl ⟨o1, fun z tz => o2 z tz.1⟩
    · exact Or.inr ⟨⟨o1, fun e => by rw [e, rx] at o2; omega⟩, o2⟩
  · have y24 := hF.1 y ty.1
    obtain ⟨lo, l1, l2, l3, l4⟩ := hD y ty.1 (fun h => ty.2 (hX y h))
    refine ⟨lo, l1, fun z => ?_, l3, l4⟩
    rw [l2 z]
    exact ⟨fun h => ⟨⟨h.1, fun e => by rw [e, rx] at h; omega⟩, h.2⟩, fun h => ⟨h.1.1, h.2⟩⟩
end
section
/-! engine 3: the walks -/
theorem h3_ext {T : Nat → Prop} {rid rid' gR gL : Nat → Nat} (h : h3_RS T rid gR gL) (he : ∀ z, T z → rid' z = rid z) : h3_RS T rid' gR gL :=
  h3_rel h (fun _ t => t) (fun a ta c => ⟨fun ⟨tc, e⟩ => ⟨tc, by rw [← he c tc, ← he a ta]; exact e⟩, fun ⟨tc, e⟩ => ⟨tc, by rw [he c tc, he a ta]; exact e⟩⟩)
def h3_G (K : Nat → Int32) (g : Nat → Nat) (T : Nat → Prop) (gP gF : Nat → Nat) (xi : Nat) : Prop :=
  ∀ q, q < 4 → (gF q = 24 ∧ ∀ c, T c → g c ≠ q + 1) ∨ (T (gF q) ∧ g (gF q) = q + 1 ∧ gP (gF q) = 24 ∧ ∀ c, T c → g c = q + 1 → gP c = 24 → c ≠ xi → c = gF q ∨ hs_bef K (gF q) c)
/-- a new root of q -/
theorem h3_G_add {K : Nat → Int32} {g : Nat → Nat} {T : Nat → Prop} {gP gF : Nat → Nat} {xi q x r : Nat} (h : h3_G K g T gP gF xi) (tx : T x) (gx : g x = q + 1) (hq : q < 4) (hne : gP x ≠ 24) (hr : (hs_bef K x (gF q) ∧ r = x) ∨ (¬ hs_bef K x (gF q) ∧ r = gF q)) : h3_G K g T (hs_s gP x 24) (hs_s gF q r) xi := by
  have hG := (h q hq).resolve_left (fun o => o.2 x tx gx)
  intro p hp
  by_cases e : p = q
  · subst e
    rw [hs_ss]
    obtain ⟨f1, f2, f3, f4⟩ := hG
    have fx : gF p ≠ x := fun e => hne (e ▸ f3)
    rcases hr with ⟨b, e⟩ | ⟨b, e⟩
    · rw [e]
      refine Or.inr ⟨tx, gx, hs_ss, fun c tc gc pc ne => ?_⟩
      by_cases ec : c = x
      · exact Or.inl ec
      · rw [hs_sn ec] at pc
        rcases f4 c tc gc pc ne with o | o
        · rw [o]; exact Or.inr b
        · exact Or.inr (hs_bef_tr b o)
    · rw [e]
      refine Or.inr ⟨f1, f2, by rw [hs_sn fx]; exact f3, fun c tc gc pc ne => ?_⟩
      by_cases ec : c = x
      · rw [ec]; exact Or.inr (hs_bef_tot b (Ne.symm fx))
      · rw [hs_sn ec] at pc
        exact f4 c tc gc pc ne
  · rw [hs_sn e]
    rcases h p hp with o | ⟨f1, f2, f3, f4⟩
    · exact Or.inl o
    · have fx : gF p ≠ x := fun e => hne (e ▸ f3)
      refine Or.inr ⟨f1, f2, by rw [hs_sn fx]; exact f3, fun c tc gc pc ne => ?_⟩
      by_cases ec : c = x
      · rw [ec] at gc; omega
      · rw [hs_sn ec] at pc
        exact f4 c tc gc pc ne
section
variable {st : Nat} {K A : Nat → Int32} {sz hp pl pr pc pn pb rF rI rN rU rC rX rP rD gF gC gL gR gP gD gM gO lr ll lR lp lk wn sk : Nat → Nat}
theorem h3_lvw {post : SX → Prop} {T : Nat → Prop} {rid : Nat → Nat} {x' : Int32} (x f : Nat) (lt : ∀ z, T z → z < 24) (hRS : h3_RS T rid gR gL) (tx : T x) (hf : ∀ c, T c → rid c ≠ f) (hpost : ∀ gL' gR', h3_RS T (hs_s rid x f) gR' gL' → post ((nI st), K, A, (hs_A sz), (hs_A hp), (hs_A pl), (hs_A pr), (hs_A pc), (hs_A pn), (hs_A pb), (hs_A rF), (hs_A rI), (hs_A rN), (hs_A rU), (hs_A rC), (hs_A rX), (hs_A rP), (hs_A rD), (hs_A gF), (hs_A gC), (hs_A gL'), (hs_A gR'), (hs_A gP), (hs_A gD), (hs_A gM), (hs_A gO), (hs_A lr), (hs_A ll), (hs_A lR), (hs_A lp), (hs_A lk), (hs_A wn), (hs_A sk))) (ex : x' = nI x := by rfl) : wpX_leaveRing post ((nI st), K, A, (hs_A sz), (hs_A hp), (hs_A pl), (hs_A pr), (hs_A pc), (hs_A pn), (hs_A pb), (hs_A rF), (hs_A rI), (hs_A rN), (hs_A rU), (hs_A rC), (hs_A rX), (hs_A rP), (hs_A rD), (hs_A gF), (hs_A gC), (hs_A gL), (hs_A gR), (hs_A gP), (hs_A gD), (hs_A gM), (hs_A gO), (hs_A lr), (hs_A ll), (hs_A lR), (hs_A lp), (hs_A lk), (hs_A wn), (hs_A sk)) x' := by
  subst ex
  obtain ⟨r1, r2, r3, r4, _, _⟩ := h3_right hRS tx
  have x24 := lt x tx
  have a24 := lt _ r1
  have b24 := lt _ r3
  have v : hs_s gR (gL x) (gR x) x = gR x := by
    by_cases e : x = gL x
    · rw [hs_se e]
    · rw [hs_sn e]
  unfold wpX_leaveRing
  dsimp only
  refine hs_in x (by omega) (hs_in x (by omega) (hs_wn (gL x) (gR x) (by omega) (by omega) ?_ (hs_rd x (by omega)) (hs_rd x (by omega))))
  refine hs_in x (by omega) (hs_in x (by omega) (hs_wn (gR x) (gL x) (by omega) (by omega) ?_ (by rw [hs_rd x (by omega), v]) (hs_rd x (by omega))))
  unfold wpX_alone
  dsimp only
  refine hs_w x x (by omega) (by omega) (hs_w x x (by omega) (by omega) ?_)
  exact hpost _ _ (h3_leave hRS tx hf)
theorem h3_spw {post : SX → Prop} {T : Nat → Prop} {rid : Nat → Nat} {a' b' : Int32} (a b : Nat) (lt : ∀ z, T z → z < 24) (hRS : h3_RS T rid gR gL) (ta : T a) (tb : T b) (hab : rid a ≠ rid b) (hpost : ∀ gL' gR', h3_RS T (fun c => if rid c = rid b then rid a else rid c) gR' gL' → post ((nI st), K, A, (hs_A sz), (hs_A hp), (hs_A pl), (hs_A pr), (hs_A pc), (hs_A pn), (hs_A pb), (hs_A rF), (hs_A rI), (hs_A rN), (hs_A rU), (hs_A rC), (hs_A rX), (hs_A rP), (hs_A rD), (hs_A gF), (hs_A gC), (hs_A gL'), (hs_A gR'), (hs_A gP), (hs_A gD), (hs_A gM), (hs_A gO), (hs_A lr), (hs_A ll), (hs_A lR), (hs_A lp), (hs_A lk), (hs_A wn), (hs_A sk))) (ea : a' = nI a := by rfl) (eb : b' = nI b := by rfl) : wpX_spliceRings post ((nI st), K, A, (hs_A sz), (hs_A hp), (hs_A pl), (hs_A pr), (hs_A pc), (hs_A pn), (hs_A pb), (hs_A rF), (hs_A rI), (hs_A rN), (hs_A rU), (hs_A rC), (hs_A rX), (hs_A rP), (hs_A rD), (hs_A gF), (hs_A gC), (hs_A gL), (hs_A gR), (hs_A gP), (hs_A gD), (hs_A gM), (hs_A gO), (hs_A lr), (hs_A ll), (hs_A lR), (hs_A lp), (hs_A lk), (hs_A wn), (hs_A sk)) a' b' := by
  subst ea; subst eb
  obtain ⟨r1, r2, r3, r4, _, _⟩ := h3_right hRS ta
  obtain ⟨s1, s2, s3, s4, _, _⟩ := h3_right hRS tb
  have a24 := lt a ta
  have b24 := lt b tb
  have c24 := lt _ r1
  have d24 := lt _ s3
  unfold wpX_spliceRings
  dsimp only
  refine hs_r a (by omega) (hs_r b (by omega) (hs_w a b (by omega) (by omega) (hs_w b a (by omega) (by omega) (hs_w (gL b) (gR a) (by omega) (by omega) (hs_w (gR a) (gL b) (by omega) (by omega) ?_)))))
  exact hpost _ _ (h3_splice hRS ta tb hab)
theorem h3_addRoot {post : SX → Prop} {T : Nat → Prop} {rid : Nat → Nat} {q' x' : Int32} (q x : Nat) (hq : q < 4) (lt : ∀ z, T z → z < 24) (tx : T x) (hRS : h3_RS T rid gR gL) (hx40 : rid x = 40) (h40 : ∀ c, T c → c ≠ x → rid c ≠ 40) (hro : (gF q = 24 ∧ ∀ c, T c → rid c ≠ 32 + q) ∨ (T (gF q) ∧ rid (gF q) = 32 + q)) (hpost : ∀ r gL' gR', r < 24 → h3_RS T (hs_s rid x (32 + q)) gR' gL' → ((gF q = 24 ∧ r = x) ∨ (gF q ≠ 24 ∧ ((hs_bef K x (gF q) ∧ r = x) ∨ (¬ hs_bef K x (gF q) ∧ r = gF q)))) → post ((nI st), K, A, (hs_A sz), (hs_A hp), (hs_A pl), (hs_A pr), (hs_A pc), (hs_A pn), (hs_A pb), (hs_A rF), (hs_A rI), (hs_A rN), (hs_A rU), (hs_A rC), (hs_A rX), (hs_A rP), (hs_A rD), (hs_A (hs_s gF q r)), (hs_A gC), (hs_A gL'), (hs_A gR'), (hs_A (hs_s gP x 24)), (hs_A gD), (hs_A gM), (hs_A gO), (hs_A lr), (hs_A ll), (hs_A lR), (hs_A lp), (hs_A lk), (hs_A wn), (hs_A sk))) (eq : q' = nI q := by rfl) (ex : x' = nI x := by rfl) : wpX_addRoot post ((nI st), K, A, (hs_A sz), (hs_A hp), (hs_A pl), (hs_A pr), (hs_A pc), (hs_A pn), (hs_A pb), (hs_A rF), (hs_A rI), (hs_A rN), (hs_A rU), (hs_A rC), (hs_A rX), (hs_A rP), (hs_A rD), (hs_A gF), (hs_A gC), (hs_A gL), (hs_A gR), (hs_A gP), (hs_A gD), (hs_A gM), (hs_A gO), (hs_A lr), (hs_A ll), (hs_A lR), (hs_A lp), (hs_A lk), (hs_A wn), (hs_A sk)) q' x' := by
  subst eq; subst ex
  have x24 := lt x tx
  have f24 : gF q ≤ 24 := by
    rcases hro with o | o
    · omega
    · have := lt _ o.1; omega
  unfold wpX_addRoot
  dsimp only
  refine hs_wn x 24 (by omega) (by omega) (hs_in q hq ?_)
  refine pk_eq (gF q) 24 (fun e => ?_) (fun e => ?_) (hs_rd q (by omega)) rfl
  · refine hs_w q x hq (by omega) ?_
    have ho := hro.resolve_right (fun o => by have := lt _ o.1; omega)
    refine hpost x gL gR x24 (h3_rel hRS (fun _ t => t) (fun a ta c => ?_)) (Or.inl ⟨e, rfl⟩)
    by_cases ea : a = x
    · rw [ea, hs_ss, hx40]
      by_cases ec : c = x
      · rw [ec, hs_ss, hx40]; exact ⟨fun h => ⟨h.1, rfl⟩, fun h => ⟨h.1, rfl⟩⟩
      · rw [hs_sn ec]; exact ⟨fun h => absurd h.2 (ho.2 c h.1), fun h => absurd h.2 (h40 c h.1 ec)⟩
    · rw [hs_sn ea]
      by_cases ec : c = x
      · rw [ec, hs_ss, hx40]; exact ⟨fun h => absurd h.2.symm (ho.2 a ta), fun h => absurd h.2.symm (h40 a ta ea)⟩
      · rw [hs_sn ec]
  · obtain ⟨tf, rf⟩ := hro.resolve_left (fun o => e o.1)
    have f24' := lt _ tf
    refine hs_in q hq ?_
    refine h3_spw (gF q) x lt hRS tf tx (by rw [rf, hx40]; omega) (fun gL' gR' hRS' => ?_) (hs_rd q (by omega)) rfl
    dsimp only
    have hR2 : h3_RS T (hs_s rid x (32 + q)) gR' gL' := h3_ext hRS' (fun z tz => by
      try dsimp only
      by_cases ez : z = x
      · rw [ez, hs_ss, if_pos rfl, rf]
      · rw [hs_sn ez, if_neg (by rw [hx40]; exact h40 z tz ez)])
    refine hs_in q hq ?_
    refine hs_cbb x (gF q) x24 f24' (fun hb => ?_) (fun hb => ?_) rfl (hs_rd q (by omega))
    · refine hs_w q x hq (by omega) ?_
      exact hpost x gL' gR' x24 hR2 (Or.inr ⟨e, Or.inl ⟨hb, rfl⟩⟩)
    · refine hs_in q hq (hs_wn q (gF q) hq (by omega) ?_ rfl (hs_rd q (by omega)))
      exact hpost (gF q) gL' gR' f24' hR2 (Or.inr ⟨e, Or.inr ⟨hb, rfl⟩⟩)
theorem h3_cutRing {post : SX → Prop} {K0 : Nat → Int32} {g : Nat → Nat} {T : Nat → Prop} {B : Nat → Nat} {xi : Nat} {q' x' : Int32} (q x : Nat) (hq : q < 4) (h : h3_V K0 g T hs_no B gC gP gD gM) (hRS : h3_RS T (h3_Z g gP) gR gL) (tx : T x) (u24 : gP x ≠ 24) (hB : ∀ c, c ≠ x → B c = 0) (gx : g x = q + 1) (hF' : hs_F K g T (fun c => hs_s gP x 24 c = 24) (hs_s gP x 24)) (hG : h3_G K g T gP gF xi) (hpost : ∀ gF' gC' gL' gR' gD' gM', h3_V K g T hs_no (hs_1 (gP x)) gC' (hs_s gP x 24) gD' gM' → h3_RS T (h3_Z g (hs_s gP x 24)) gR' gL' → h3_G K g T (hs_s gP x 24) gF' xi → post ((nI st), K, A, (hs_A sz), (hs_A hp), (hs_A pl), (hs_A pr), (hs_A pc), (hs_A pn), (hs_A pb), (hs_A rF), (hs_A rI), (hs_A rN), (hs_A rU), (hs_A rC), (hs_A rX), (hs_A rP), (hs_A rD), (hs_A gF'), (hs_A gC'), (hs_A gL'), (hs_A gR'), (hs_A (hs_s gP x 24)), (hs_A gD'), (hs_A gM'), (hs_A gO), (hs_A lr), (hs_A ll), (hs_A lR), (hs_A lp), (hs_A lk), (hs_A wn), (hs_A sk))) (eq : q' = nI q := by rfl) (ex : x' = nI x := by rfl) : wpX_cutRing post ((nI st), K, A, (hs_A sz), (hs_A hp), (hs_A pl), (hs_A pr), (hs_A pc), (hs_A pn), (hs_A pb), (hs_A rF), (hs_A rI), (hs_A rN), (hs_A rU), (hs_A rC), (hs_A rX), (hs_A rP), (hs_A rD), (hs_A gF), (hs_A gC), (hs_A gL), (hs_A gR), (hs_A gP), (hs_A gD), (hs_A gM), (hs_A gO), (hs_A lr), (hs_A ll), (hs_A lR), (hs_A lp), (hs_A lk), (hs_A wn), (hs_A sk)) q' x' := by
  subst eq; subst ex
  have lt := h.1.1
  have x24 := lt x tx
  obtain ⟨up24, tu, bu, gu⟩ := (h3_gP h tx).resolve_left u24
  have hGq := (hG q hq).resolve_left (fun o => o.2 x tx gx)
  have fx : gF q ≠ x := fun e => u24 (e ▸ hGq.2.2.1)
  have zx : h3_Z g gP x = gP x := by unfold h3_Z; rw [if_neg u24]
  obtain ⟨r1, r2, r3, r4, _, r6⟩ := h3_right hRS tx
  have rz : ∀ c, T c → h3_Z g gP c = gP x → gP c = gP x := by
    intro c tc e
    unfold h3_Z at e
    by_cases e' : gP c = 24
    · rw [if_pos e'] at e; omega
    · rwa [if_neg e'] at e
  have cc := h3_chc h tu id
  have d24 := h3_deg24 h tu id
  have dpos : 1 ≤ gD (gP x) := by
    obtain ⟨lo, l1, l2, l3, l4⟩ := h.2.2.2.2 _ tu id
    have := List.length_pos_of_mem ((l2 x).2 ⟨tx, rfl⟩)
    omega
  have fin : ∀ gC', ((gC' (gP x) = 24 ∧ ∀ c, T c → c ≠ x → gP c ≠ gP x) ∨ (T (gC' (gP x)) ∧ gP (gC' (gP x)) = gP x ∧ gC' (gP x) ≠ x)) → (∀ z, z ≠ gP x → gC' z = gC z) → wX_cutRing_44 post (nI q) (nI x) (nI (gP x)) (nI st) K A (hs_A sz) (hs_A hp) (hs_A pl) (hs_A pr) (hs_A pc) (hs_A pn) (hs_A pb) (hs_A rF) (hs_A rI) (hs_A rN) (hs_A rU) (hs_A rC) (hs_A rX) (hs_A rP) (hs_A rD) (hs_A gF) (hs_A gC') (hs_A gL) (hs_A gR) (hs_A gP) (hs_A gD) (hs_A gM) (hs_A gO) (hs_A lr) (hs_A ll) (hs_A lR) (hs_A lp) (hs_A lk) (hs_A wn) (hs_A sk) := by
    intro gC' hC' hCo
    unfold wX_cutRing_44
    have ed : nI (gD (gP x)) - 1 = nI (gD (gP x) - 1) := by
      obtain ⟨j, hj⟩ : ∃ j, gD (gP x) = j + 1 := ⟨gD (gP x) - 1, by omega⟩
      rw [hj, nI_pred]; rfl
    refine hs_in (gP x) (by omega) (hs_w (gP x) (gD (gP x) - 1) (by omega) (by omega) ?_ rfl (by rw [hs_rd (gP x) (by omega)]; exact ed))
    refine h3_lvw x 40 lt hRS tx (fun c tc => by have := h3_Z_40 h tc; omega) (fun gL' gR' hRS' => ?_)
    dsimp only
    refine hs_wz x 0 (by omega) (by omega) ?_
    refine h3_addRoot q x hq lt tx hRS' hs_ss (fun c tc ne => by rw [hs_sn ne]; have := h3_Z_40 h tc; omega) (Or.inr ⟨hGq.1, ?_⟩) (fun r gL2 gR2 r24 hRS2 hr => ?_)
    · rw [hs_sn fx]; unfold h3_Z; rw [if_pos hGq.2.2.1, hGq.2.1]; omega
    · dsimp only
      have hr' : (hs_bef K x (gF q) ∧ r = x) ∨ (¬ hs_bef K x (gF q) ∧ r = gF q) := by
        rcases hr with o | o
        · have := lt _ hGq.1; omega
        · exact o.2
      rw [h0_s2] at hRS2
      refine hpost _ _ gL2 gR2 _ _ (h3_Vcut h tx rfl u24 id hB hC' hCo hF') (h3_ext hRS2 (fun z tz => ?_)) (h3_G_add hG tx gx hq u24 hr')
      by_cases ez : z = x
      · rw [ez, hs_ss]; unfold h3_Z; rw [hs_ss, if_pos rfl, gx]; omega
      · rw [hs_sn ez]; unfold h3_Z; rw [hs_sn ez]
  unfold wpX_cutRing
  dsimp only
  refine hs_r x (by omega) (hs_in (gP x) (by omega) ?_)
  refine pk_eq (gC (gP x)) x (fun e => ?_) (fun e => ?_) (hs_rd (gP x) (by omega)) rfl
  · refine hs_in x (by omega) ?_
    have r24 := lt _ r1
    refine pk_eq (gR x) x (fun e2 => ?_) (fun e2 => ?_) (hs_rd x (by omega)) rfl
    · unfold wX_cutRing_43
      refine hs_wn (gP x) 24 (by omega) (by omega) (fin _ (Or.inl ⟨hs_ss, fun c tc ne ec => ne ?_⟩) (fun z hz => hs_sn hz))
      refine r6 e2 c tc ?_
      rw [zx]; unfold h3_Z; rw [if_neg (by omega)]; exact ec
    · refine hs_in x (by omega) ?_
      unfold wX_cutRing_43
      refine hs_wn (gP x) (gR x) (by omega) (by omega) (fin _ (Or.inr ?_) (fun z hz => hs_sn hz)) rfl (hs_rd x (by omega))
      rw [hs_ss]
      exact ⟨r1, rz _ r1 (r2.trans zx), e2⟩
  · refine fin gC (Or.inr ?_) (fun _ _ => rfl)
    have := (h.2.2.1 _ tu id).resolve_left (fun o => o.2 x tx rfl)
    exact ⟨this.1, this.2, e⟩
theorem h3_cutUpL {post : SX → Prop} {g : Nat → Nat} {T : Nat → Prop} {xi q : Nat} {gP0 : Nat → Nat} (hq : q < 4) (hpost : ∀ gF' gC' gL' gR' gP' gD' gM', h3_V K g T hs_no hs_0 gC' gP' gD' gM' → h3_RS T (h3_Z g gP') gR' gL' → h3_G K g T gP' gF' xi → (∀ z, gP0 z = 24 → gP' z = 24) → post ((nI st), K, A, (hs_A sz), (hs_A hp), (hs_A pl), (hs_A pr), (hs_A pc), (hs_A pn), (hs_A pb), (hs_A rF), (hs_A rI), (hs_A rN), (hs_A rU), (hs_A rC), (hs_A rX), (hs_A rP), (hs_A rD), (hs_A gF'), (hs_A gC'), (hs_A gL'), (hs_A gR'), (hs_A gP'), (hs_A gD'), (hs_A gM'), (hs_A gO), (hs_A lr), (hs_A ll), (hs_A lR), (hs_A lp), (hs_A lk), (hs_A wn), (hs_A sk))) : ∀ (n x : Nat) (gF gC gL gR gP gD gM : Nat → Nat), hs_rk K x < n → T x → g x = q + 1 → h3_V K g T hs_no (hs_1 x) gC gP gD gM → h3_RS T (h3_Z g gP) gR gL → h3_G K g T gP gF xi → (∀ z, gP0 z = 24 → gP z = 24) → wX_cutUp_2 post (nI q) n (nI x) (nI st) K A (hs_A sz) (hs_A hp) (hs_A pl) (hs_A pr) (hs_A pc) (hs_A pn) (hs_A pb) (hs_A rF) (hs_A rI) (hs_A rN) (hs_A rU) (hs_A rC) (hs_A rX) (hs_A rP) (hs_A rD) (hs_A gF) (hs_A gC) (hs_A gL) (hs_A gR) (hs_A gP) (hs_A gD) (hs_A gM) (hs_A gO) (hs_A lr) (hs_A ll) (hs_A lR) (hs_A lp) (hs_A lk) (hs_A wn) (hs_A sk) := by
  intro n
  induction n with
  | zero => intro x gF gC gL gR gP gD gM h; omega
  | succ n ih =>
    intro x gF gC gL gR gP gD gM hn tx gx hV hRS hG hP
    have lt := hV.1.1
    have x24 := lt x tx
    have gp := h3_gP hV tx
    have gm := hV.2.2.2.1 x tx
    have fin : (gP x = 24 ∨ gM x = 0) → wX_cutUp_42 post (nI x) (nI st) K A (hs_A sz) (hs_A hp) (hs_A pl) (hs_A pr) (hs_A pc) (hs_A pn) (hs_A pb) (hs_A rF) (hs_A rI) (hs_A rN) (hs_A rU) (hs_A rC) (hs_A rX) (hs_A rP) (hs_A rD) (hs_A gF) (hs_A gC) (hs_A gL) (hs_A gR) (hs_A gP) (hs_A gD) (hs_A gM) (hs_A gO) (hs_A lr) (hs_A ll) (hs_A lR) (hs_A lp) (hs_A lk) (hs_A wn) (hs_A sk) := by
      intro ho
      unfold wX_cutUp_42
      refine hs_in x (by omega) ?_
      refine pk_eq (gP x) 24 (fun e => ?_) (fun e => ?_) (hs_rd x (by omega)) rfl
      · exact hs_wz x 0 (by omega) (by omega) (hpost _ _ _ _ _ _ _ (h3_Vmark hV tx (Or.inl ⟨e, rfl⟩)) hRS hG hP)
      · exact hs_wz x 1 (by omega) (by omega) (hpost _ _ _ _ _ _ _ (h3_Vmark hV tx (Or.inr ⟨ho.resolve_left e, rfl⟩)) hRS hG hP)
    rw [wX_cutUp_2]
    refine hs_in x (by omega) ?_
    refine pk_eq (gP x) 24 (fun e => fin (Or.inl e)) (fun e => ?_) (hs_rd x (by omega)) rfl
    refine hs_in x (by omega) ?_
    refine pk_eq (gM x) 0 (fun e2 => fin (Or.inr e2)) (fun e2 => ?_) (hs_rd x (by omega)) rfl
    refine hs_r x (by omega) ?_
    obtain ⟨p24, tp, bp, gpp⟩ := gp.resolve_left e
    have lt2 := hs_rk_lt bp p24
    have hF' : hs_F K g T (fun c => hs_s gP x 24 c = 24) (hs_s gP x 24) := by
      refine ⟨lt, fun c tc nc => ?_⟩
      dsimp only at nc
      by_cases ec : c = x
      · rw [ec, hs_ss] at nc; exact absurd rfl nc
      · rw [hs_sn ec] at nc ⊢; exact hV.1.2 c tc nc
    refine h3_cutRing q x hq hV hRS tx e (fun c hc => by unfold hs_1; rw [if_neg hc]) gx hF' hG (fun gF' gC' gL' gR' gD' gM' hV' hRS' hG' => ?_)
    dsimp only
    refine ih (gP x) gF' gC' gL' gR' _ gD' gM' (by omega) tp (gpp.trans gx) hV' hRS' hG' (fun z hz => ?_)
    by_cases ez : z = x
    · rw [ez, hs_ss]
    · rw [hs_sn ez]; exact hP z hz
end
end
section
/-! engine 3: add, lower, join -/
def h3_I (K : Nat → Int32) (Q gF gC gL gR gP gD gM : Nat → Nat) : Prop :=
  h3_V K Q (hs_T Q) hs_no hs_0 gC gP gD gM ∧ h3_RS (hs_T Q) (h3_Z Q gP) gR gL ∧ h3_G K Q (hs_T Q) gP gF 24
theorem h3_first {K : Nat → Int32} {Q gF gC gL gR gP gD gM : Nat → Nat} (h : h3_I K Q gF gC gL gR gP gD gM) {q : Nat} (hq : q < 4) : hs_min K Q q (gF q) := by
  obtain ⟨hV, hRS, hG⟩ := h
  rcases hG q hq with ⟨o1, o2⟩ | ⟨f1, f2, f3, f4⟩
  · exact Or.inl ⟨o1, fun x hx e => o2 x ⟨hx, by omega⟩ e⟩
  · refine Or.inr ⟨f1.1, f2, fun x hx e ne => ?_⟩
    obtain ⟨y, ty, ry, gy, o⟩ := hs_F_root hV.1 (hs_rk K x) x (Nat.le_refl _) ⟨hx, by omega⟩
    rcases f4 y ty (gy.trans e) ry (by have := ty.1; omega) with o' | o'
    · rw [o'] at o
      rcases o with o | o
      · exact absurd o.symm ne
      · exact o
    · rcases o with o | o
      · rw [o] at o'; exact o'
      · exact hs_bef_tr o' o
theorem h3_V_cg {K K' : Nat → Int32} {g g' : Nat → Nat} {T X : Nat → Prop} {B gC gP gD gM : Nat → Nat} (h : h3_V K g T X B gC gP gD gM) (hF : hs_F K' g' T (fun c => gP c = 24) gP) (hg : ∀ z, T z → 1 ≤ g' z ∧ g' z ≤ 4) : h3_V K' g' T X B gC gP gD gM :=
  ⟨hF, hg, h.2.2⟩
theorem h3_I_K {K K' : Nat → Int32} {Q gF gC gL gR gP gD gM : Nat → Nat} (h : h3_I K Q gF gC gL gR gP gD gM) (hK : ∀ j, hs_T Q j → K' j = K j) : h3_I K' Q gF gC gL gR gP gD gM := by
  obtain ⟨hV, hRS, hG⟩ := h
  refine ⟨h3_V_cg hV ⟨hV.1.1, fun c tc nc => ?_⟩ hV.2.1, hRS, fun q hq => ?_⟩
  · obtain ⟨a, b, d⟩ := hV.1.2 c tc nc
    refine ⟨a, ?_, d⟩
    unfold hs_bef at *
    rw [hK _ a, hK _ tc]; exact b
  · refine (hG q hq).imp id (fun ⟨f1, f2, f3, f4⟩ => ⟨f1, f2, f3, fun c tc gc pc ne => (f4 c tc gc pc ne).imp id (fun b => ?_)⟩)
    unfold hs_bef at *
    rw [hK _ f1, hK _ tc]; exact b
/-- at the end of lowering: x against the first -/
theorem h3_G_end {K : Nat → Int32} {g : Nat → Nat} {T X : Nat → Prop} {B gC gP gD gM gF : Nat → Nat} {q x r : Nat} (hV : h3_V K g T X B gC gP gD gM) (hG : h3_G K g T gP gF x) (tx : T x) (gx : g x = q + 1) (hq : q < 4) (hr : (hs_bef K x (gF q) ∧ r = x) ∨ (¬ hs_bef K x (gF q) ∧ r = gF q)) : h3_G K g T gP (hs_s gF q r) 24 := by
  intro p hp
  have lt := hV.1.1
  by_cases e : p = q
  · subst e
    rw [hs_ss]
    obtain ⟨f1, f2, f3, f4⟩ := (hG p hp).resolve_left (fun o => o.2 x tx gx)
    rcases hr with ⟨b, e⟩ | ⟨b, e⟩
    · rw [e]
      have rx : gP x = 24 := by
        obtain ⟨y, ty, ry, gy, o⟩ := hs_F_root hV.1 (hs_rk K x) x (Nat.le_refl _) tx
        try dsimp only at ry
        by_cases yx : y = x
        · rw [← yx]; exact ry
        · have o' := o.resolve_left yx
          rcases f4 y ty (gy.trans gx) ry yx with h | h
          · rw [h] at o'; exact absurd o' (hs_bef_as b)
          · exact absurd (hs_bef_tr h o') (hs_bef_as b)
      refine Or.inr ⟨tx, gx, rx, fun c tc gc pc _ => ?_⟩
      by_cases ec : c = x
      · exact Or.inl ec
      · rcases f4 c tc gc pc ec with h | h
        · rw [h]; exact Or.inr b
        · exact Or.inr (hs_bef_tr b h)
    · rw [e]
      refine Or.inr ⟨f1, f2, f3, fun c tc gc pc _ => ?_⟩
      by_cases ec : c = x
      · rw [ec]
        by_cases ef : x = gF p
        · exact Or.inl ef
        · exact Or.inr (hs_bef_tot b ef)
      · exact f4 c tc gc pc ec
  · rw [hs_sn e]
    refine (hG p hp).imp id (fun ⟨f1, f2, f3, f4⟩ => ⟨f1, f2, f3, fun c tc gc pc _ => f4 c tc gc pc (fun ec => ?_)⟩)
    rw [ec] at gc; omega
section
variable {st : Nat} {K A : Nat → Int32} {sz hp pl pr pc pn pb rF rI rN rU rC rX rP rD gF gC gL gR gP gD gM gO lr ll lR lp lk wn sk : Nat → Nat}
theorem h3_add {post : SX → Prop} {Q : Nat → Nat} {q' x' : Int32} (q x : Nat) (hq : q < 4) (hx : x < 24) (hI : h3_I K Q gF gC gL gR gP gD gM) (hQx : Q x = 0) (hpost : ∀ gF' gC' gL' gR' gP' gD' gM', h3_I K (hs_s Q x (q + 1)) gF' gC' gL' gR' gP' gD' gM' → post ((nI st), K, A, (hs_A sz), (hs_A hp), (hs_A pl), (hs_A pr), (hs_A pc), (hs_A pn), (hs_A pb), (hs_A rF), (hs_A rI), (hs_A rN), (hs_A rU), (hs_A rC), (hs_A rX), (hs_A rP), (hs_A rD), (hs_A gF'), (hs_A gC'), (hs_A gL'), (hs_A gR'), (hs_A gP'), (hs_A gD'), (hs_A gM'), (hs_A gO), (hs_A lr), (hs_A ll), (hs_A lR), (hs_A lp), (hs_A lk), (hs_A wn), (hs_A sk))) (eq : q' = nI q := by rfl) (ex : x' = nI x := by rfl) : wpX_addToRing post ((nI st), K, A, (hs_A sz), (hs_A hp), (hs_A pl), (hs_A pr), (hs_A pc), (hs_A pn), (hs_A pb), (hs_A rF), (hs_A rI), (hs_A rN), (hs_A rU), (hs_A rC), (hs_A rX), (hs_A rP), (hs_A rD), (hs_A gF), (hs_A gC), (hs_A gL), (hs_A gR), (hs_A gP), (hs_A gD), (hs_A gM), (hs_A gO), (hs_A lr), (hs_A ll), (hs_A lR), (hs_A lp), (hs_A lk), (hs_A wn), (hs_A sk)) q' x' := by
  subst eq; subst ex
  obtain ⟨hV, hRS, hG⟩ := hI
  have ntx : ¬ hs_T Q x := fun h => h.2 hQx
  have sQ : ∀ z, hs_T Q z → z ≠ x ∧ hs_s Q x (q + 1) z = Q z := fun z tz => by
    have zx : z ≠ x := fun e => ntx (e ▸ tz)
    exact ⟨zx, hs_sn zx⟩
  have hV1 : h3_V K (hs_s Q x (q + 1)) (hs_T Q) hs_no hs_0 gC gP gD gM := h3_V_cg hV ⟨hV.1.1, fun c tc nc => by
    obtain ⟨a, b, d⟩ := hV.1.2 c tc nc
    exact ⟨a, b, by rw [(sQ _ a).2, (sQ _ tc).2]; exact d⟩⟩ (fun z tz => by rw [(sQ z tz).2]; exact hV.2.1 z tz)
  have hV2 := h3_Vnew hV1 ntx hx (by rw [hs_ss]; omega)
  have hRS1 := h3_alone (f := 40) hRS ntx (fun c tc => by have := h3_Z_40 hV tc; omega)
  rw [hs_T_add (q := q) hx] at hV2 hRS1
  have lt : ∀ z, hs_T (hs_s Q x (q + 1)) z → z < 24 := fun z tz => tz.1
  have tx : hs_T (hs_s Q x (q + 1)) x := ⟨hx, by rw [hs_ss]; omega⟩
  have sp : ∀ z, hs_T (hs_s Q x (q + 1)) z → z ≠ x → hs_T Q z := fun z tz e => by
    have := tz.2
    rw [hs_sn e] at this
    exact ⟨tz.1, this⟩
  have mk : ∀ z, hs_T Q z → hs_T (hs_s Q x (q + 1)) z := fun z tz => ⟨tz.1, by rw [(sQ z tz).2]; exact tz.2⟩
  unfold wpX_addToRing
  dsimp only
  refine hs_wn x 24 (by omega) (by omega) (hs_wn x 0 (by omega) (by omega) (hs_wz x 0 (by omega) (by omega) ?_))
  unfold wpX_alone
  dsimp only
  refine hs_w x x (by omega) (by omega) (hs_w x x (by omega) (by omega) ?_)
  refine h3_addRoot q x hq lt tx hRS1 hs_ss (fun c tc ne => by rw [hs_sn ne]; have := h3_Z_40 hV (sp c tc ne); omega) ?_ (fun r gL' gR' r24 hRS2 hr => ?_)
  · rcases hG q hq with ⟨o1, o2⟩ | ⟨f1, f2, f3, f4⟩
    · refine Or.inl ⟨o1, fun c tc e => ?_⟩
      by_cases ec : c = x
      · rw [ec, hs_ss] at e; omega
      · rw [hs_sn ec] at e
        have tc' := sp c tc ec
        unfold h3_Z at e
        have gpc := h3_gP hV tc'
        by_cases e' : gP c = 24
        · rw [if_pos e'] at e
          exact o2 c tc' (by omega)
        · rw [if_neg e'] at e; omega
    · refine Or.inr ⟨mk _ f1, ?_⟩
      rw [hs_sn (sQ _ f1).1]; unfold h3_Z; rw [if_pos f3, f2]; omega
  · dsimp only
    rw [h0_s2] at hRS2
    refine hpost _ _ _ _ _ _ _ ⟨hV2, h3_ext hRS2 (fun z tz => ?_), fun p hp => ?_⟩
    · by_cases ez : z = x
      · rw [ez, hs_ss]; unfold h3_Z; rw [hs_ss, hs_ss, if_pos rfl]; omega
      · rw [hs_sn ez]; unfold h3_Z; rw [hs_sn ez, hs_sn ez]
    · by_cases ep : p = q
      · subst ep
        rw [hs_ss]
        have rest : ∀ c, hs_T (hs_s Q x (p + 1)) c → c ≠ x → hs_s Q x (p + 1) c = p + 1 → hs_s gP x 24 c = 24 → hs_T Q c ∧ Q c = p + 1 ∧ gP c = 24 := by
          intro c tc ec gc pc
          rw [hs_sn ec] at gc pc
          exact ⟨sp c tc ec, gc, pc⟩
        rcases hG p hp with ⟨o1, o2⟩ | ⟨f1, f2, f3, f4⟩
        · have er : r = x := by
            rcases hr with h | h
            · exact h.2
            · exact absurd o1 h.1
          rw [er]
          refine Or.inr ⟨tx, hs_ss, hs_ss, fun c tc gc pc _ => ?_⟩
          by_cases ec : c = x
          · exact Or.inl ec
          · obtain ⟨a, b, _⟩ := rest c tc ec gc pc
            exact absurd b (o2 c a)
        · have fl := f1.1
          have fx := (sQ _ f1).1
          rcases hr with h | ⟨_, ⟨b, er⟩ | ⟨b, er⟩⟩
          · omega
          · rw [er]
            refine Or.inr ⟨tx, hs_ss, hs_ss, fun c tc gc pc _ => ?_⟩
            by_cases ec : c = x
            · exact Or.inl ec
            · obtain ⟨a1, a2, a3⟩ := rest c tc ec gc pc
              rcases f4 c a1 a2 a3 (by have := a1.1; omega) with o | o
              · rw [o]; exact Or.inr b
              · exact Or.inr (hs_bef_tr b o)
          · rw [er]
            refine Or.inr ⟨mk _ f1, by rw [hs_sn fx]; exact f2, by rw [hs_sn fx]; exact f3, fun c tc gc pc _ => ?_⟩
            by_cases ec : c = x
            · rw [ec]; exact Or.inr (hs_bef_tot b (Ne.symm fx))
            · obtain ⟨a1, a2, a3⟩ := rest c tc ec gc pc
              exact f4 c a1 a2 a3 (by have := a1.1; omega)
      · rw [hs_sn ep]
        rcases hG p hp with ⟨o1, o2⟩ | ⟨f1, f2, f3, f4⟩
        · refine Or.inl ⟨o1, fun c tc => ?_⟩
          by_cases ec : c = x
          · rw [ec, hs_ss]; omega
          · rw [hs_sn ec]; exact o2 c (sp c tc ec)
        · have fx := (sQ _ f1).1
          refine Or.inr ⟨mk _ f1, by rw [hs_sn fx]; exact f2, by rw [hs_sn fx]; exact f3, fun c tc gc pc _ => ?_⟩
          by_cases ec : c = x
          · rw [ec, hs_ss] at gc; omega
          · rw [hs_sn ec] at gc pc
            exact f4 c (sp c tc ec) gc pc (by have := tc.1; omega)
theorem h3_low {post : SX → Prop} {Q : Nat → Nat} {K0 : Nat → Int32} {q' x' : Int32} (q x : Nat) (hq : q < 4) (hx : x < 24) (hI : h3_I K0 Q gF gC gL gR gP gD gM) (hQx : Q x = q + 1) (hK : ∀ j, j ≠ x → K j = K0 j) (hl : K x ≤ K0 x) (hpost : ∀ gF' gC' gL' gR' gP' gD' gM', h3_I K Q gF' gC' gL' gR' gP' gD' gM' → post ((nI st), K, A, (hs_A sz), (hs_A hp), (hs_A pl), (hs_A pr), (hs_A pc), (hs_A pn), (hs_A pb), (hs_A rF), (hs_A rI), (hs_A rN), (hs_A rU), (hs_A rC), (hs_A rX), (hs_A rP), (hs_A rD), (hs_A gF'), (hs_A gC'), (hs_A gL'), (hs_A gR'), (hs_A gP'), (hs_A gD'), (hs_A gM'), (hs_A gO), (hs_A lr), (hs_A ll), (hs_A lR), (hs_A lp), (hs_A lk), (hs_A wn), (hs_A sk))) (eq : q' = nI q := by rfl) (ex : x' = nI x := by rfl) : wpX_lowerInRing post ((nI st), K, A, (hs_A sz), (hs_A hp), (hs_A pl), (hs_A pr), (hs_A pc), (hs_A pn), (hs_A pb), (hs_A rF), (hs_A rI), (hs_A rN), (hs_A rU), (hs_A rC), (hs_A rX), (hs_A rP), (hs_A rD), (hs_A gF), (hs_A gC), (hs_A gL), (hs_A gR), (hs_A gP), (hs_A gD), (hs_A gM), (hs_A gO), (hs_A lr), (hs_A ll), (hs_A lR), (hs_A lp), (hs_A lk), (hs_A wn), (hs_A sk)) q' x' := by
  subst eq; subst ex
  obtain ⟨hV, hRS, hG0⟩ := hI
  have tx : hs_T Q x := ⟨hx, by omega⟩
  have lt := hV.1.1
  have hG : h3_G K Q (hs_T Q) gP gF x := by
    intro p hp
    refine (hG0 p hp).imp id (fun ⟨f1, f2, f3, f4⟩ => ⟨f1, f2, f3, fun c tc gc pc ne => (f4 c tc gc pc (by have := tc.1; omega)).imp id (fun b => hs_bef_low hK hl ne b)⟩)
  have fin : ∀ gF gC gL gR gP gD gM, h3_V K Q (hs_T Q) hs_no hs_0 gC gP gD gM → h3_RS (hs_T Q) (h3_Z Q gP) gR gL → h3_G K Q (hs_T Q) gP gF x → wX_lowerInRing_34 post (nI q) (nI x) (nI st) K A (hs_A sz) (hs_A hp) (hs_A pl) (hs_A pr) (hs_A pc) (hs_A pn) (hs_A pb) (hs_A rF) (hs_A rI) (hs_A rN) (hs_A rU) (hs_A rC) (hs_A rX) (hs_A rP) (hs_A rD) (hs_A gF) (hs_A gC) (hs_A gL) (hs_A gR) (hs_A gP) (hs_A gD) (hs_A gM) (hs_A gO) (hs_A lr) (hs_A ll) (hs_A lR) (hs_A lp) (hs_A lk) (hs_A wn) (hs_A sk) := by
    intro gF gC gL gR gP gD gM hV hRS hG
    have f1 := ((hG q hq).resolve_left (fun o => o.2 x tx hQx)).1.1
    unfold wX_lowerInRing_34
    refine hs_in q hq ?_
    refine hs_cbb x (gF q) hx f1 (fun hb => ?_) (fun hb => ?_) rfl (hs_rd q (by omega))
    · refine hs_w q x hq (by omega) ?_
      exact hpost _ _ _ _ _ _ _ ⟨hV, hRS, h3_G_end hV hG tx hQx hq (Or.inl ⟨hb, rfl⟩)⟩
    · refine hs_in q hq (hs_wn q (gF q) hq (by omega) ?_ rfl (hs_rd q (by omega)))
      exact hpost _ _ _ _ _ _ _ ⟨hV, hRS, h3_G_end hV hG tx hQx hq (Or.inr ⟨hb, rfl⟩)⟩
  unfold wpX_lowerInRing
  dsimp only
  refine hs_r x (by omega) ?_
  have hFx : gP x = 24 ∨ hs_bef K (gP x) x → hs_F K Q (hs_T Q) (fun c => gP c = 24) gP := by
    intro ho
    refine ⟨lt, fun c tc nc => ?_⟩
    obtain ⟨a, b, d⟩ := hV.1.2 c tc nc
    refine ⟨a, ?_, d⟩
    by_cases ec : c = x
    · rw [ec] at nc ⊢; exact ho.resolve_left nc
    · exact hs_bef_low hK hl ec b
  have gp := h3_gP hV tx
  refine pk_eq (gP x) 24 (fun e => ?_) (fun e => ?_)
  · exact fin gF gC gL gR gP gD gM (h3_V_cg hV (hFx (Or.inl e)) hV.2.1) hRS hG
  · obtain ⟨p24, tp, bp, gpp⟩ := gp.resolve_left e
    refine hs_cbb x (gP x) hx p24 (fun hb => ?_) (fun hb => ?_)
    · have hF' : hs_F K Q (hs_T Q) (fun c => hs_s gP x 24 c = 24) (hs_s gP x 24) := by
        refine ⟨lt, fun c tc nc => ?_⟩
        dsimp only at nc
        by_cases ec : c = x
        · rw [ec, hs_ss] at nc; exact absurd rfl nc
        · rw [hs_sn ec] at nc ⊢
          obtain ⟨a, b, d⟩ := hV.1.2 c tc nc
          exact ⟨a, hs_bef_low hK hl ec b, d⟩
      refine h3_cutRing q x hq hV hRS tx e (fun _ _ => rfl) hQx hF' hG (fun gF' gC' gL' gR' gD' gM' hV' hRS' hG' => ?_)
      dsimp only
      unfold wpX_cutUp
      dsimp only
      refine ⟨_, h3_cutUpL (gP0 := hs_s gP x 24) (xi := x) hq (fun gF2 gC2 gL2 gR2 gP2 gD2 gM2 hV2 hRS2 hG2 _ => ?_) (hs_rk K (gP x) + 1) (gP x) gF' gC' gL' gR' _ gD' gM' (Nat.lt_succ_self _) tp (gpp.trans hQx) hV' hRS' hG' (fun _ h => h)⟩
      dsimp only
      exact fin gF2 gC2 gL2 gR2 gP2 gD2 gM2 hV2 hRS2 hG2
    · exact fin gF gC gL gR gP gD gM (h3_V_cg hV (hFx (Or.inr (hs_bef_tot hb (Ne.symm (hs_bef_ne bp))))) hV.2.1) hRS hG
theorem h3_join {post : SX → Prop} {Q : Nat → Nat} {a' b' : Int32} (a b : Nat) (ha : a < 4) (hb : b < 4) (hab : a ≠ b) (hI : h3_I K Q gF gC gL gR gP gD gM) (hpost : ∀ gF' gL' gR', h3_I K (hs_jQ Q a b) gF' gC gL' gR' gP gD gM → post ((nI st), K, A, (hs_A sz), (hs_A hp), (hs_A pl), (hs_A pr), (hs_A pc), (hs_A pn), (hs_A pb), (hs_A rF), (hs_A rI), (hs_A rN), (hs_A rU), (hs_A rC), (hs_A rX), (hs_A rP), (hs_A rD), (hs_A gF'), (hs_A gC), (hs_A gL'), (hs_A gR'), (hs_A gP), (hs_A gD), (hs_A gM), (hs_A gO), (hs_A lr), (hs_A ll), (hs_A lR), (hs_A lp), (hs_A lk), (hs_A wn), (hs_A sk))) (ea : a' = nI a := by rfl) (eb : b' = nI b := by rfl) : wpX_joinRings post ((nI st), K, A, (hs_A sz), (hs_A hp), (hs_A pl), (hs_A pr), (hs_A pc), (hs_A pn), (hs_A pb), (hs_A rF), (hs_A rI), (hs_A rN), (hs_A rU), (hs_A rC), (hs_A rX), (hs_A rP), (hs_A rD), (hs_A gF), (hs_A gC), (hs_A gL), (hs_A gR), (hs_A gP), (hs_A gD), (hs_A gM), (hs_A gO), (hs_A lr), (hs_A ll), (hs_A lR), (hs_A lp), (hs_A lk), (hs_A wn), (hs_A sk)) a' b' := by
  subst ea; subst eb
  obtain ⟨hV, hRS, hG⟩ := hI
  have hT : hs_T Q = hs_T (hs_jQ Q a b) := by
    funext z; apply propext; unfold hs_T hs_jQ
    by_cases e : Q z = b + 1
    · rw [if_pos e]; exact ⟨fun h => ⟨h.1, by omega⟩, fun h => ⟨h.1, by omega⟩⟩
    · rw [if_neg e]
  have lt := hV.1.1
  have jb : ∀ z, Q z = b + 1 → hs_jQ Q a b z = a + 1 := fun z e => by unfold hs_jQ; rw [if_pos e]
  have jn : ∀ z, Q z ≠ b + 1 → hs_jQ Q a b z = Q z := fun z e => by unfold hs_jQ; rw [if_neg e]
  have hV1 : h3_V K (hs_jQ Q a b) (hs_T Q) hs_no hs_0 gC gP gD gM := h3_V_cg hV ⟨hV.1.1, fun c tc nc => by
    obtain ⟨p, q, d⟩ := hV.1.2 c tc nc
    exact ⟨p, q, by unfold hs_jQ; rw [d]⟩⟩ (fun z tz => by
      have := hV.2.1 z tz
      by_cases e : Q z = b + 1
      · rw [jb z e]; omega
      · rw [jn z e]; exact this)
  have ga := hG a ha
  have gb := hG b hb
  have fa24 : gF a ≤ 24 := by
    rcases ga with o | o
    · omega
    · have := o.1.1; omega
  have fb24 : gF b ≤ 24 := by
    rcases gb with o | o
    · omega
    · have := o.1.1; omega
  -- the new first, whatever the rings are
  have fin : ∀ r gL' gR', r ≤ 24 → h3_RS (hs_T Q) (h3_Z (hs_jQ Q a b) gP) gR' gL' → ((gF a = 24 ∧ r = gF b) ∨ (gF a ≠ 24 ∧ gF b = 24 ∧ r = gF a) ∨ (gF a ≠ 24 ∧ gF b ≠ 24 ∧ ((hs_bef K (gF b) (gF a) ∧ r = gF b) ∨ (¬ hs_bef K (gF b) (gF a) ∧ r = gF a)))) → wX_joinRings_64 post (nI a) (nI b) (nI r) (nI st) K A (hs_A sz) (hs_A hp) (hs_A pl) (hs_A pr) (hs_A pc) (hs_A pn) (hs_A pb) (hs_A rF) (hs_A rI) (hs_A rN) (hs_A rU) (hs_A rC) (hs_A rX) (hs_A rP) (hs_A rD) (hs_A gF) (hs_A gC) (hs_A gL') (hs_A gR') (hs_A gP) (hs_A gD) (hs_A gM) (hs_A gO) (hs_A lr) (hs_A ll) (hs_A lR) (hs_A lp) (hs_A lk) (hs_A wn) (hs_A sk) := by
    intro r gL' gR' r24 hRS' hr
    unfold wX_joinRings_64
    refine hs_w a r ha (by omega) (hs_wn b 24 hb (by omega) ?_)
    refine hpost _ _ _ ⟨by rw [← hT]; exact hV1, by rw [← hT]; exact hRS', ?_⟩
    rw [← hT]
    intro p hp
    by_cases eb : p = b
    · rw [hs_se eb]
      refine Or.inl ⟨rfl, fun c tc => ?_⟩
      by_cases e : Q c = b + 1
      · rw [jb c e]; omega
      · rw [jn c e]; omega
    · rw [hs_sn eb]
      by_cases ea : p = a
      · subst ea
        rw [hs_ss]
        have cs : ∀ c, hs_T Q c → hs_jQ Q p b c = p + 1 → Q c = p + 1 ∨ Q c = b + 1 := by
          intro c tc e
          by_cases e' : Q c = b + 1
          · exact Or.inr e'
          · rw [jn c e'] at e; exact Or.inl e
        rcases ga with ⟨a1, a2⟩ | ⟨a1, a2, a3, a4⟩
        · have er : r = gF b := by
            rcases hr with o | o | o
            · exact o.2
            · exact absurd a1 o.1
            · exact absurd a1 o.1
          rw [er]
          rcases gb with ⟨b1, b2⟩ | ⟨b1, b2, b3, b4⟩
          · exact Or.inl ⟨b1, fun c tc e => (cs c tc e).elim (a2 c tc) (b2 c tc)⟩
          · refine Or.inr ⟨b1, jb _ b2, b3, fun c tc gc pc ne => ?_⟩
            exact b4 c tc ((cs c tc gc).resolve_left (a2 c tc)) pc ne
        · have al := a1.1
          rcases gb with ⟨b1, b2⟩ | ⟨b1, b2, b3, b4⟩
          · have er : r = gF p := by
              rcases hr with o | o | o
              · omega
              · exact o.2.2
              · exact absurd b1 o.2.1
            rw [er]
            refine Or.inr ⟨a1, by rw [jn _ (by omega)]; exact a2, a3, fun c tc gc pc ne => ?_⟩
            exact a4 c tc ((cs c tc gc).resolve_right (b2 c tc)) pc ne
          · have bl := b1.1
            rcases hr with o | o | ⟨_, _, ⟨bb, er⟩ | ⟨bb, er⟩⟩
            · omega
            · omega
            · rw [er]
              refine Or.inr ⟨b1, jb _ b2, b3, fun c tc gc pc ne => ?_⟩
              rcases cs c tc gc with e | e
              · rcases a4 c tc e pc ne with o | o
                · rw [o]; exact Or.inr bb
                · exact Or.inr (hs_bef_tr bb o)
              · exact b4 c tc e pc ne
            · rw [er]
              have ne' : gF b ≠ gF p := fun e => by rw [e, a2] at b2; omega
              have bb' := hs_bef_tot bb ne'
              refine Or.inr ⟨a1, by rw [jn _ (by omega)]; exact a2, a3, fun c tc gc pc ne => ?_⟩
              rcases cs c tc gc with e | e
              · exact a4 c tc e pc ne
              · rcases b4 c tc e pc ne with o | o
                · rw [o]; exact Or.inr bb'
                · exact Or.inr (hs_bef_tr bb' o)
      · rw [hs_sn ea]
        rcases hG p hp with ⟨o1, o2⟩ | ⟨f1, f2, f3, f4⟩
        · refine Or.inl ⟨o1, fun c tc => ?_⟩
          by_cases e : Q c = b + 1
          · rw [jb c e]; omega
          · rw [jn c e]; exact o2 c tc
        · refine Or.inr ⟨f1, by rw [jn _ (by omega)]; exact f2, f3, fun c tc gc pc ne => ?_⟩
          by_cases e : Q c = b + 1
          · rw [jb c e] at gc; omega
          · rw [jn c e] at gc; exact f4 c tc gc pc ne
  have j35 : ∀ gL' gR', h3_RS (hs_T Q) (h3_Z (hs_jQ Q a b) gP) gR' gL' → wX_joinRings_35 post (nI a) (nI b) (nI (gF a)) (nI (gF b)) (nI st) K A (hs_A sz) (hs_A hp) (hs_A pl) (hs_A pr) (hs_A pc) (hs_A pn) (hs_A pb) (hs_A rF) (hs_A rI) (hs_A rN) (hs_A rU) (hs_A rC) (hs_A rX) (hs_A rP) (hs_A rD) (hs_A gF) (hs_A gC) (hs_A gL') (hs_A gR') (hs_A gP) (hs_A gD) (hs_A gM) (hs_A gO) (hs_A lr) (hs_A ll) (hs_A lR) (hs_A lp) (hs_A lk) (hs_A wn) (hs_A sk) := by
    intro gL' gR' hRS'
    unfold wX_joinRings_35
    refine pk_eq (gF a) 24 (fun e => ?_) (fun e => pk_eq (gF b) 24 (fun e' => ?_) (fun e' => ?_))
    · unfold wX_joinRings_58
      exact fin _ gL' gR' fb24 hRS' (Or.inl ⟨e, rfl⟩)
    · unfold wX_joinRings_63
      exact fin _ gL' gR' fa24 hRS' (Or.inr (Or.inl ⟨e, e', rfl⟩))
    · refine hs_cbb (gF b) (gF a) (by omega) (by omega) (fun hb' => ?_) (fun hb' => ?_)
      · unfold wX_joinRings_58
        exact fin _ gL' gR' fb24 hRS' (Or.inr (Or.inr ⟨e, e', Or.inl ⟨hb', rfl⟩⟩))
      · unfold wX_joinRings_63
        exact fin _ gL' gR' fa24 hRS' (Or.inr (Or.inr ⟨e, e', Or.inr ⟨hb', rfl⟩⟩))
  have zb : ∀ c, hs_T Q c → (h3_Z Q gP c = 32 + b ↔ gP c = 24 ∧ Q c = b + 1) := by
    intro c tc
    unfold h3_Z
    have := h3_gP hV tc
    by_cases e : gP c = 24
    · rw [if_pos e]; exact ⟨fun h => ⟨e, by omega⟩, fun h => by omega⟩
    · rw [if_neg e]; exact ⟨fun h => by omega, fun h => absurd h.1 e⟩
  have zn : ∀ c, hs_T Q c → ¬ (gP c = 24 ∧ Q c = b + 1) → h3_Z (hs_jQ Q a b) gP c = h3_Z Q gP c := by
    intro c tc h
    unfold h3_Z
    by_cases e : gP c = 24
    · rw [if_pos e, if_pos e, jn c (fun h' => h ⟨e, h'⟩)]
    · rw [if_neg e, if_neg e]
  have zy : ∀ c, gP c = 24 ∧ Q c = b + 1 → h3_Z (hs_jQ Q a b) gP c = 32 + a := by
    intro c h
    unfold h3_Z
    rw [if_pos h.1, jb c h.2]; omega
  have za : ∀ c, hs_T Q c → h3_Z Q gP c = 32 + a → Q c = a + 1 := by
    intro c tc e
    unfold h3_Z at e
    have := h3_gP hV tc
    by_cases e' : gP c = 24
    · rw [if_pos e'] at e; omega
    · rw [if_neg e'] at e; omega
  unfold wpX_joinRings
  dsimp only
  refine hs_r a ha (hs_r b hb ?_)
  refine pk_eq (gF a) 24 (fun e => ?_) (fun e => pk_eq (gF b) 24 (fun e' => ?_) (fun e' => ?_))
  · refine j35 gL gR (h3_rel hRS (fun _ t => t) (fun x tx c => ?_))
    have ga' := ga.resolve_right (fun o => by have := o.1.1; omega)
    have na : ∀ z, hs_T Q z → h3_Z Q gP z ≠ 32 + a := fun z tz h => ga'.2 z tz (za z tz h)
    constructor
    · intro ⟨tc, h⟩
      refine ⟨tc, ?_⟩
      by_cases hx : gP x = 24 ∧ Q x = b + 1
      · by_cases hc : gP c = 24 ∧ Q c = b + 1
        · rw [(zb c tc).2 hc, (zb x tx).2 hx]
        · rw [zn c tc hc, zy x hx] at h; exact absurd h (na c tc)
      · by_cases hc : gP c = 24 ∧ Q c = b + 1
        · rw [zy c hc, zn x tx hx] at h; exact absurd h.symm (na x tx)
        · rw [zn c tc hc, zn x tx hx] at h; exact h
    · intro ⟨tc, h⟩
      refine ⟨tc, ?_⟩
      by_cases hx : gP x = 24 ∧ Q x = b + 1
      · have := (zb c tc).1 (h.trans ((zb x tx).2 hx))
        rw [zy c this, zy x hx]
      · have : ¬ (gP c = 24 ∧ Q c = b + 1) := fun hc => hx ((zb x tx).1 (h.symm.trans ((zb c tc).2 hc)))
        rw [zn c tc this, zn x tx hx]; exact h
  · refine j35 gL gR (h3_ext hRS (fun z tz => zn z tz (fun h => ?_)))
    have gb' := gb.resolve_right (fun o => by have := o.1.1; omega)
    exact gb'.2 z tz h.2
  · obtain ⟨a1, a2, a3, _⟩ := ga.resolve_left (fun o => e o.1)
    obtain ⟨b1, b2, b3, _⟩ := gb.resolve_left (fun o => e' o.1)
    have zfa : h3_Z Q gP (gF a) = 32 + a := by unfold h3_Z; rw [if_pos a3, a2]; omega
    have zfb := (zb _ b1).2 ⟨b3, b2⟩
    refine h3_spw (gF a) (gF b) lt hRS a1 b1 (by rw [zfa, zfb]; omega) (fun gL' gR' hRS' => ?_)
    dsimp only
    refine j35 gL' gR' (h3_ext hRS' (fun z tz => ?_))
    rw [zfa, zfb]
    by_cases h : gP z = 24 ∧ Q z = b + 1
    · rw [zy z h, if_pos ((zb z tz).2 h)]
    · rw [zn z tz h, if_neg (fun h' => h ((zb z tz).1 h'))]
end
end
section
/-! engine 3: linking roots of equal degree -/
theorem hs_K_app {sk : Nat → Nat} : ∀ {a b : List Nat}, hs_K sk (a ++ b) → hs_K sk b
  | [], _, h => h
  | _ :: t, _, h => hs_K_app (a := t) h.2
theorem hs_K_at {sk : Nat → Nat} {l1 l2 : List Nat} {x : Nat} (h : hs_K sk (l1 ++ x :: l2).reverse) : sk l1.length = x := by
  rw [List.reverse_append, List.reverse_cons, List.append_assoc] at h
  have := (hs_K_app h).1
  simpa using this
section
variable {st : Nat} {K A : Nat → Int32} {sz hp pl pr pc pn pb rF rI rN rU rC rX rP rD gF gC gL gR gP gD gM gO lr ll lR lp lk wn sk : Nat → Nat}
theorem h3_lkw {post : Int32 → SX → Prop} {g : Nat → Nat} {T : Nat → Prop} {x' y' : Int32} (x y : Nat) (hV : h3_V K g T hs_no hs_0 gC gP gD gM) (hRS : h3_RS T (h3_Z g gP) gR gL) (tx : T x) (ty : T y) (rx : gP x = 24) (ry : gP y = 24) (hg : g x = g y) (hd : gD x = gD y) (xy : x ≠ y) (hpost : ∀ t u gC' gL' gR' gM', ((t = x ∧ u = y) ∨ (t = y ∧ u = x)) → hs_bef K t u → h3_V K g T hs_no hs_0 gC' (hs_s gP u t) (hs_s gD t (gD t + 1)) gM' → h3_RS T (h3_Z g (hs_s gP u t)) gR' gL' → post (nI t) ((nI st), K, A, (hs_A sz), (hs_A hp), (hs_A pl), (hs_A pr), (hs_A pc), (hs_A pn), (hs_A pb), (hs_A rF), (hs_A rI), (hs_A rN), (hs_A rU), (hs_A rC), (hs_A rX), (hs_A rP), (hs_A rD), (hs_A gF), (hs_A gC'), (hs_A gL'), (hs_A gR'), (hs_A (hs_s gP u t)), (hs_A (hs_s gD t (gD t + 1))), (hs_A gM'), (hs_A gO), (hs_A lr), (hs_A ll), (hs_A lR), (hs_A lp), (hs_A lk), (hs_A wn), (hs_A sk))) (ex : x' = nI x := by rfl) (ey : y' = nI y := by rfl) : wpX_linkRing post ((nI st), K, A, (hs_A sz), (hs_A hp), (hs_A pl), (hs_A pr), (hs_A pc), (hs_A pn), (hs_A pb), (hs_A rF), (hs_A rI), (hs_A rN), (hs_A rU), (hs_A rC), (hs_A rX), (hs_A rP), (hs_A rD), (hs_A gF), (hs_A gC), (hs_A gL), (hs_A gR), (hs_A gP), (hs_A gD), (hs_A gM), (hs_A gO), (hs_A lr), (hs_A ll), (hs_A lR), (hs_A lp), (hs_A lk), (hs_A wn), (hs_A sk)) x' y' := by
  subst ex; subst ey
  have lt := hV.1.1
  have go : ∀ t u, ((t = x ∧ u = y) ∨ (t = y ∧ u = x)) → hs_bef K t u → wX_linkRing_25 post (nI t) (nI u) (nI st) K A (hs_A sz) (hs_A hp) (hs_A pl) (hs_A pr) (hs_A pc) (hs_A pn) (hs_A pb) (hs_A rF) (hs_A rI) (hs_A rN) (hs_A rU) (hs_A rC) (hs_A rX) (hs_A rP) (hs_A rD) (hs_A gF) (hs_A gC) (hs_A gL) (hs_A gR) (hs_A gP) (hs_A gD) (hs_A gM) (hs_A gO) (hs_A lr) (hs_A ll) (hs_A lR) (hs_A lp) (hs_A lk) (hs_A wn) (hs_A sk) := by
    intro t u htu hb
    have tt : T t := by rcases htu with ⟨e, _⟩ | ⟨e, _⟩ <;> rw [e] <;> assumption
    have tu : T u := by rcases htu with ⟨_, e⟩ | ⟨_, e⟩ <;> rw [e] <;> assumption
    have rt : gP t = 24 := by rcases htu with ⟨e, _⟩ | ⟨e, _⟩ <;> rw [e] <;> assumption
    have ru : gP u = 24 := by rcases htu with ⟨_, e⟩ | ⟨_, e⟩ <;> rw [e] <;> assumption
    have gtu : g t = g u := by rcases htu with ⟨e, e'⟩ | ⟨e, e'⟩ <;> rw [e, e'] <;> omega
    have dtu : gD t = gD u := by rcases htu with ⟨e, e'⟩ | ⟨e, e'⟩ <;> rw [e, e'] <;> omega
    have t24 := lt t tt
    have u24 := lt u tu
    have tne : t ≠ u := hs_bef_ne hb
    have d8 := h3_8 hV tt
    have c24 := h3_chc hV tt id
    have zt : ∀ c, T c → (h3_Z g gP c = t ↔ gP c = t) := by
      intro c tc
      have := hV.2.1 c tc
      unfold h3_Z
      by_cases e : gP c = 24
      · rw [if_pos e]; exact ⟨fun h => by omega, fun h => by omega⟩
      · rw [if_neg e]
    have zc : ∀ c, T c → h3_Z g (hs_s gP u t) c = hs_s (h3_Z g gP) u t c := by
      intro c tc
      by_cases e : c = u
      · rw [e, hs_ss]; unfold h3_Z; rw [hs_ss, if_neg (by omega)]
      · rw [hs_sn e]; unfold h3_Z; rw [hs_sn e]
    have z40 : ∀ c, T c → h3_Z g gP c ≠ 40 := fun c tc => by have := h3_Z_40 hV tc; omega
    have fin : ∀ gC' gL' gR', ((gC t = 24 ∧ gC' t = u) ∨ (gC t ≠ 24 ∧ gC' t = gC t)) → (∀ z, z ≠ t → gC' z = gC z) → h3_RS T (hs_s (h3_Z g gP) u t) gR' gL' → wX_linkRing_85 post (nI t) (nI st) K A (hs_A sz) (hs_A hp) (hs_A pl) (hs_A pr) (hs_A pc) (hs_A pn) (hs_A pb) (hs_A rF) (hs_A rI) (hs_A rN) (hs_A rU) (hs_A rC) (hs_A rX) (hs_A rP) (hs_A rD) (hs_A gF) (hs_A gC') (hs_A gL') (hs_A gR') (hs_A (hs_s gP u t)) (hs_A gD) (hs_A (hs_s gM u 0)) (hs_A gO) (hs_A lr) (hs_A ll) (hs_A lR) (hs_A lp) (hs_A lk) (hs_A wn) (hs_A sk) := by
      intro gC' gL' gR' h1 h2 h3
      unfold wX_linkRing_85
      refine hs_in t (by omega) (hs_w t (gD t + 1) (by omega) (by omega) ?_ rfl (by rw [hs_rd t (by omega), nI_1]))
      exact hpost t u gC' gL' gR' _ htu hb (h3_Vlink hV tt tu rt ru gtu hb dtu h1 h2) (h3_ext h3 zc)
    unfold wX_linkRing_25
    refine h3_lvw u 40 lt hRS tu z40 (fun gL' gR' hRS' => ?_)
    dsimp only
    refine hs_w u t (by omega) (by omega) (hs_wz u 0 (by omega) (by omega) (hs_in t (by omega) ?_))
    refine pk_eq (gC t) 24 (fun e => ?_) (fun e => ?_) (hs_rd t (by omega)) rfl
    · have nc := ((hV.2.2.1 t tt id).resolve_right (fun o => by have := lt _ o.1; omega)).2
      refine hs_w t u (by omega) (by omega) ?_
      refine fin _ gL' gR' (Or.inl ⟨e, hs_ss⟩) (fun z hz => hs_sn hz) (h3_rel hRS' (fun _ t => t) (fun a ta c => ?_))
      by_cases ea : a = u
      · rw [ea, hs_ss, hs_ss]
        by_cases ec : c = u
        · rw [ec, hs_ss, hs_ss]; exact ⟨fun h => ⟨h.1, rfl⟩, fun h => ⟨h.1, rfl⟩⟩
        · rw [hs_sn ec, hs_sn ec]
          exact ⟨fun h => absurd ((zt c h.1).1 h.2) (nc c h.1), fun h => absurd h.2 (z40 c h.1)⟩
      · rw [hs_sn ea, hs_sn ea]
        by_cases ec : c = u
        · rw [ec, hs_ss, hs_ss]
          exact ⟨fun h => absurd ((zt a ta).1 h.2.symm) (nc a ta), fun h => absurd h.2.symm (z40 a ta)⟩
        · rw [hs_sn ec, hs_sn ec]
    · obtain ⟨tc, pc⟩ := (hV.2.2.1 t tt id).resolve_left (fun o => e o.1)
      have cu : gC t ≠ u := fun e' => by rw [e', ru] at pc; omega
      have ct := lt _ tc
      refine hs_in t (by omega) ?_
      refine h3_spw (gC t) u lt hRS' tc tu (by rw [hs_sn cu, hs_ss]; exact z40 _ tc) (fun gL2 gR2 hRS2 => ?_) (hs_rd t (by omega)) rfl
      dsimp only
      refine fin gC gL2 gR2 (Or.inr ⟨e, rfl⟩) (fun _ _ => rfl) (h3_ext hRS2 (fun z tz => ?_))
      rw [hs_ss, hs_sn cu, (zt _ tc).2 pc]
      by_cases ez : z = u
      · rw [ez, hs_ss, hs_ss, if_pos rfl]
      · rw [hs_sn ez, hs_sn ez, if_neg (z40 z tz)]
  unfold wpX_linkRing
  dsimp only
  have x24 := lt x tx
  have y24 := lt y ty
  refine hs_cbb x y x24 y24 (fun hb => ?_) (fun hb => ?_)
  · unfold wX_linkRing_14
    exact pk_eq x x (fun _ => go x y (Or.inl ⟨rfl, rfl⟩) hb) (fun n => absurd rfl n)
  · unfold wX_linkRing_14
    exact pk_eq y x (fun n => absurd n.symm xy) (fun _ => go y x (Or.inr ⟨rfl, rfl⟩) (hs_bef_tot hb xy))
/-- the best of the table -/
theorem h3_oE {post : SX → Prop} {q : Nat} (hq : q < 4) (h24 : ∀ d, d < 8 → gO d ≤ 24) (hpost : ∀ r, r ≤ 24 → (r = 24 → ∀ d, d < 8 → gO d = 24) → (r ≠ 24 → ∃ d, d < 8 ∧ gO d = r) → (∀ d, d < 8 → gO d ≠ 24 → gO d = r ∨ hs_bef K r (gO d)) → post ((nI st), K, A, (hs_A sz), (hs_A hp), (hs_A pl), (hs_A pr), (hs_A pc), (hs_A pn), (hs_A pb), (hs_A rF), (hs_A rI), (hs_A rN), (hs_A rU), (hs_A rC), (hs_A rX), (hs_A rP), (hs_A rD), (hs_A (hs_s gF q r)), (hs_A gC), (hs_A gL), (hs_A gR), (hs_A gP), (hs_A gD), (hs_A gM), (hs_A gO), (hs_A lr), (hs_A ll), (hs_A lR), (hs_A lp), (hs_A lk), (hs_A wn), (hs_A sk))) : ∀ (k d r : Nat), d + k = 8 → r ≤ 24 → (r = 24 → ∀ i, i < d → gO i = 24) → (r ≠ 24 → ∃ i, i < 8 ∧ gO i = r) → (∀ i, i < d → gO i ≠ 24 → gO i = r ∨ hs_bef K r (gO i)) → wX_orderRing_194 post (nI q) (nI st) K A (hs_A sz) (hs_A hp) (hs_A pl) (hs_A pr) (hs_A pc) (hs_A pn) (hs_A pb) (hs_A rF) (hs_A rI) (hs_A rN) (hs_A rU) (hs_A rC) (hs_A rX) (hs_A rP) (hs_A rD) (hs_A gF) (hs_A gC) (hs_A gL) (hs_A gR) (hs_A gP) (hs_A gD) (hs_A gM) (hs_A gO) (hs_A lr) (hs_A ll) (hs_A lR) (hs_A lp) (hs_A lk) (hs_A wn) (hs_A sk) (k + 1) (nI r) (nI d) := by
  intro k
  induction k with
  | zero =>
    intro d r hd hr h1 h2 h3
    have : d = 8 := by omega
    subst this
    rw [wX_orderRing_194]
    refine br_t (by decide) ?_
    exact hs_w q r hq (by omega) (hpost r hr h1 h2 h3)
  | succ k ih =>
    intro d r hd hr h1 h2 h3
    have o24 := h24 d (by omega)
    rw [wX_orderRing_194]
    refine pk_le 8 d (fun h => by omega) (fun _ => ?_)
    refine hs_r d (by omega) ?_
    have low : ∀ i, i < d + 1 → i ≠ d → i < d := by omega
    have keep : (gO d ≠ 24 → gO d = r ∨ hs_bef K r (gO d)) → (r = 24 → gO d = 24) → wX_orderRing_194 post (nI q) (nI st) K A (hs_A sz) (hs_A hp) (hs_A pl) (hs_A pr) (hs_A pc) (hs_A pn) (hs_A pb) (hs_A rF) (hs_A rI) (hs_A rN) (hs_A rU) (hs_A rC) (hs_A rX) (hs_A rP) (hs_A rD) (hs_A gF) (hs_A gC) (hs_A gL) (hs_A gR) (hs_A gP) (hs_A gD) (hs_A gM) (hs_A gO) (hs_A lr) (hs_A ll) (hs_A lR) (hs_A lp) (hs_A lk) (hs_A wn) (hs_A sk) (k + 1) (nI r) (nI (d + 1)) := by
      intro hk hk2
      refine ih (d + 1) r (by omega) hr (fun e i hi => ?_) h2 (fun i hi hn => ?_)
      · by_cases ei : i = d
        · rw [ei]; exact hk2 e
        · exact h1 e i (low i hi ei)
      · by_cases ei : i = d
        · rw [ei] at hn ⊢; exact hk hn
        · exact h3 i (low i hi ei) hn
    have new : gO d ≠ 24 → (r = 24 ∨ hs_bef K (gO d) r) → wX_orderRing_194 post (nI q) (nI st) K A (hs_A sz) (hs_A hp) (hs_A pl) (hs_A pr) (hs_A pc) (hs_A pn) (hs_A pb) (hs_A rF) (hs_A rI) (hs_A rN) (hs_A rU) (hs_A rC) (hs_A rX) (hs_A rP) (hs_A rD) (hs_A gF) (hs_A gC) (hs_A gL) (hs_A gR) (hs_A gP) (hs_A gD) (hs_A gM) (hs_A gO) (hs_A lr) (hs_A ll) (hs_A lR) (hs_A lp) (hs_A lk) (hs_A wn) (hs_A sk) (k + 1) (nI (gO d)) (nI (d + 1)) := by
      intro hn hk
      refine ih (d + 1) (gO d) (by omega) o24 (fun e => absurd e hn) (fun _ => ⟨d, by omega, rfl⟩) (fun i hi hi2 => ?_)
      by_cases ei : i = d
      · rw [ei]; exact Or.inl rfl
      · have il := low i hi ei
        rcases hk with e | b
        · exact absurd (h1 e i il) hi2
        · rcases h3 i il hi2 with o | o
          · rw [o]; exact Or.inr b
          · exact Or.inr (hs_bef_tr b o)
    refine pk_eq (gO d) 24 (fun e => nm_r (nI_1 _) (keep (fun h => absurd e h) (fun _ => e))) (fun e => ?_)
    refine pk_eq r 24 (fun e2 => nm_r (nI_1 _) (new e (Or.inl e2))) (fun e2 => ?_)
    refine hs_cbb (gO d) r (by omega) (by omega) (fun hb => nm_r (nI_1 _) (new e (Or.inr hb))) (fun hb => nm_r (nI_1 _) (keep (fun _ => ?_) (fun h => absurd h e2)))
    by_cases er : gO d = r
    · exact Or.inl er
    · exact Or.inr (hs_bef_tot hb er)
/-- linking on while there is one of the same degree -/
theorem h3_oD {post : SX → Prop} {g : Nat → Nat} {T : Nat → Prop} {q i : Nat} {rest : List Nat} {gP0 : Nat → Nat} {J : Int32 → Int32 → (Nat → Int32) → (Nat → Int32) → (Nat → Int32) → (Nat → Int32) → (Nat → Int32) → (Nat → Int32) → (Nat → Int32) → (Nat → Int32) → (Nat → Int32) → (Nat → Int32) → (Nat → Int32) → (Nat → Int32) → (Nat → Int32) → (Nat → Int32) → (Nat → Int32) → (Nat → Int32) → (Nat → Int32) → (Nat → Int32) → (Nat → Int32) → (Nat → Int32) → (Nat → Int32) → (Nat → Int32) → (Nat → Int32) → (Nat → Int32) → (Nat → Int32) → (Nat → Int32) → (Nat → Int32) → (Nat → Int32) → (Nat → Int32) → (Nat → Int32) → (Nat → Int32) → (Nat → Int32) → Prop}
    (hJ : ∀ gC gL gR gP gD gM gO, h3_V K g T hs_no hs_0 gC gP gD gM → h3_RS T (h3_Z g gP) gR gL → (∀ d, d < 8 → gO d = 24 ∨ (T (gO d) ∧ g (gO d) = q + 1 ∧ gP (gO d) = 24 ∧ gD (gO d) = d)) → (∀ c, c ∈ rest → T c ∧ gP c = 24 ∧ ∀ d, d < 8 → gO d ≠ c) → (∀ c, T c → g c = q + 1 → gP c = 24 → (∃ d, d < 8 ∧ gO d = c) ∨ c ∈ rest) → (∀ c, T c → g c ≠ q + 1 → gP c = gP0 c) → J (nI (i + 1)) (nI st) K A (hs_A sz) (hs_A hp) (hs_A pl) (hs_A pr) (hs_A pc) (hs_A pn) (hs_A pb) (hs_A rF) (hs_A rI) (hs_A rN) (hs_A rU) (hs_A rC) (hs_A rX) (hs_A rP) (hs_A rD) (hs_A gF) (hs_A gC) (hs_A gL) (hs_A gR) (hs_A gP) (hs_A gD) (hs_A gM) (hs_A gO) (hs_A lr) (hs_A ll) (hs_A lR) (hs_A lp) (hs_A lk) (hs_A wn) (hs_A sk)) :
    ∀ (n x : Nat) (gC gL gR gP gD gM gO : Nat → Nat), hs_cn (fun d => decide (gO d ≠ 24)) 8 < n → T x → g x = q + 1 → gP x = 24 → x ∉ rest → (∀ d, d < 8 → gO d ≠ x) → h3_V K g T hs_no hs_0 gC gP gD gM → h3_RS T (h3_Z g gP) gR gL → (∀ d, d < 8 → gO d = 24 ∨ (T (gO d) ∧ g (gO d) = q + 1 ∧ gP (gO d) = 24 ∧ gD (gO d) = d)) → (∀ c, c ∈ rest → T c ∧ gP c = 24 ∧ ∀ d, d < 8 → gO d ≠ c) → (∀ c, T c → g c = q + 1 → gP c = 24 → (∃ d, d < 8 ∧ gO d = c) ∨ c = x ∨ c ∈ rest) → (∀ c, T c → g c ≠ q + 1 → gP c = gP0 c) → wX_orderRing_108 post J (nI q) (nI i) n (nI x) (nI st) K A (hs_A sz) (hs_A hp) (hs_A pl) (hs_A pr) (hs_A pc) (hs_A pn) (hs_A pb) (hs_A rF) (hs_A rI) (hs_A rN) (hs_A rU) (hs_A rC) (hs_A rX) (hs_A rP) (hs_A rD) (hs_A gF) (hs_A gC) (hs_A gL) (hs_A gR) (hs_A gP) (hs_A gD) (hs_A gM) (hs_A gO) (hs_A lr) (hs_A ll) (hs_A lR) (hs_A lp) (hs_A lk) (hs_A wn) (hs_A sk) := by
  intro n
  induction n with
  | zero => intro x gC gL gR gP gD gM gO h; omega
  | succ n ih =>
    intro x gC gL gR gP gD gM gO hn tx gx rx nr nt hV hRS hT hr hall hoth
    have lt := hV.1.1
    have x24 := lt x tx
    have d8 := h3_8 hV tx
    have ed : hs_A gD (nI x).toNatClampNeg = nI (gD x) := hs_rd x (by omega)
    have eo : hs_A gO (hs_A gD (nI x).toNatClampNeg).toNatClampNeg = nI (gO (gD x)) := hs_rd (gD x) (by omega) ed
    have o24 : gO (gD x) ≤ 24 := by
      rcases hT (gD x) d8 with o | o
      · omega
      · have := lt _ o.1; omega
    rw [wX_orderRing_108]
    refine hs_in x (by omega) (hs_in (gD x) d8 ?_ ed)
    refine pk_eq (gO (gD x)) 24 (fun e => ?_) (fun e => ?_) eo rfl
    · refine hs_in x (by omega) (hs_w (gD x) x d8 (by omega) ?_ ed)
      refine nm_r (nI_1 _) ?_
      refine hJ gC gL gR gP gD gM _ hV hRS (fun d hd => ?_) (fun c hc => ⟨(hr c hc).1, (hr c hc).2.1, fun d hd => ?_⟩) (fun c tc gc pc => ?_) hoth
      · by_cases e' : d = gD x
        · rw [hs_se e']; exact Or.inr ⟨tx, gx, rx, e'.symm⟩
        · rw [hs_sn e']; exact hT d hd
      · by_cases e' : d = gD x
        · rw [hs_se e']; exact fun e => nr (e ▸ hc)
        · rw [hs_sn e']; exact (hr c hc).2.2 d hd
      · rcases hall c tc gc pc with ⟨d, hd, o⟩ | o | o
        · refine Or.inl ⟨d, hd, ?_⟩
          have : d ≠ gD x := fun e' => by rw [e', e] at o; have := lt c tc; omega
          rw [hs_sn this]; exact o
        · exact Or.inl ⟨gD x, d8, by rw [hs_ss]; exact o.symm⟩
        · exact Or.inr o
    · obtain ⟨ty, gy, ry, dy⟩ := (hT (gD x) d8).resolve_left e
      have yx := nt (gD x) d8
      refine hs_in x (by omega) ?_
      refine hs_r (gD x) d8 ?_ ed
      refine hs_in x (by omega) (hs_wn (gD x) 24 d8 (by omega) ?_ ed)
      refine h3_lkw x (gO (gD x)) hV hRS tx ty rx ry (gx.trans gy.symm) dy.symm (Ne.symm yx) (fun t u gC' gL' gR' gM' htu hb hV' hRS' => ?_)
      dsimp only
      have tt : T t := by rcases htu with ⟨e, _⟩ | ⟨e, _⟩ <;> rw [e] <;> assumption
      have tu : T u := by rcases htu with ⟨_, e⟩ | ⟨_, e⟩ <;> rw [e] <;> assumption
      have gt : g t = q + 1 := by rcases htu with ⟨e, _⟩ | ⟨e, _⟩ <;> rw [e] <;> assumption
      have gu : g u = q + 1 := by rcases htu with ⟨_, e⟩ | ⟨_, e⟩ <;> rw [e] <;> assumption
      have rt : gP t = 24 := by rcases htu with ⟨e, _⟩ | ⟨e, _⟩ <;> rw [e] <;> assumption
      have tne : t ≠ u := hs_bef_ne hb
      have t24 := lt t tt
      have in2 : ∀ c, (c = t ∨ c = u) ↔ (c = x ∨ c = gO (gD x)) := by
        intro c
        rcases htu with ⟨e, e'⟩ | ⟨e, e'⟩ <;> rw [e, e'] <;> omega
      have uniq : ∀ d, d < 8 → d ≠ gD x → gO d ≠ 24 → gO d ≠ t ∧ gO d ≠ u := by
        intro d hd hne h24
        have key : ¬ (gO d = t ∨ gO d = u) := by
          intro h
          rcases (in2 _).1 h with h | h
          · exact nt d hd h
          · have := (hT d hd).resolve_left h24
            rw [h, dy] at this
            exact hne this.2.2.2.symm
        exact ⟨fun h => key (Or.inl h), fun h => key (Or.inr h)⟩
      have rtu : ∀ c, c ∈ rest → c ≠ t ∧ c ≠ u := by
        intro c hc
        have key : ¬ (c = t ∨ c = u) := by
          intro h
          rcases (in2 c).1 h with h | h
          · exact nr (h ▸ hc)
          · exact (hr c hc).2.2 _ d8 h.symm
        exact ⟨fun h => key (Or.inl h), fun h => key (Or.inr h)⟩
      have u24 := lt u tu
      refine ih t gC' gL' gR' _ _ gM' _ ?_ tt gt (by rw [hs_sn tne]; exact rt) (fun h => (rtu t h).1 rfl) (fun d hd => ?_) hV' hRS' (fun d hd => ?_) (fun c hc => ⟨(hr c hc).1, by rw [hs_sn (rtu c hc).2]; exact (hr c hc).2.1, fun d hd => ?_⟩) (fun c tc gc pc => ?_) (fun c tc gc => ?_)
      · have := hs_cn_1 (P := fun d => decide (hs_s gO (gD x) 24 d ≠ 24)) (P' := fun d => decide (gO d ≠ 24)) (y := gD x) (n := 8) (by simp [hs_s]) (by simpa using e) (fun z _ hz => by simp [hs_s, hz]) d8
        omega
      · by_cases e' : d = gD x
        · rw [hs_se e']; omega
        · rw [hs_sn e']
          by_cases h24 : gO d = 24
          · omega
          · exact (uniq d hd e' h24).1
      · by_cases e' : d = gD x
        · rw [hs_se e']; exact Or.inl rfl
        · rw [hs_sn e']
          by_cases h24 : gO d = 24
          · exact Or.inl h24
          · obtain ⟨o1, o2, o3, o4⟩ := (hT d hd).resolve_left h24
            obtain ⟨n1, n2⟩ := uniq d hd e' h24
            exact Or.inr ⟨o1, o2, by rw [hs_sn n2]; exact o3, by rw [hs_sn n1]; exact o4⟩
      · by_cases e' : d = gD x
        · rw [hs_se e']
          have := lt c (hr c hc).1
          omega
        · rw [hs_sn e']; exact (hr c hc).2.2 d hd
      · have cu : c ≠ u := fun ec => by rw [ec, hs_ss] at pc; omega
        rw [hs_sn cu] at pc
        rcases hall c tc gc pc with ⟨d, hd, o⟩ | o | o
        · by_cases e' : d = gD x
          · rw [e'] at o
            exact Or.inr (Or.inl (((in2 c).2 (Or.inr o.symm)).resolve_right cu))
          · exact Or.inl ⟨d, hd, by rw [hs_sn e']; exact o⟩
        · exact Or.inr (Or.inl (((in2 c).2 (Or.inl o)).resolve_right cu))
        · exact Or.inr (Or.inr o)
      · have cu : c ≠ u := fun ec => gc (ec ▸ gu)
        rw [hs_sn cu]; exact hoth c tc gc
end
end
section
/-! engine 3: putting the roots in order, and removing -/
theorem h3_next {gR gL : Nat → Nat} {l1 l2 : List Nat} {x : Nat} (h : h3_rg gR gL (l1 ++ x :: l2)) : (l2 = [] → gR x = h1_hd (l1 ++ x :: l2)) ∧ (l2 ≠ [] → gR x = h1_hd l2) := by
  obtain ⟨a, b, c⟩ := h
  constructor
  · intro e
    subst e
    rw [h3_la_app (by simp)] at b
    exact b
  · intro e
    have e1 : l1 ++ x :: l2 = (l1 ++ [x]) ++ l2 := by simp
    rw [e1, h3_ch_app (by simp) e] at a
    have := a.2.2.1
    rw [h3_la_app (by simp)] at this
    exact this
section
variable {st : Nat} {K A : Nat → Int32} {sz hp pl pr pc pn pb rF rI rN rU rC rX rP rD gF gC gL gR gP gD gM gO lr ll lR lp lk wn sk : Nat → Nat}
theorem h3_oC {post : SX → Prop} {g : Nat → Nat} {T : Nat → Prop} {q : Nat} {gP0 : Nat → Nat} (hq : q < 4) (hne : ∃ f, T f ∧ g f = q + 1) (hG : ∀ p, p < 4 → p ≠ q → (gF p = 24 ∧ ∀ c, T c → g c ≠ p + 1) ∨ (T (gF p) ∧ g (gF p) = p + 1 ∧ gP0 (gF p) = 24 ∧ ∀ c, T c → g c = p + 1 → gP0 c = 24 → c ≠ 24 → c = gF p ∨ hs_bef K (gF p) c)) (hpost : ∀ gF' gC' gL' gR' gP' gD' gM' gO', h3_V K g T hs_no hs_0 gC' gP' gD' gM' → h3_RS T (h3_Z g gP') gR' gL' → h3_G K g T gP' gF' 24 → post ((nI st), K, A, (hs_A sz), (hs_A hp), (hs_A pl), (hs_A pr), (hs_A pc), (hs_A pn), (hs_A pb), (hs_A rF), (hs_A rI), (hs_A rN), (hs_A rU), (hs_A rC), (hs_A rX), (hs_A rP), (hs_A rD), (hs_A gF'), (hs_A gC'), (hs_A gL'), (hs_A gR'), (hs_A gP'), (hs_A gD'), (hs_A gM'), (hs_A gO'), (hs_A lr), (hs_A ll), (hs_A lR), (hs_A lp), (hs_A lk), (hs_A wn), (hs_A sk))) : ∀ (rest dn : List Nat) (gC gL gR gP gD gM gO : Nat → Nat), st = dn.length + rest.length → hs_K sk (dn ++ rest).reverse → st ≤ 24 → rest.Nodup → (∀ c, c ∈ rest → g c = q + 1) → h3_V K g T hs_no hs_0 gC gP gD gM → h3_RS T (h3_Z g gP) gR gL → (∀ d, d < 8 → gO d = 24 ∨ (T (gO d) ∧ g (gO d) = q + 1 ∧ gP (gO d) = 24 ∧ gD (gO d) = d)) → (∀ c, c ∈ rest → T c ∧ gP c = 24 ∧ ∀ d, d < 8 → gO d ≠ c) → (∀ c, T c → g c = q + 1 → gP c = 24 → (∃ d, d < 8 ∧ gO d = c) ∨ c ∈ rest) → (∀ c, T c → g c ≠ q + 1 → gP c = gP0 c) → wX_orderRing_90 post (nI q) (rest.length + 1) (nI dn.length) (nI st) K A (hs_A sz) (hs_A hp) (hs_A pl) (hs_A pr) (hs_A pc) (hs_A pn) (hs_A pb) (hs_A rF) (hs_A rI) (hs_A rN) (hs_A rU) (hs_A rC) (hs_A rX) (hs_A rP) (hs_A rD) (hs_A gF) (hs_A gC) (hs_A gL) (hs_A gR) (hs_A gP) (hs_A gD) (hs_A gM) (hs_A gO) (hs_A lr) (hs_A ll) (hs_A lR) (hs_A lp) (hs_A lk) (hs_A wn) (hs_A sk) := by
  intro rest
  induction rest with
  | nil =>
    intro dn gC gL gR gP gD gM gO hst hk h24 hd hgr hV hRS hT hr hall hoth
    have lt := hV.1.1
    rw [wX_orderRing_90]
    refine pk_le st dn.length (fun _ => ?_) (fun h => by simp at hst; omega)
    have o24 : ∀ d, d < 8 → gO d ≤ 24 := fun d hd' => by
      rcases hT d hd' with o | o
      · omega
      · have := lt _ o.1; omega
    refine ⟨_, h3_oE hq o24 (fun r r24 h1 h2 h3 => ?_) 8 0 24 (by omega) (by omega) (fun _ i hi => by omega) (fun h => absurd rfl h) (fun i hi => by omega)⟩
    have rne : r ≠ 24 := by
      intro e
      obtain ⟨f, tf, gf⟩ := hne
      obtain ⟨y, ty, ry, gy, o⟩ := hs_F_root hV.1 (hs_rk K f) f (Nat.le_refl _) tf
      rcases hall y ty (gy.trans gf) ry with ⟨d, hd', o⟩ | o
      · have := h1 e d hd'
        have := lt y ty
        omega
      · simp at o
    obtain ⟨d, hd', ed⟩ := h2 rne
    obtain ⟨t1, t2, t3, t4⟩ := (hT d hd').resolve_left (by omega)
    rw [ed] at t1 t2 t3
    refine hpost _ gC gL gR gP gD gM gO hV hRS (fun p hp => ?_)
    by_cases ep : p = q
    · rw [ep, hs_ss]
      refine Or.inr ⟨t1, t2, t3, fun c tc gc pc _ => ?_⟩
      rcases hall c tc gc pc with ⟨i, hi, o⟩ | o
      · have c24 := lt c tc
        rcases h3 i hi (by omega) with h | h
        · exact Or.inl (o.symm.trans h)
        · rw [o] at h; exact Or.inr h
      · simp at o
    · rw [hs_sn ep]
      rcases hG p hp ep with o | ⟨f1, f2, f3, f4⟩
      · exact Or.inl o
      · refine Or.inr ⟨f1, f2, by rw [hoth _ f1 (by omega)]; exact f3, fun c tc gc pc ne => f4 c tc gc ?_ ne⟩
        rw [← hoth c tc (by omega)]; exact pc
  | cons x rest ih =>
    intro dn gC gL gR gP gD gM gO hst hk h24 hd hgr hV hRS hT hr hall hoth
    have lt := hV.1.1
    have hd' := List.nodup_cons.1 hd
    rw [List.length_cons] at hst
    obtain ⟨tx, px, nx⟩ := hr x (by simp)
    have ex : sk dn.length = x := hs_K_at hk
    rw [wX_orderRing_90, List.length_cons]
    refine pk_le st dn.length (fun h => by omega) (fun _ => ?_)
    refine hs_r dn.length (by omega) ?_
    rw [ex]
    refine ⟨_, h3_oD (g := g) (T := T) (q := q) (i := dn.length) (rest := rest) (gP0 := gP0) (fun gC gL gR gP gD gM gO hV hRS hT hr hall hoth => ?_) (hs_cn (fun d => decide (gO d ≠ 24)) 8 + 1) x gC gL gR gP gD gM gO (Nat.lt_succ_self _) tx (hgr x (by simp)) px hd'.1 nx hV hRS hT (fun c hc => hr c (by simp [hc])) (fun c tc gc pc => ?_) hoth⟩
    · have := ih (dn ++ [x]) gC gL gR gP gD gM gO (by rw [List.length_append]; simp; omega) (by rw [List.append_assoc]; exact hk) h24 hd'.2 (fun c hc => hgr c (by simp [hc])) hV hRS hT hr hall hoth
      rw [List.length_append] at this
      exact this
    · rcases hall c tc gc pc with o | o
      · exact Or.inl o
      · exact Or.inr (List.mem_cons.1 o)
theorem h3_oB {post : SX → Prop} {q : Nat} (hq : q < 4) {l : List Nat} (hl : h3_rg gR gL l) (hd : l.Nodup) (h24 : ∀ z, z ∈ l → z < 24) (hf : h1_hd l = gF q) (hpost : ∀ sk', hs_K sk' l.reverse → ∃ n, wX_orderRing_90 post (nI q) n 0 (nI (l.length)) K A (hs_A sz) (hs_A hp) (hs_A pl) (hs_A pr) (hs_A pc) (hs_A pn) (hs_A pb) (hs_A rF) (hs_A rI) (hs_A rN) (hs_A rU) (hs_A rC) (hs_A rX) (hs_A rP) (hs_A rD) (hs_A gF) (hs_A gC) (hs_A gL) (hs_A gR) (hs_A gP) (hs_A gD) (hs_A gM) (hs_A gO) (hs_A lr) (hs_A ll) (hs_A lR) (hs_A lp) (hs_A lk) (hs_A wn) (hs_A sk')) : ∀ (l2 l1 : List Nat) (x : Nat) (sk : Nat → Nat), l = l1 ++ x :: l2 → hs_K sk l1.reverse → wX_orderRing_36 post (nI q) (l2.length + 2) (nI x) 1 (nI (l1.length)) K A (hs_A sz) (hs_A hp) (hs_A pl) (hs_A pr) (hs_A pc) (hs_A pn) (hs_A pb) (hs_A rF) (hs_A rI) (hs_A rN) (hs_A rU) (hs_A rC) (hs_A rX) (hs_A rP) (hs_A rD) (hs_A gF) (hs_A gC) (hs_A gL) (hs_A gR) (hs_A gP) (hs_A gD) (hs_A gM) (hs_A gO) (hs_A lr) (hs_A ll) (hs_A lR) (hs_A lp) (hs_A lk) (hs_A wn) (hs_A sk) := by
  have len := hs_len hd h24
  intro l2
  induction l2 with
  | nil =>
    intro l1 x sk e hk
    have x24 := h24 x (by rw [e]; simp)
    have f24 := h24 (gF q) (by rw [← hf]; exact h1_hd_m (by rw [e]; simp))
    have el : l.length = l1.length + 1 := by rw [e]; simp
    rw [wX_orderRing_36]
    refine br_f (by decide) ?_
    refine hs_w l1.length x (by omega) (by omega) (nm_r (nI_1 _) ?_)
    refine hs_r x (by omega) (hs_in q hq ?_)
    have nx := (h3_next (e ▸ hl)).1 rfl
    rw [← e, hf] at nx
    rw [nx]
    refine br_t (by rw [hs_rd q (by omega)]) ?_
    rw [wX_orderRing_36]
    refine br_t rfl ?_
    have := hpost (hs_s sk l1.length x) (by
      rw [e, List.reverse_append]
      have := hs_K_push (x := x) hk
      rw [List.length_reverse] at this
      exact this)
    rw [el] at this
    exact this
  | cons y l2 ih =>
    intro l1 x sk e hk
    have x24 := h24 x (by rw [e]; simp)
    have y24 := h24 y (by rw [e]; simp)
    have el : l.length = l1.length + 1 + (l2.length + 1) := by rw [e]; simp; omega
    have f24 := h24 (gF q) (by rw [← hf]; exact h1_hd_m (by rw [e]; simp))
    rw [wX_orderRing_36]
    refine br_f (by decide) ?_
    refine hs_w l1.length x (by omega) (by omega) (nm_r (nI_1 _) ?_)
    refine hs_r x (by omega) (hs_in q hq ?_)
    have nx : gR x = y := (h3_next (e ▸ hl)).2 (by simp)
    rw [nx]
    have yf : y ≠ gF q := by
      rw [← hf, e]
      intro h
      rw [e] at hd
      cases l1 with
      | nil =>
        have h' : y = x := h
        simp [h'] at hd
      | cons a t =>
        have h' : y = a := h
        simp [h'] at hd
    refine pk_eq y (gF q) (fun h => absurd h yf) (fun _ => ?_) rfl (hs_rd q (by omega))
    have := ih (l1 ++ [x]) y (hs_s sk l1.length x) (by rw [e]; simp) (by
      rw [List.reverse_append]
      have := hs_K_push (x := x) hk
      rw [List.length_reverse] at this
      exact this)
    rw [List.length_append] at this
    exact this
theorem h3_order {post : SX → Prop} {g : Nat → Nat} {T : Nat → Prop} {q' : Int32} (q : Nat) (hq : q < 4) (hV : h3_V K g T hs_no hs_0 gC gP gD gM) (hRS : h3_RS T (h3_Z g gP) gR gL) (tf : T (gF q)) (gf : g (gF q) = q + 1) (rf : gP (gF q) = 24) (hG : ∀ p, p < 4 → p ≠ q → (gF p = 24 ∧ ∀ c, T c → g c ≠ p + 1) ∨ (T (gF p) ∧ g (gF p) = p + 1 ∧ gP (gF p) = 24 ∧ ∀ c, T c → g c = p + 1 → gP c = 24 → c ≠ 24 → c = gF p ∨ hs_bef K (gF p) c)) (hpost : ∀ st' sk' gF' gC' gL' gR' gP' gD' gM' gO', h3_V K g T hs_no hs_0 gC' gP' gD' gM' → h3_RS T (h3_Z g gP') gR' gL' → h3_G K g T gP' gF' 24 → post ((nI (st')), K, A, (hs_A sz), (hs_A hp), (hs_A pl), (hs_A pr), (hs_A pc), (hs_A pn), (hs_A pb), (hs_A rF), (hs_A rI), (hs_A rN), (hs_A rU), (hs_A rC), (hs_A rX), (hs_A rP), (hs_A rD), (hs_A gF'), (hs_A gC'), (hs_A gL'), (hs_A gR'), (hs_A gP'), (hs_A gD'), (hs_A gM'), (hs_A gO'), (hs_A lr), (hs_A ll), (hs_A lR), (hs_A lp), (hs_A lk), (hs_A wn), (hs_A sk'))) (eq : q' = nI q := by rfl) : wpX_orderRing post ((nI st), K, A, (hs_A sz), (hs_A hp), (hs_A pl), (hs_A pr), (hs_A pc), (hs_A pn), (hs_A pb), (hs_A rF), (hs_A rI), (hs_A rN), (hs_A rU), (hs_A rC), (hs_A rX), (hs_A rP), (hs_A rD), (hs_A gF), (hs_A gC), (hs_A gL), (hs_A gR), (hs_A gP), (hs_A gD), (hs_A gM), (hs_A gO), (hs_A lr), (hs_A ll), (hs_A lR), (hs_A lp), (hs_A lk), (hs_A wn), (hs_A sk)) q' := by
  subst eq
  have lt := hV.1.1
  have f24 := lt _ tf
  obtain ⟨t, hg, hd, hm⟩ := h3_at hRS tf
  have zf : h3_Z g gP (gF q) = 32 + q := by unfold h3_Z; rw [if_pos rf, gf]; omega
  have mem : ∀ c, c ∈ gF q :: t ↔ T c ∧ g c = q + 1 ∧ gP c = 24 := by
    intro c
    rw [hm c, zf]
    constructor
    · intro ⟨tc, e⟩
      unfold h3_Z at e
      have := h3_gP hV tc
      by_cases e' : gP c = 24
      · rw [if_pos e'] at e; exact ⟨tc, by omega, e'⟩
      · rw [if_neg e'] at e; omega
    · intro ⟨tc, gc, pc⟩
      refine ⟨tc, ?_⟩
      unfold h3_Z; rw [if_pos pc, gc]; omega
  have len := hs_len (n := 24) hd (fun z hz => lt z ((mem z).1 hz).1)
  unfold wpX_orderRing
  dsimp only
  have key : ∀ (k d : Nat) (gO : Nat → Nat), d + k = 8 → (∀ i, i < d → gO i = 24) → wX_orderRing_2 post (nI q) (nI st) (k + 1) (nI d) K A (hs_A sz) (hs_A hp) (hs_A pl) (hs_A pr) (hs_A pc) (hs_A pn) (hs_A pb) (hs_A rF) (hs_A rI) (hs_A rN) (hs_A rU) (hs_A rC) (hs_A rX) (hs_A rP) (hs_A rD) (hs_A gF) (hs_A gC) (hs_A gL) (hs_A gR) (hs_A gP) (hs_A gD) (hs_A gM) (hs_A gO) (hs_A lr) (hs_A ll) (hs_A lR) (hs_A lp) (hs_A lk) (hs_A wn) (hs_A sk) := by
    intro k
    induction k with
    | zero =>
      intro d gO hdk h
      have : d = 8 := by omega
      subst this
      rw [wX_orderRing_2]
      refine br_t (by decide) ?_
      refine hs_r q hq ⟨_, h3_oB (l := gF q :: t) hq hg hd (fun z hz => lt z ((mem z).1 hz).1) rfl (fun sk' hk => ⟨(gF q :: t).length + 1, ?_⟩) t [] (gF q) sk rfl trivial⟩
      refine h3_oC (sk := sk') (st := (gF q :: t).length) (g := g) (T := T) (gP0 := gP) hq ⟨gF q, tf, gf⟩ hG (fun gF' gC' gL' gR' gP' gD' gM' gO' a b c => hpost _ _ gF' gC' gL' gR' gP' gD' gM' gO' a b c) (gF q :: t) [] gC gL gR gP gD gM gO (by simp) hk len hd (fun c hc => ((mem c).1 hc).2.1) hV hRS (fun d hd' => Or.inl (h d hd')) (fun c hc => ⟨((mem c).1 hc).1, ((mem c).1 hc).2.2, fun d hd' e => ?_⟩) (fun c tc gc pc => Or.inr ((mem c).2 ⟨tc, gc, pc⟩)) (fun _ _ _ => rfl)
      rw [h d hd'] at e
      have := lt c ((mem c).1 hc).1
      omega
    | succ k ih =>
      intro d gO hdk h
      rw [wX_orderRing_2]
      refine pk_le 8 d (fun h => by omega) (fun _ => ?_)
      refine hs_wn d 24 (by omega) (by omega) (nm_r (nI_1 _) ?_)
      refine ih (d + 1) _ (by omega) (fun i hi => ?_)
      by_cases e : i = d
      · rw [hs_se e]
      · rw [hs_sn e]; exact h i (by omega)
  exact ⟨_, key 8 0 gO (by omega) (fun i hi => by omega)⟩
end
end
section
/-! engine 3: remove -/
section
variable {st : Nat} {K A : Nat → Int32} {sz hp pl pr pc pn pb rF rI rN rU rC rX rP rD gF gC gL gR gP gD gM gO lr ll lR lp lk wn sk : Nat → Nat}
theorem h3_rmL {post : SX → Prop} {Q : Nat → Nat} {q x : Nat} (hq : q < 4) (hx : x < 24) (hQx : Q x = q + 1) (hpost : ∀ st' sk' gF' gC' gL' gR' gP' gD' gM' gO', h3_I K (hs_s Q x 0) gF' gC' gL' gR' gP' gD' gM' → post ((nI (st')), K, A, (hs_A sz), (hs_A hp), (hs_A pl), (hs_A pr), (hs_A pc), (hs_A pn), (hs_A pb), (hs_A rF), (hs_A rI), (hs_A rN), (hs_A rU), (hs_A rC), (hs_A rX), (hs_A rP), (hs_A rD), (hs_A gF'), (hs_A gC'), (hs_A gL'), (hs_A gR'), (hs_A gP'), (hs_A gD'), (hs_A gM'), (hs_A gO'), (hs_A lr), (hs_A ll), (hs_A lR), (hs_A lp), (hs_A lk), (hs_A wn), (hs_A sk'))) : ∀ (n : Nat) (l : List Nat) (child : Nat) (gF gC gL gR gP gD gM : Nat → Nat), l.length < n → l.Nodup → (∀ c, c ∈ l ↔ hs_T Q c ∧ gP c = x) → ((child = 24 ∧ l = []) ∨ child ∈ l) → h3_V K Q (hs_T Q) (fun z => z = x) hs_0 gC gP gD gM → h3_RS (hs_T Q) (h3_Z Q gP) gR gL → gP x = 24 → (∀ p, p < 4 → p ≠ q → (gF p = 24 ∧ ∀ c, hs_T Q c → Q c ≠ p + 1) ∨ (hs_T Q (gF p) ∧ Q (gF p) = p + 1 ∧ gP (gF p) = 24 ∧ ∀ c, hs_T Q c → Q c = p + 1 → gP c = 24 → c ≠ 24 → c = gF p ∨ hs_bef K (gF p) c)) → wX_removeFromRing_33 post (nI q) (nI x) n (nI child) (nI st) K A (hs_A sz) (hs_A hp) (hs_A pl) (hs_A pr) (hs_A pc) (hs_A pn) (hs_A pb) (hs_A rF) (hs_A rI) (hs_A rN) (hs_A rU) (hs_A rC) (hs_A rX) (hs_A rP) (hs_A rD) (hs_A gF) (hs_A gC) (hs_A gL) (hs_A gR) (hs_A gP) (hs_A gD) (hs_A gM) (hs_A gO) (hs_A lr) (hs_A ll) (hs_A lR) (hs_A lp) (hs_A lk) (hs_A wn) (hs_A sk) := by
  intro n
  induction n with
  | zero => intro l child gF gC gL gR gP gD gM h; omega
  | succ n ih =>
    intro l child gF gC gL gR gP gD gM hn hd hm hc hV hRS rx hG
    have lt := hV.1.1
    have tx : hs_T Q x := ⟨hx, by omega⟩
    have zx : h3_Z Q gP x = 32 + q := by unfold h3_Z; rw [if_pos rx, hQx]; omega
    have z40 : ∀ c, hs_T Q c → h3_Z Q gP c ≠ 40 := fun c tc => by have := h3_Z_40 hV tc; omega
    have zq : ∀ c, hs_T Q c → (h3_Z Q gP c = 32 + q ↔ gP c = 24 ∧ Q c = q + 1) := by
      intro c tc
      unfold h3_Z
      have := h3_gP hV tc
      by_cases e : gP c = 24
      · rw [if_pos e]; exact ⟨fun h => ⟨e, by omega⟩, fun h => by omega⟩
      · rw [if_neg e]; exact ⟨fun h => by omega, fun h => absurd h.1 e⟩
    have zc : ∀ c, hs_T Q c → (h3_Z Q gP c = x ↔ gP c = x) := by
      intro c tc
      have := hV.2.1 c tc
      unfold h3_Z
      by_cases e : gP c = 24
      · rw [if_pos e]; exact ⟨fun h => by omega, fun h => by omega⟩
      · rw [if_neg e]
    have c24 : child ≤ 24 := by
      rcases hc with o | o
      · omega
      · have := lt _ ((hm _).1 o).1; omega
    rw [wX_removeFromRing_33]
    refine pk_eq child 24 (fun e => ?_) (fun e => ?_)
    · have l0 : l = [] := by
        rcases hc with o | o
        · exact o.2
        · have := lt _ ((hm _).1 o).1; omega
      have nc : ∀ c, hs_T Q c → gP c ≠ x := fun c tc h => by
        have := (hm c).2 ⟨tc, h⟩
        rw [l0] at this; simp at this
      obtain ⟨r1, r2, r3, r4, _, r6⟩ := h3_right hRS tx
      have sp : ∀ z, hs_T (hs_s Q x 0) z → z ≠ x ∧ hs_T Q z ∧ hs_s Q x 0 z = Q z := fun z tz => by
        have zx : z ≠ x := fun e => tz.2 (by rw [hs_se e])
        have := tz.2
        rw [hs_sn zx] at this
        exact ⟨zx, ⟨tz.1, this⟩, hs_sn zx⟩
      have mk : ∀ z, hs_T Q z → z ≠ x → hs_T (hs_s Q x 0) z := fun z tz e => ⟨tz.1, by rw [hs_sn e]; exact tz.2⟩
      have hV1 := h3_Vdel hV (fun _ h => h) rx nc
      rw [hs_T_rem] at hV1
      have hV2 : h3_V K (hs_s Q x 0) (hs_T (hs_s Q x 0)) hs_no hs_0 gC gP gD gM := h3_V_cg hV1 ⟨hV1.1.1, fun c tc nc => by
        obtain ⟨a, b, d⟩ := hV1.1.2 c tc nc
        exact ⟨a, b, by rw [(sp _ a).2.2, (sp _ tc).2.2]; exact d⟩⟩ (fun z tz => by rw [(sp z tz).2.2]; exact hV1.2.1 z tz)
      have zz : ∀ z, hs_T (hs_s Q x 0) z → h3_Z (hs_s Q x 0) gP z = h3_Z Q gP z := fun z tz => by
        unfold h3_Z; rw [(sp z tz).2.2]
      have hG2 : ∀ p, p < 4 → p ≠ q → (gF p = 24 ∧ ∀ c, hs_T (hs_s Q x 0) c → hs_s Q x 0 c ≠ p + 1) ∨ (hs_T (hs_s Q x 0) (gF p) ∧ hs_s Q x 0 (gF p) = p + 1 ∧ gP (gF p) = 24 ∧ ∀ c, hs_T (hs_s Q x 0) c → hs_s Q x 0 c = p + 1 → gP c = 24 → c ≠ 24 → c = gF p ∨ hs_bef K (gF p) c) := by
        intro p hp ep
        rcases hG p hp ep with ⟨o1, o2⟩ | ⟨f1, f2, f3, f4⟩
        · refine Or.inl ⟨o1, fun c tc => ?_⟩
          rw [(sp c tc).2.2]; exact o2 c (sp c tc).2.1
        · have fx : gF p ≠ x := fun e => by rw [e] at f2; omega
          refine Or.inr ⟨mk _ f1 fx, by rw [hs_sn fx]; exact f2, f3, fun c tc gc pc ne => ?_⟩
          rw [(sp c tc).2.2] at gc
          exact f4 c (sp c tc).2.1 gc pc ne
      have x24 := hx
      have rl := lt _ r1
      refine hs_r x (by omega) ?_
      refine h3_lvw x 40 lt hRS tx z40 (fun gL' gR' hRS' => ?_)
      dsimp only
      have hRS2 : h3_RS (hs_T (hs_s Q x 0)) (h3_Z (hs_s Q x 0) gP) gR' gL' := by
        refine h3_ext (rid := h3_Z Q gP) (h3_rel hRS' (fun z tz => (sp z tz).2.1) (fun a ta c => ?_)) zz
        have ax := (sp a ta).1
        rw [hs_sn ax]
        by_cases ec : c = x
        · rw [ec, hs_ss]
          exact ⟨fun h => absurd rfl (sp x h.1).1, fun h => absurd h.2.symm (z40 a (sp a ta).2.1)⟩
        · rw [hs_sn ec]
          exact ⟨fun h => ⟨(sp c h.1).2.1, h.2⟩, fun h => ⟨mk c h.1 ec, h.2⟩⟩
      refine pk_eq (gR x) x (fun e2 => ?_) (fun e2 => ?_)
      · unfold wX_removeFromRing_134
        refine hs_w q 24 hq (by omega) ?_
        refine pk_eq (gR x) x (fun _ => ?_) (fun h => absurd e2 h)
        refine hpost st sk _ gC gL' gR' gP gD gM gO ⟨hV2, hRS2, fun p hp => ?_⟩
        by_cases ep : p = q
        · rw [ep, hs_ss]
          refine Or.inl ⟨rfl, fun c tc ec => ?_⟩
          obtain ⟨y, ty, ry, gy, o⟩ := hs_F_root hV2.1 (hs_rk K c) c (Nat.le_refl _) tc
          have ys := sp y ty
          have : Q y = q + 1 := by rw [← ys.2.2]; exact gy.trans ec
          exact ys.1 (r6 e2 y ys.2.1 (by rw [zx]; exact (zq y ys.2.1).2 ⟨ry, this⟩))
        · rw [hs_sn ep]; exact hG2 p hp ep
      · unfold wX_removeFromRing_134
        refine hs_w q (gR x) hq (by omega) ?_
        refine pk_eq (gR x) x (fun h => absurd h e2) (fun _ => ?_)
        obtain ⟨o1, o2⟩ := (zq _ r1).1 (r2.trans zx)
        refine h3_order q hq hV2 hRS2 (by rw [hs_ss]; exact mk _ r1 e2) (by rw [hs_ss, hs_sn e2]; exact o2) (by rw [hs_ss]; exact o1) (fun p hp ep => ?_) (fun st' sk' gF' gC' gL2 gR2 gP' gD' gM' gO' a b c => ?_)
        · rw [hs_sn ep]; exact hG2 p hp ep
        · dsimp only
          exact hpost _ _ _ _ _ _ _ _ _ _ ⟨a, b, c⟩
    · have cl : child ∈ l := hc.resolve_left (fun o => e o.1)
      obtain ⟨tc, pch⟩ := (hm child).1 cl
      have ct := lt _ tc
      have cx : child ≠ x := fun h => by rw [h, rx] at pch; omega
      obtain ⟨r1, r2, r3, r4, _, r6⟩ := h3_right hRS tc
      have rl := lt _ r1
      have zch := (zc child tc).2 pch
      have gch : Q child = q + 1 := by
        have := (hV.1.2 child tc (by omega)).2.2
        rw [pch] at this; omega
      have stp : ∀ nx, ((nx = 24 ∧ l.erase child = []) ∨ nx ∈ l.erase child) → wX_removeFromRing_64 post (wX_removeFromRing_33 post (nI q) (nI x) n) (nI q) (nI x) (nI child) (nI nx) (nI st) K A (hs_A sz) (hs_A hp) (hs_A pl) (hs_A pr) (hs_A pc) (hs_A pn) (hs_A pb) (hs_A rF) (hs_A rI) (hs_A rN) (hs_A rU) (hs_A rC) (hs_A rX) (hs_A rP) (hs_A rD) (hs_A gF) (hs_A gC) (hs_A gL) (hs_A gR) (hs_A gP) (hs_A gD) (hs_A gM) (hs_A gO) (hs_A lr) (hs_A ll) (hs_A lR) (hs_A lp) (hs_A lk) (hs_A wn) (hs_A sk) := by
        intro nx hnx
        unfold wX_removeFromRing_64
        refine h3_lvw child 40 lt hRS tc z40 (fun gL' gR' hRS' => ?_)
        dsimp only
        refine hs_wn child 24 (by omega) (by omega) (hs_wz child 0 (by omega) (by omega) ?_)
        refine h3_spw x child lt hRS' tx tc (by rw [hs_sn (Ne.symm cx), hs_ss]; exact z40 x tx) (fun gL2 gR2 hRS2 => ?_)
        dsimp only
        refine ih (l.erase child) nx gF gC gL2 gR2 _ gD _ ?_ (hd.erase child) (fun c => ?_) hnx (h3_Vroot hV tc tx pch rfl) (h3_ext hRS2 (fun z tz => ?_)) (by rw [hs_sn (Ne.symm cx)]; exact rx) (fun p hp ep => ?_)
        · have := List.length_erase_of_mem cl
          have := List.length_pos_of_mem cl
          omega
        · rw [hd.mem_erase_iff, hm c]
          by_cases ec : c = child
          · rw [ec, hs_ss]; exact ⟨fun h => absurd rfl h.1, fun h => by have := h.2; omega⟩
          · rw [hs_sn ec]; exact ⟨fun h => h.2, fun h => ⟨ec, h⟩⟩
        · rw [hs_ss, hs_sn (Ne.symm cx), zx]
          by_cases ez : z = child
          · rw [ez, hs_ss, if_pos rfl]; unfold h3_Z; rw [hs_ss, if_pos rfl, gch]; omega
          · rw [hs_sn ez, if_neg (z40 z tz)]; unfold h3_Z; rw [hs_sn ez]
        · rcases hG p hp ep with o | ⟨f1, f2, f3, f4⟩
          · exact Or.inl o
          · have fc : gF p ≠ child := fun h => by rw [h] at f2; omega
            refine Or.inr ⟨f1, f2, by rw [hs_sn fc]; exact f3, fun c tc' gc pc' ne => ?_⟩
            have cc : c ≠ child := fun h => by rw [h] at gc; omega
            rw [hs_sn cc] at pc'
            exact f4 c tc' gc pc' ne
      refine hs_in child (by omega) ?_
      refine pk_eq (gR child) child (fun e2 => ?_) (fun e2 => ?_) (hs_rd child (by omega)) rfl
      · refine stp 24 (Or.inl ⟨rfl, ?_⟩)
        cases hle : l.erase child with
        | nil => rfl
        | cons a s =>
          exfalso
          have am : a ∈ l.erase child := by rw [hle]; simp
          rw [hd.mem_erase_iff] at am
          obtain ⟨t1, t2⟩ := (hm a).1 am.2
          exact am.1 (r6 e2 a t1 (by rw [zch]; exact (zc a t1).2 t2))
      · refine hs_in child (by omega) ?_
        rw [hs_rd child (by omega)]
        refine stp (gR child) (Or.inr ?_)
        rw [hd.mem_erase_iff]
        exact ⟨e2, (hm _).2 ⟨r1, (zc _ r1).1 (r2.trans zch)⟩⟩
theorem h3_rem {post : SX → Prop} {Q : Nat → Nat} {q' x' : Int32} (q x : Nat) (hq : q < 4) (hx : x < 24) (hI : h3_I K Q gF gC gL gR gP gD gM) (hQx : Q x = q + 1) (hpost : ∀ st' sk' gF' gC' gL' gR' gP' gD' gM' gO', h3_I K (hs_s Q x 0) gF' gC' gL' gR' gP' gD' gM' → post ((nI (st')), K, A, (hs_A sz), (hs_A hp), (hs_A pl), (hs_A pr), (hs_A pc), (hs_A pn), (hs_A pb), (hs_A rF), (hs_A rI), (hs_A rN), (hs_A rU), (hs_A rC), (hs_A rX), (hs_A rP), (hs_A rD), (hs_A gF'), (hs_A gC'), (hs_A gL'), (hs_A gR'), (hs_A gP'), (hs_A gD'), (hs_A gM'), (hs_A gO'), (hs_A lr), (hs_A ll), (hs_A lR), (hs_A lp), (hs_A lk), (hs_A wn), (hs_A sk'))) (eq : q' = nI q := by rfl) (ex : x' = nI x := by rfl) : wpX_removeFromRing post ((nI st), K, A, (hs_A sz), (hs_A hp), (hs_A pl), (hs_A pr), (hs_A pc), (hs_A pn), (hs_A pb), (hs_A rF), (hs_A rI), (hs_A rN), (hs_A rU), (hs_A rC), (hs_A rX), (hs_A rP), (hs_A rD), (hs_A gF), (hs_A gC), (hs_A gL), (hs_A gR), (hs_A gP), (hs_A gD), (hs_A gM), (hs_A gO), (hs_A lr), (hs_A ll), (hs_A lR), (hs_A lp), (hs_A lk), (hs_A wn), (hs_A sk)) q' x' := by
  subst eq; subst ex
  obtain ⟨hV, hRS, hG⟩ := hI
  have tx : hs_T Q x := ⟨hx, by omega⟩
  have lt := hV.1.1
  have start : ∀ gF gC gL gR gP gD gM, h3_V K Q (hs_T Q) hs_no hs_0 gC gP gD gM → h3_RS (hs_T Q) (h3_Z Q gP) gR gL → h3_G K Q (hs_T Q) gP gF 24 → gP x = 24 → ∃ n33, wX_removeFromRing_33 post (nI q) (nI x) n33 (nI (gC x)) (nI st) K A (hs_A sz) (hs_A hp) (hs_A pl) (hs_A pr) (hs_A pc) (hs_A pn) (hs_A pb) (hs_A rF) (hs_A rI) (hs_A rN) (hs_A rU) (hs_A rC) (hs_A rX) (hs_A rP) (hs_A rD) (hs_A gF) (hs_A gC) (hs_A gL) (hs_A gR) (hs_A gP) (hs_A gD) (hs_A gM) (hs_A gO) (hs_A lr) (hs_A ll) (hs_A lR) (hs_A lp) (hs_A lk) (hs_A wn) (hs_A sk) := by
    intro gF gC gL gR gP gD gM hV hRS hG rx
    obtain ⟨lo, l1, l2, l3, l4⟩ := hV.2.2.2.2 x tx id
    refine ⟨lo.length + 1, h3_rmL hq hx hQx hpost _ lo (gC x) gF gC gL gR gP gD gM (Nat.lt_succ_self _) l1 l2 ?_ ⟨hV.1, hV.2.1, fun y ty _ => hV.2.2.1 y ty id, hV.2.2.2.1, fun y ty _ => hV.2.2.2.2 y ty id⟩ hRS rx (fun p hp _ => hG p hp)⟩
    rcases hV.2.2.1 x tx id with ⟨o1, o2⟩ | o
    · refine Or.inl ⟨o1, ?_⟩
      cases hlo : lo with
      | nil => rfl
      | cons a s =>
        exfalso
        obtain ⟨t1, t2⟩ := (l2 a).1 (by rw [hlo]; simp)
        exact o2 a t1 t2
    · exact Or.inr ((l2 _).2 o)
  have gp := h3_gP hV tx
  unfold wpX_removeFromRing
  dsimp only
  refine hs_r x (by omega) ?_
  refine pk_eq (gP x) 24 (fun e => ?_) (fun e => ?_)
  · refine hs_r x (by omega) ?_
    exact start gF gC gL gR gP gD gM hV hRS hG e
  · obtain ⟨p24, tp, bp, gpp⟩ := gp.resolve_left e
    have hF' : hs_F K Q (hs_T Q) (fun c => hs_s gP x 24 c = 24) (hs_s gP x 24) := by
      refine ⟨lt, fun c tc nc => ?_⟩
      dsimp only at nc
      by_cases ec : c = x
      · rw [ec, hs_ss] at nc; exact absurd rfl nc
      · rw [hs_sn ec] at nc ⊢; exact hV.1.2 c tc nc
    refine h3_cutRing q x hq hV hRS tx e (fun _ _ => rfl) hQx hF' hG (fun gF' gC' gL' gR' gD' gM' hV' hRS' hG' => ?_)
    dsimp only
    unfold wpX_cutUp
    dsimp only
    refine ⟨_, h3_cutUpL (gP0 := hs_s gP x 24) (xi := 24) hq (fun gF2 gC2 gL2 gR2 gP2 gD2 gM2 hV2 hRS2 hG2 hP2 => ?_) (hs_rk K (gP x) + 1) (gP x) gF' gC' gL' gR' _ gD' gM' (Nat.lt_succ_self _) tp (gpp.trans hQx) hV' hRS' hG' (fun _ h => h)⟩
    dsimp only
    refine hs_r x (by omega) ?_
    exact start gF2 gC2 gL2 gR2 gP2 gD2 gM2 hV2 hRS2 hG2 (hP2 x hs_ss)
end
end
section
/-! engine 2: rows of trees, the pure part -/
def h2_dn (rD : Nat → Nat) : Nat → List Nat → Prop
  | d, [] => d = 0
  | d, c :: t => d = rD c + 1 ∧ h2_dn rD (rD c) t
def h2_up (rD : Nat → Nat) : Nat → List Nat → Prop
  | _, [] => True
  | d, c :: t => d ≤ rD c ∧ h2_up rD (rD c + 1) t
def h2_cx (rX : Nat → Nat) : List Nat → Prop
  | [] => True
  | [_] => True
  | a :: b :: t => rX a = b ∧ h2_cx rX (b :: t)
theorem h2_dn_fr {rD rD' : Nat → Nat} : ∀ {l : List Nat} {d : Nat}, (∀ z, z ∈ l → rD' z = rD z) → h2_dn rD d l → h2_dn rD' d l
  | [], _, _, h => h
  | c :: t, d, h, ⟨a, b⟩ => by
    have e := h c (by simp)
    exact ⟨by rw [e]; exact a, by rw [e]; exact h2_dn_fr (fun z hz => h z (by simp [hz])) b⟩
theorem h2_dn_len {rD : Nat → Nat} : ∀ {l : List Nat} {d : Nat}, h2_dn rD d l → l.length = d
  | [], _, h => h.symm
  | c :: t, d, ⟨a, b⟩ => by
    have := h2_dn_len b
    rw [List.length_cons]; omega
theorem h2_dn_lt {rD : Nat → Nat} : ∀ {l : List Nat} {d : Nat}, h2_dn rD d l → ∀ c, c ∈ l → rD c < d
  | [], _, _, c, hc => by simp at hc
  | a :: t, d, ⟨h1, h2⟩, c, hc => by
    rcases List.mem_cons.1 hc with e | e
    · rw [e]; omega
    · have := h2_dn_lt h2 c e; omega
theorem h2_up_fr {rD rD' : Nat → Nat} : ∀ {l : List Nat} {d : Nat}, (∀ z, z ∈ l → rD' z = rD z) → h2_up rD d l → h2_up rD' d l
  | [], _, _, _ => trivial
  | c :: t, d, h, ⟨a, b⟩ => by
    have e := h c (by simp)
    exact ⟨by rw [e]; exact a, by rw [e]; exact h2_up_fr (fun z hz => h z (by simp [hz])) b⟩
theorem h2_up_le {rD : Nat → Nat} : ∀ {l : List Nat} {d e : Nat}, e ≤ d → h2_up rD d l → h2_up rD e l
  | [], _, _, _, _ => trivial
  | _ :: _, _, _, h, ⟨a, b⟩ => ⟨by omega, b⟩
theorem h2_up_mem {rD : Nat → Nat} : ∀ {l : List Nat} {d : Nat}, h2_up rD d l → ∀ c, c ∈ l → d ≤ rD c
  | [], _, _, c, hc => by simp at hc
  | a :: t, d, ⟨h1, h2⟩, c, hc => by
    rcases List.mem_cons.1 hc with e | e
    · rw [e]; exact h1
    · have := h2_up_mem h2 c e; omega
theorem h2_up_app {rD : Nat → Nat} : ∀ {l1 l2 : List Nat} {d : Nat}, h2_up rD d l1 → (∀ a, a ∈ l1 → ∀ b, b ∈ l2 → rD a < rD b) → h2_up rD d l2 → h2_up rD d (l1 ++ l2)
  | [], _, _, _, _, h => h
  | c :: t, l2, d, ⟨a, b⟩, h, h2 => by
    refine ⟨a, h2_up_app (l1 := t) b (fun x hx y hy => h x (by simp [hx]) y hy) ?_⟩
    cases l2 with
    | nil => trivial
    | cons y s =>
      have := h c (by simp) y (by simp)
      exact ⟨by omega, h2.2⟩
theorem h2_up_sub {rD : Nat → Nat} {x : Nat} {l2 : List Nat} : ∀ {l1 : List Nat} {d : Nat}, h2_up rD d (l1 ++ x :: l2) → h2_up rD d (l1 ++ l2)
  | [], _, ⟨a, b⟩ => h2_up_le (by omega) b
  | _ :: t, _, ⟨a, b⟩ => ⟨a, h2_up_sub (l1 := t) b⟩
/-- the children of a node turned around -/
theorem h2_dn_rev {rD : Nat → Nat} : ∀ {l : List Nat} {d : Nat}, h2_dn rD d l → h2_up rD 0 l.reverse
  | [], _, _ => trivial
  | c :: t, d, ⟨a, b⟩ => by
    rw [List.reverse_cons]
    refine h2_up_app (h2_dn_rev b) (fun x hx y hy => ?_) ⟨Nat.zero_le _, trivial⟩
    rw [List.mem_singleton] at hy
    rw [hy]
    exact h2_dn_lt b x (List.mem_reverse.1 hx)
theorem h2_cx_app {rX : Nat → Nat} {c : Nat} : ∀ {l : List Nat}, h2_cx rX l → (l ≠ [] → rX (h3_la l) = c) → h2_cx rX (l ++ [c])
  | [], _, _ => trivial
  | [a], _, h => ⟨h (by simp), trivial⟩
  | a :: b :: t, ⟨h1, h2⟩, h => ⟨h1, h2_cx_app (l := b :: t) h2 (fun _ => h (by simp))⟩
theorem h2_cx_fr {rX rX' : Nat → Nat} : ∀ {l : List Nat}, l.Nodup → (∀ z, z ∈ l → z ≠ h3_la l → rX' z = rX z) → h2_cx rX l → h2_cx rX' l
  | [], _, _, _ => trivial
  | [_], _, _, _ => trivial
  | a :: b :: t, hd, h, ⟨h1, h2⟩ => by
    have hd' := List.nodup_cons.1 hd
    refine ⟨?_, h2_cx_fr hd'.2 (fun z hz hn => h z (List.mem_cons_of_mem _ hz) hn) h2⟩
    rw [h a (by simp)]
    · exact h1
    · intro e
      exact hd'.1 (by rw [e]; exact h3_la_m (l := b :: t) (by simp))
theorem h2_cx_nx {rX : Nat → Nat} : ∀ {l : List Nat}, h2_cx rX l → (l ≠ [] → rX (h3_la l) = 24) → h1_nx rX l
  | [], _, _ => trivial
  | [a], _, h => ⟨h (by simp), trivial⟩
  | a :: b :: t, ⟨h1, h2⟩, h => ⟨h1, h2_cx_nx (l := b :: t) h2 (fun _ => h (by simp))⟩
theorem h2_nx_app {rX : Nat → Nat} {l2 : List Nat} : ∀ {l1 : List Nat}, h1_nx rX (l1 ++ l2) → h1_nx rX l2
  | [], h => h
  | _ :: t, h => h2_nx_app (l1 := t) h.2
/-- another chain behind the first part -/
theorem h2_nx_re {rX rX' : Nat → Nat} {l2 l2' : List Nat} : ∀ {l1 : List Nat}, h1_nx rX (l1 ++ l2) → l1.Nodup → (∀ z, z ∈ l1 → z ≠ h3_la l1 → rX' z = rX z) → (l1 ≠ [] → rX' (h3_la l1) = h1_hd l2') → h1_nx rX' l2' → h1_nx rX' (l1 ++ l2')
  | [], _, _, _, _, h => h
  | [a], _, _, _, h, h2 => ⟨h (by simp), h2⟩
  | a :: b :: t, ⟨h1, h2⟩, hd, h3, h4, h5 => by
    have hd' := List.nodup_cons.1 hd
    refine ⟨?_, h2_nx_re (l1 := b :: t) h2 hd'.2 (fun z hz hn => h3 z (List.mem_cons_of_mem _ hz) hn) (fun _ => h4 (by simp)) h5⟩
    rw [h3 a (by simp)]
    · exact h1
    · intro e
      exact hd'.1 (by rw [e]; exact h3_la_m (l := b :: t) (by simp))
theorem h2_nx_at {rX : Nat → Nat} {x : Nat} {l2 : List Nat} : ∀ {l1 : List Nat}, h1_nx rX (l1 ++ x :: l2) → rX x = h1_hd l2
  | [], h => h.1
  | _ :: t, h => h2_nx_at (l1 := t) h.2
/-- trees over nodes: children in a chain, their degrees falling to 0 -/
def h2_W (U : Nat → Prop) (gq rC rX rP rD : Nat → Nat) : Prop :=
  (∀ n, U n → n < 24 ∧ ∃ l : List Nat, rC n = h1_hd l ∧ h1_nx rX l ∧ l.Nodup ∧ (∀ c, c ∈ l ↔ U c ∧ rP c = n) ∧ h2_dn rD (rD n) l) ∧ (∀ c, U c → rP c = 24 ∨ (U (rP c) ∧ gq (rP c) = gq c))
def h2_O (U : Nat → Prop) (K : Nat → Int32) (rI rP : Nat → Nat) : Prop := ∀ c, U c → rP c ≠ 24 → hs_bef K (rI (rP c)) (rI c)
theorem h2_lt {U : Nat → Prop} {gq rC rX rP rD : Nat → Nat} (h : h2_W U gq rC rX rP rD) : ∀ z, U z → z < 24 := fun z hz => (h.1 z hz).1
theorem h2_d24 {U : Nat → Prop} {gq rC rX rP rD : Nat → Nat} (h : h2_W U gq rC rX rP rD) {n : Nat} (un : U n) : rD n ≤ 24 ∧ rC n ≤ 24 := by
  obtain ⟨_, l, l1, l2, l3, l4, l5⟩ := h.1 n un
  have lt : ∀ z, z ∈ l → z < 24 := fun z hz => h2_lt h z ((l4 z).1 hz).1
  have := hs_len l3 lt
  rw [h2_dn_len l5] at this
  rw [l1]
  exact ⟨this, (h1_hd_n lt).1⟩
theorem h2_deg {U : Nat → Prop} {gq rC rX rP rD : Nat → Nat} (h : h2_W U gq rC rX rP rD) {c : Nat} (uc : U c) (hc : rP c ≠ 24) : U (rP c) ∧ gq (rP c) = gq c ∧ rD c < rD (rP c) := by
  obtain ⟨a, b⟩ := (h.2 c uc).resolve_left hc
  obtain ⟨_, l, l1, l2, l3, l4, l5⟩ := h.1 _ a
  exact ⟨a, b, h2_dn_lt l5 c ((l4 c).2 ⟨uc, rfl⟩)⟩
/-- what is read: next of children alone -/
theorem h2_W_X {U : Nat → Prop} {gq rC rX rX' rP rD : Nat → Nat} (h : h2_W U gq rC rX rP rD) (hx : ∀ z, U z → rP z ≠ 24 → rX' z = rX z) : h2_W U gq rC rX' rP rD := by
  refine ⟨fun n un => ?_, h.2⟩
  obtain ⟨n24, l, l1, l2, l3, l4, l5⟩ := h.1 n un
  exact ⟨n24, l, l1, h1_nx_fr (fun z hz => hx z ((l4 z).1 hz).1 (by rw [((l4 z).1 hz).2]; omega)) l2, l3, l4, l5⟩
theorem h2_W_g {U : Nat → Prop} {gq gq' rC rX rP rD : Nat → Nat} (h : h2_W U gq rC rX rP rD) (hg : ∀ z z', U z → U z' → gq z = gq z' → gq' z = gq' z') : h2_W U gq' rC rX rP rD :=
  ⟨h.1, fun c uc => (h.2 c uc).imp id (fun o => ⟨o.1, hg _ _ o.1 uc o.2⟩)⟩
theorem h2_link {U : Nat → Prop} {gq rC rX rP rD : Nat → Nat} {t u : Nat} (h : h2_W U gq rC rX rP rD) (ut : U t) (uu : U u) (rt : rP t = 24) (ru : rP u = 24) (tu : t ≠ u) (hd : rD t = rD u) (hg : gq t = gq u) : h2_W U gq (hs_s rC t u) (hs_s rX u (rC t)) (hs_s rP u t) (hs_s rD t (rD t + 1)) := by
  have t24 := h2_lt h t ut
  refine ⟨fun n un => ?_, fun c uc => ?_⟩
  · obtain ⟨n24, l, l1, l2, l3, l4, l5⟩ := h.1 n un
    have nu : u ∉ l := fun hm => by have := ((l4 u).1 hm).2; omega
    have nt : t ∉ l := fun hm => by have := ((l4 t).1 hm).2; omega
    have zu : ∀ z, z ∈ l → z ≠ u := fun z hz e => nu (e ▸ hz)
    have zt : ∀ z, z ∈ l → z ≠ t := fun z hz e => nt (e ▸ hz)
    have nx : h1_nx (hs_s rX u (rC t)) l := h1_nx_fr (fun z hz => hs_sn (zu z hz)) l2
    have dn : ∀ d, h2_dn rD d l → h2_dn (hs_s rD t (rD t + 1)) d l := fun d hd' => h2_dn_fr (fun z hz => hs_sn (zt z hz)) hd'
    refine ⟨n24, ?_⟩
    by_cases e : n = t
    · subst e
      refine ⟨u :: l, by rw [hs_ss]; rfl, ⟨by rw [hs_ss]; exact l1, nx⟩, List.nodup_cons.2 ⟨nu, l3⟩, fun c => ?_, ?_⟩
      · rw [List.mem_cons, l4 c]
        by_cases ec : c = u
        · rw [ec, hs_ss]; exact ⟨fun _ => ⟨uu, rfl⟩, fun _ => Or.inl rfl⟩
        · rw [hs_sn ec]; exact ⟨fun h => h.resolve_left ec, Or.inr⟩
      · rw [hs_ss]
        have e1 : hs_s rD n (rD n + 1) u = rD n := by rw [hs_sn (Ne.symm tu)]; exact hd.symm
        refine ⟨by rw [e1], ?_⟩
        rw [e1]; exact dn _ l5
    · refine ⟨l, by rw [hs_sn e]; exact l1, nx, l3, fun c => ?_, by rw [hs_sn e]; exact dn _ l5⟩
      rw [l4 c]
      by_cases ec : c = u
      · rw [ec, hs_ss]; exact ⟨fun h => by have := h.2; omega, fun h => absurd h.2.symm e⟩
      · rw [hs_sn ec]
  · by_cases ec : c = u
    · rw [ec, hs_ss]; exact Or.inr ⟨ut, hg⟩
    · rw [hs_sn ec]; exact h.2 c uc
theorem h2_linkO {U : Nat → Prop} {K : Nat → Int32} {rI rP : Nat → Nat} {t u : Nat} (h : h2_O U K rI rP) (hb : hs_bef K (rI t) (rI u)) : h2_O U K rI (hs_s rP u t) := by
  intro c uc hc
  by_cases ec : c = u
  · rw [ec, hs_ss]; exact hb
  · rw [hs_sn ec] at hc ⊢; exact h c uc hc
end
section
/-! engine 2: linking, and putting two rows together -/
section
variable {st : Nat} {K A : Nat → Int32} {sz hp pl pr pc pn pb rF rI rN rU rC rX rP rD gF gC gL gR gP gD gM gO lr ll lR lp lk wn sk : Nat → Nat}
theorem h2_lkw {post : Int32 → SX → Prop} {U : Nat → Prop} {gq : Nat → Nat} {a' b' : Int32} (a b : Nat) (hW : h2_W U gq rC rX rP rD) (ua : U a) (ub : U b) (ia : rI a < 24) (ib : rI b < 24) (hne : rI a ≠ rI b) (hpost : ∀ t u, ((t = a ∧ u = b) ∨ (t = b ∧ u = a)) → hs_bef K (rI t) (rI u) → post (nI t) ((nI st), K, A, (hs_A sz), (hs_A hp), (hs_A pl), (hs_A pr), (hs_A pc), (hs_A pn), (hs_A pb), (hs_A rF), (hs_A rI), (hs_A rN), (hs_A rU), (hs_A (hs_s rC t u)), (hs_A (hs_s rX u (rC t))), (hs_A (hs_s rP u t)), (hs_A (hs_s rD t (rD t + 1))), (hs_A gF), (hs_A gC), (hs_A gL), (hs_A gR), (hs_A gP), (hs_A gD), (hs_A gM), (hs_A gO), (hs_A lr), (hs_A ll), (hs_A lR), (hs_A lp), (hs_A lk), (hs_A wn), (hs_A sk))) (ea : a' = nI a := by rfl) (eb : b' = nI b := by rfl) : wpX_linkRow post ((nI st), K, A, (hs_A sz), (hs_A hp), (hs_A pl), (hs_A pr), (hs_A pc), (hs_A pn), (hs_A pb), (hs_A rF), (hs_A rI), (hs_A rN), (hs_A rU), (hs_A rC), (hs_A rX), (hs_A rP), (hs_A rD), (hs_A gF), (hs_A gC), (hs_A gL), (hs_A gR), (hs_A gP), (hs_A gD), (hs_A gM), (hs_A gO), (hs_A lr), (hs_A ll), (hs_A lR), (hs_A lp), (hs_A lk), (hs_A wn), (hs_A sk)) a' b' := by
  subst ea; subst eb
  have a24 := h2_lt hW a ua
  have b24 := h2_lt hW b ub
  have go : ∀ t u, ((t = a ∧ u = b) ∨ (t = b ∧ u = a)) → hs_bef K (rI t) (rI u) → wX_linkRow_35 post (nI t) (nI u) (nI st) K A (hs_A sz) (hs_A hp) (hs_A pl) (hs_A pr) (hs_A pc) (hs_A pn) (hs_A pb) (hs_A rF) (hs_A rI) (hs_A rN) (hs_A rU) (hs_A rC) (hs_A rX) (hs_A rP) (hs_A rD) (hs_A gF) (hs_A gC) (hs_A gL) (hs_A gR) (hs_A gP) (hs_A gD) (hs_A gM) (hs_A gO) (hs_A lr) (hs_A ll) (hs_A lR) (hs_A lp) (hs_A lk) (hs_A wn) (hs_A sk) := by
    intro t u htu hb
    have ut : U t := by rcases htu with ⟨e, _⟩ | ⟨e, _⟩ <;> rw [e] <;> assumption
    have uu : U u := by rcases htu with ⟨_, e⟩ | ⟨_, e⟩ <;> rw [e] <;> assumption
    have t24 := h2_lt hW t ut
    have u24 := h2_lt hW u uu
    obtain ⟨d24, c24⟩ := h2_d24 hW ut
    unfold wX_linkRow_35
    refine hs_w u t (by omega) (by omega) (hs_in t (by omega) (hs_wn u (rC t) (by omega) (by omega) ?_ rfl (hs_rd t (by omega))))
    refine hs_w t u (by omega) (by omega) (hs_in t (by omega) (hs_w t (rD t + 1) (by omega) (by omega) ?_ rfl (by rw [hs_rd t (by omega), nI_1])))
    exact hpost t u htu hb
  unfold wpX_linkRow
  dsimp only
  refine hs_in a (by omega) (hs_in b (by omega) ?_)
  refine hs_cbb (rI a) (rI b) ia ib (fun hb => ?_) (fun hb => ?_) (hs_rd a (by omega)) (hs_rd b (by omega))
  · unfold wX_linkRow_24
    exact pk_eq a a (fun _ => go a b (Or.inl ⟨rfl, rfl⟩) hb) (fun n => absurd rfl n)
  · unfold wX_linkRow_24
    exact pk_eq b a (fun n => absurd (by rw [n]) hne) (fun _ => go b a (Or.inr ⟨rfl, rfl⟩) (hs_bef_tot hb hne))
theorem h2_sL {post : Int32 → SX → Prop} {M : List Nat} {rX0 : Nat → Nat} (hMd : M.Nodup) (hM24 : ∀ z, z ∈ M → z < 24 ∧ rD z ≤ 24) (hpost : ∀ L rX', L.Perm M → L.Nodup → L.Pairwise (fun a b => rD a ≤ rD b) → h1_nx rX' L → (∀ z, z ∉ M → rX' z = rX0 z) → post (nI (h1_hd L)) ((nI st), K, A, (hs_A sz), (hs_A hp), (hs_A pl), (hs_A pr), (hs_A pc), (hs_A pn), (hs_A pb), (hs_A rF), (hs_A rI), (hs_A rN), (hs_A rU), (hs_A rC), (hs_A rX'), (hs_A rP), (hs_A rD), (hs_A gF), (hs_A gC), (hs_A gL), (hs_A gR), (hs_A gP), (hs_A gD), (hs_A gM), (hs_A gO), (hs_A lr), (hs_A ll), (hs_A lR), (hs_A lp), (hs_A lk), (hs_A wn), (hs_A sk))) : ∀ (n : Nat) (P lx ly : List Nat) (rX : Nat → Nat), lx.length + ly.length < n → (P ++ (lx ++ ly)).Perm M → h2_cx rX P → (P ≠ [] → rX (h3_la P) = h1_hd lx ∨ rX (h3_la P) = h1_hd ly) → h1_nx rX lx → h1_nx rX ly → P.Pairwise (fun a b => rD a ≤ rD b) → h2_up rD 0 lx → h2_up rD 0 ly → (∀ p, p ∈ P → ∀ r, r ∈ lx ++ ly → rD p ≤ rD r) → (∀ z, z ∉ M → rX z = rX0 z) → wX_sortRows_13 post (nI st) n (nI (h1_hd P)) (nI (h3_la P)) (nI (h1_hd lx)) (nI (h1_hd ly)) K A (hs_A sz) (hs_A hp) (hs_A pl) (hs_A pr) (hs_A pc) (hs_A pn) (hs_A pb) (hs_A rF) (hs_A rI) (hs_A rN) (hs_A rU) (hs_A rC) (hs_A rX) (hs_A rP) (hs_A rD) (hs_A gF) (hs_A gC) (hs_A gL) (hs_A gR) (hs_A gP) (hs_A gD) (hs_A gM) (hs_A gO) (hs_A lr) (hs_A ll) (hs_A lR) (hs_A lp) (hs_A lk) (hs_A wn) (hs_A sk) := by
  intro n
  induction n with
  | zero => intro P lx ly rX h; omega
  | succ n ih =>
    intro P lx ly rX hn hP hcx hla hnx hny hPs hux huy hPr hfr
    have hd := hP.symm.nodup hMd
    have mm : ∀ z, z ∈ P ++ (lx ++ ly) → z < 24 ∧ rD z ≤ 24 := fun z hz => hM24 z (hP.mem_iff.1 hz)
    have lt : ∀ z, z ∈ P ++ (lx ++ ly) → z < 24 := fun z hz => (mm z hz).1
    obtain ⟨nP, nr, nPr⟩ := List.nodup_append.1 hd
    obtain ⟨nlx, nly, nxy⟩ := List.nodup_append.1 nr
    have hx24 := h1_hd_n (l := lx) (fun z hz => lt z (by simp [hz]))
    have hy24 := h1_hd_n (l := ly) (fun z hz => lt z (by simp [hz]))
    have hp24 := h1_hd_n (l := P) (fun z hz => lt z (by simp [hz]))
    have la24 : h3_la P ≤ 24 ∧ (h3_la P = 24 ↔ P = []) := by
      by_cases e : P = []
      · rw [e]; exact ⟨Nat.le_refl _, by simp [h3_la]⟩
      · have := lt _ (List.mem_append_left _ (h3_la_m e))
        exact ⟨by omega, ⟨fun h => by omega, fun h => absurd h e⟩⟩
    -- what both branches come to: c is taken
    have tk : ∀ c lx' ly', c ∈ lx ++ ly → lx'.length + ly'.length < n → ((P ++ [c]) ++ (lx' ++ ly')).Perm M → (rX c = h1_hd lx' ∨ rX c = h1_hd ly') → (∀ z, z ∈ lx' → z ∈ lx ++ ly ∧ z ≠ c) → (∀ z, z ∈ ly' → z ∈ lx ++ ly ∧ z ≠ c) → h1_nx rX lx' → h1_nx rX ly' → h2_up rD 0 lx' → h2_up rD 0 ly' → (∀ r, r ∈ lx' ++ ly' → rD c ≤ rD r) → ∀ x5 x6, x5 = nI (h1_hd lx') → x6 = nI (h1_hd ly') → wX_sortRows_115 post (wX_sortRows_13 post (nI st) n) (nI (h1_hd P)) (nI (h3_la P)) x5 (nI c) x6 (nI st) K A (hs_A sz) (hs_A hp) (hs_A pl) (hs_A pr) (hs_A pc) (hs_A pn) (hs_A pb) (hs_A rF) (hs_A rI) (hs_A rN) (hs_A rU) (hs_A rC) (hs_A rX) (hs_A rP) (hs_A rD) (hs_A gF) (hs_A gC) (hs_A gL) (hs_A gR) (hs_A gP) (hs_A gD) (hs_A gM) (hs_A gO) (hs_A lr) (hs_A ll) (hs_A lR) (hs_A lp) (hs_A lk) (hs_A wn) (hs_A sk) := by
      intro c lx' ly' cm hn' hP' hcl hzx hzy hnx' hny' hux' huy' hcr x5 x6 e5 e6
      have c24 := lt c (List.mem_append_right _ cm)
      have cP : c ∉ P := fun h => nPr c h c cm rfl
      have nPc : (P ++ [c]).Nodup := by
        rw [List.nodup_append]
        refine ⟨nP, by simp, fun a ha b hb e => ?_⟩
        rw [List.mem_singleton] at hb
        exact cP (by rw [← hb, ← e]; exact ha)
      have hdc : h1_hd (P ++ [c]) = if P = [] then c else h1_hd P := by
        by_cases e : P = []
        · rw [if_pos e, e]; rfl
        · rw [if_neg e]; exact h3_hd_app e
      have lac : h3_la (P ++ [c]) = c := h3_la_app (by simp)
      have srt : (P ++ [c]).Pairwise (fun a b => rD a ≤ rD b) := by
        rw [List.pairwise_append]
        refine ⟨hPs, by simp, fun a ha b hb => ?_⟩
        rw [List.mem_singleton] at hb
        rw [hb]; exact hPr a ha c cm
      have prr : ∀ p, p ∈ P ++ [c] → ∀ r, r ∈ lx' ++ ly' → rD p ≤ rD r := by
        intro p hp r hr
        rw [List.mem_append, List.mem_singleton] at hp
        rcases hp with hp | hp
        · refine hPr p hp r ?_
          rcases List.mem_append.1 hr with h | h
          · exact (hzx r h).1
          · exact (hzy r h).1
        · rw [hp]; exact hcr r hr
      have j129 : ∀ first, first = nI (h1_hd (P ++ [c])) → wX_sortRows_129 post (wX_sortRows_13 post (nI st) n) (nI (h3_la P)) x5 x6 (nI c) first (nI st) K A (hs_A sz) (hs_A hp) (hs_A pl) (hs_A pr) (hs_A pc) (hs_A pn) (hs_A pb) (hs_A rF) (hs_A rI) (hs_A rN) (hs_A rU) (hs_A rC) (hs_A rX) (hs_A rP) (hs_A rD) (hs_A gF) (hs_A gC) (hs_A gL) (hs_A gR) (hs_A gP) (hs_A gD) (hs_A gM) (hs_A gO) (hs_A lr) (hs_A ll) (hs_A lR) (hs_A lp) (hs_A lk) (hs_A wn) (hs_A sk) := by
        intro first ef
        unfold wX_sortRows_129
        refine pk_eq (h3_la P) 24 (fun e => ?_) (fun e => ?_)
        · have e0 := la24.2.1 e
          have := ih (P ++ [c]) lx' ly' rX hn' hP' (by rw [e0]; trivial) (fun _ => by rw [lac]; exact hcl) hnx' hny' srt hux' huy' prr hfr
          rw [lac] at this
          rw [ef, e5, e6]; exact this
        · have e0 : P ≠ [] := fun h => e (la24.2.2 h)
          have lm := h3_la_m e0
          have cl : c ≠ h3_la P := fun h => cP (by rw [h]; exact lm)
          refine hs_w (h3_la P) c (by omega) (by omega) ?_
          have out : ∀ z, z ∈ lx ++ ly → z ≠ h3_la P := fun z hz h => nPr _ lm z hz h.symm
          have := ih (P ++ [c]) lx' ly' (hs_s rX (h3_la P) c) hn' hP' (h2_cx_app (h2_cx_fr nP (fun z hz hn => hs_sn hn) hcx) (fun _ => hs_ss)) (fun _ => by rw [lac, hs_sn cl]; exact hcl) (h1_nx_fr (fun z hz => hs_sn (out z (hzx z hz).1)) hnx') (h1_nx_fr (fun z hz => hs_sn (out z (hzy z hz).1)) hny') srt hux' huy' prr (fun z hz => by
            rw [hs_sn (fun h => hz (hP.mem_iff.1 (List.mem_append_left _ (by rw [h]; exact lm))))]; exact hfr z hz)
          rw [lac] at this
          rw [ef, e5, e6]; exact this
      unfold wX_sortRows_115
      refine pk_eq (h1_hd P) 24 (fun e => ?_) (fun e => ?_)
      · exact j129 _ (by rw [hdc, if_pos (hp24.2.1 e)])
      · exact j129 _ (by rw [hdc, if_neg (fun h => e (hp24.2.2 h))])
    have fx : ∀ c lx', lx = c :: lx' → (∀ r, r ∈ ly → rD c ≤ rD r) → wX_sortRows_63 post (wX_sortRows_13 post (nI st) n) (nI (h1_hd P)) (nI (h3_la P)) (nI c) (nI (h1_hd ly)) 1 (nI st) K A (hs_A sz) (hs_A hp) (hs_A pl) (hs_A pr) (hs_A pc) (hs_A pn) (hs_A pb) (hs_A rF) (hs_A rI) (hs_A rN) (hs_A rU) (hs_A rC) (hs_A rX) (hs_A rP) (hs_A rD) (hs_A gF) (hs_A gC) (hs_A gL) (hs_A gR) (hs_A gP) (hs_A gD) (hs_A gM) (hs_A gO) (hs_A lr) (hs_A ll) (hs_A lR) (hs_A lp) (hs_A lk) (hs_A wn) (hs_A sk) := by
      intro c lx' e hle
      subst e
      have c24 := lt c (by simp)
      unfold wX_sortRows_63
      refine br_f (by decide) ?_
      unfold wX_sortRows_77
      refine br_f (by decide) (hs_in c (by omega) ?_)
      unfold wX_sortRows_96
      refine br_f (by decide) ?_
      rw [List.nodup_cons] at nlx
      refine tk c lx' ly (by simp) (by simp at hn; omega) (by rw [List.append_assoc]; exact hP) (Or.inl hnx.1) (fun z hz => ⟨by simp [hz], fun h => nlx.1 (h ▸ hz)⟩) (fun z hz => ⟨by simp [hz], fun h => nxy c (by simp) z hz h.symm⟩) hnx.2 hny (h2_up_le (Nat.zero_le _) hux.2) huy (fun r hr => ?_) _ _ (by rw [hs_rd c (by omega), hnx.1]) rfl
      rcases List.mem_append.1 hr with h | h
      · have := h2_up_mem hux.2 r h; omega
      · exact hle r h
    have fy : ∀ c ly', ly = c :: ly' → (∀ r, r ∈ lx → rD c ≤ rD r) → wX_sortRows_63 post (wX_sortRows_13 post (nI st) n) (nI (h1_hd P)) (nI (h3_la P)) (nI (h1_hd lx)) (nI c) 0 (nI st) K A (hs_A sz) (hs_A hp) (hs_A pl) (hs_A pr) (hs_A pc) (hs_A pn) (hs_A pb) (hs_A rF) (hs_A rI) (hs_A rN) (hs_A rU) (hs_A rC) (hs_A rX) (hs_A rP) (hs_A rD) (hs_A gF) (hs_A gC) (hs_A gL) (hs_A gR) (hs_A gP) (hs_A gD) (hs_A gM) (hs_A gO) (hs_A lr) (hs_A ll) (hs_A lR) (hs_A lp) (hs_A lk) (hs_A wn) (hs_A sk) := by
      intro c ly' e hle
      subst e
      have c24 := lt c (by simp)
      unfold wX_sortRows_63
      refine br_t rfl ?_
      unfold wX_sortRows_77
      refine br_t rfl ?_
      unfold wX_sortRows_96
      refine br_t rfl (hs_in c (by omega) ?_)
      rw [List.nodup_cons] at nly
      refine tk c lx ly' (by simp) (by simp at hn; omega) ?_ (Or.inr hny.1) (fun z hz => ⟨by simp [hz], fun h => nxy z hz c (by simp) h⟩) (fun z hz => ⟨by simp [hz], fun h => nly.1 (h ▸ hz)⟩) hnx hny.2 hux (h2_up_le (Nat.zero_le _) huy.2) (fun r hr => ?_) _ _ rfl (by rw [hs_rd c (by omega), hny.1])
      · refine List.Perm.trans ?_ hP
        rw [List.append_assoc]
        have pm : (c :: (lx ++ ly')).Perm (lx ++ c :: ly') := List.perm_middle.symm
        exact List.Perm.append_left P pm
      · rcases List.mem_append.1 hr with h | h
        · exact hle r h
        · have := h2_up_mem huy.2 r h; omega
    have s27 : ¬ (lx = [] ∧ ly = []) → wX_sortRows_27 post (wX_sortRows_13 post (nI st) n) (nI (h1_hd P)) (nI (h3_la P)) (nI (h1_hd lx)) (nI (h1_hd ly)) (nI st) K A (hs_A sz) (hs_A hp) (hs_A pl) (hs_A pr) (hs_A pc) (hs_A pn) (hs_A pb) (hs_A rF) (hs_A rI) (hs_A rN) (hs_A rU) (hs_A rC) (hs_A rX) (hs_A rP) (hs_A rD) (hs_A gF) (hs_A gC) (hs_A gL) (hs_A gR) (hs_A gP) (hs_A gD) (hs_A gM) (hs_A gO) (hs_A lr) (hs_A ll) (hs_A lR) (hs_A lp) (hs_A lk) (hs_A wn) (hs_A sk) := by
      intro hne
      unfold wX_sortRows_27
      refine pk_eq (h1_hd ly) 24 (fun e => ?_) (fun e => pk_eq (h1_hd lx) 24 (fun e' => ?_) (fun e' => ?_))
      · unfold wX_sortRows_58
        have ey := hy24.2.1 e
        cases hlx : lx with
        | nil => exact absurd ⟨hlx, ey⟩ hne
        | cons c lx' => exact fx c lx' hlx (fun r hr => by rw [ey] at hr; simp at hr)
      · unfold wX_sortRows_62
        have exx := hx24.2.1 e'
        cases hly : ly with
        | nil => exact absurd ⟨exx, hly⟩ hne
        | cons c ly' => exact fy c ly' hly (fun r hr => by rw [exx] at hr; simp at hr)
      · cases hlx : lx with
        | nil => rw [hlx] at e'; exact absurd rfl e'
        | cons c lx' =>
          cases hly : ly with
          | nil => rw [hly] at e; exact absurd rfl e
          | cons d ly' =>
            have c24 := mm c (by rw [hlx]; simp)
            have d24 := mm d (by rw [hly]; simp)
            show vp_in (nI c) 25 ∧ _
            refine hs_in c (by omega) (hs_in d (by omega) ?_)
            refine pk_lt (rD d) (rD c) (fun h => ?_) (fun h => ?_) (hs_rd d (by omega)) (hs_rd c (by omega))
            · unfold wX_sortRows_62
              have := fy d ly' hly (fun r hr => by
                rw [hlx] at hr
                rcases List.mem_cons.1 hr with h' | h'
                · rw [h']; omega
                · rw [hlx] at hux
                  have := h2_up_mem hux.2 r h'; omega)
              rw [hlx] at this
              exact this
            · unfold wX_sortRows_58
              have := fx c lx' hlx (fun r hr => by
                rw [hly] at hr
                rcases List.mem_cons.1 hr with h' | h'
                · rw [h']; exact h
                · rw [hly] at huy
                  have := h2_up_mem huy.2 r h'; omega)
              rw [hly] at this
              exact this
    rw [wX_sortRows_13]
    refine pk_eq (h1_hd lx) 24 (fun e => ?_) (fun e => s27 (fun h => e (hx24.2.2 h.1)))
    refine pk_eq (h1_hd ly) 24 (fun e' => ?_) (fun e' => s27 (fun h => e' (hy24.2.2 h.2)))
    have ex := hx24.2.1 e
    have ey := hy24.2.1 e'
    subst ex; subst ey
    refine hpost P rX (by simpa using hP) nP hPs (h2_cx_nx hcx (fun h => ?_)) hfr
    rcases hla h with o | o <;> rw [o] <;> rfl
theorem h2_sort {post : Int32 → SX → Prop} {a' b' : Int32} (la lb : List Nat) (hd : (la ++ lb).Nodup) (h24 : ∀ z, z ∈ la ++ lb → z < 24 ∧ rD z ≤ 24) (hna : h1_nx rX la) (hnb : h1_nx rX lb) (hua : h2_up rD 0 la) (hub : h2_up rD 0 lb) (hpost : ∀ L rX', L.Perm (la ++ lb) → L.Nodup → L.Pairwise (fun a b => rD a ≤ rD b) → h1_nx rX' L → (∀ z, z ∉ la ++ lb → rX' z = rX z) → post (nI (h1_hd L)) ((nI st), K, A, (hs_A sz), (hs_A hp), (hs_A pl), (hs_A pr), (hs_A pc), (hs_A pn), (hs_A pb), (hs_A rF), (hs_A rI), (hs_A rN), (hs_A rU), (hs_A rC), (hs_A rX'), (hs_A rP), (hs_A rD), (hs_A gF), (hs_A gC), (hs_A gL), (hs_A gR), (hs_A gP), (hs_A gD), (hs_A gM), (hs_A gO), (hs_A lr), (hs_A ll), (hs_A lR), (hs_A lp), (hs_A lk), (hs_A wn), (hs_A sk))) (ea : a' = nI (h1_hd la) := by rfl) (eb : b' = nI (h1_hd lb) := by rfl) : wpX_sortRows post ((nI st), K, A, (hs_A sz), (hs_A hp), (hs_A pl), (hs_A pr), (hs_A pc), (hs_A pn), (hs_A pb), (hs_A rF), (hs_A rI), (hs_A rN), (hs_A rU), (hs_A rC), (hs_A rX), (hs_A rP), (hs_A rD), (hs_A gF), (hs_A gC), (hs_A gL), (hs_A gR), (hs_A gP), (hs_A gD), (hs_A gM), (hs_A gO), (hs_A lr), (hs_A ll), (hs_A lR), (hs_A lp), (hs_A lk), (hs_A wn), (hs_A sk)) a' b' := by
  subst ea; subst eb
  unfold wpX_sortRows
  dsimp only
  exact ⟨_, h2_sL (M := la ++ lb) (rX0 := rX) hd h24 hpost (la.length + lb.length + 1) [] la lb rX (Nat.lt_succ_self _) (List.Perm.refl _) trivial (fun h => absurd rfl h) hna hnb List.Pairwise.nil hua hub (fun p hp => by simp at hp) (fun _ _ => rfl)⟩
end
end
section
/-! engine 2: adding two rows -/
def h2_R (U : Nat → Prop) (gq : Nat → Nat) (K : Nat → Int32) (rI : Nat → Nat) (M : List Nat) (rX0 rP0 rD0 : Nat → Nat) (L : List Nat) (rC rX rP rD : Nat → Nat) : Prop :=
  h2_W U gq rC rX rP rD ∧ h2_O U K rI rP ∧ L.Nodup ∧ (∀ z, z ∈ L → z ∈ M ∧ rP z = 24) ∧ (∀ z, z ∈ M → z ∉ L → rP z ≠ 24) ∧ h1_nx rX L ∧ (∀ z, z ∉ M → rX z = rX0 z ∧ rP z = rP0 z ∧ rD z = rD0 z)
theorem h2_up_inj {rD : Nat → Nat} : ∀ {l : List Nat} {d : Nat}, h2_up rD d l → ∀ a b, a ∈ l → b ∈ l → rD a = rD b → a = b
  | [], _, _, a, _, ha, _, _ => by simp at ha
  | c :: t, d, ⟨h1, h2⟩, a, b, ha, hb, e => by
    rcases List.mem_cons.1 ha with ha | ha <;> rcases List.mem_cons.1 hb with hb | hb
    · rw [ha, hb]
    · have := h2_up_mem h2 b hb
      rw [ha] at e; omega
    · have := h2_up_mem h2 a ha
      rw [hb] at e; omega
    · exact h2_up_inj h2 a b ha hb e
section
variable {st : Nat} {K A : Nat → Int32} {sz hp pl pr pc pn pb rF rI rN rU rC rX rP rD gF gC gL gR gP gD gM gO lr ll lR lp lk wn sk : Nat → Nat}
theorem h2_aL {post : Int32 → SX → Prop} {U : Nat → Prop} {gq : Nat → Nat} {G : Nat} {M : List Nat} {rX0 rP0 rD0 : Nat → Nat} (hI : ∀ z, U z → rI z < 24) (hinj : ∀ z z', U z → U z' → rI z = rI z' → z = z') (hM : ∀ z, z ∈ M → U z ∧ gq z = G) (hpost : ∀ L rC' rX' rP' rD', h2_R U gq K rI M rX0 rP0 rD0 L rC' rX' rP' rD' → h2_up rD' 0 L → post (nI (h1_hd L)) ((nI st), K, A, (hs_A sz), (hs_A hp), (hs_A pl), (hs_A pr), (hs_A pc), (hs_A pn), (hs_A pb), (hs_A rF), (hs_A rI), (hs_A rN), (hs_A rU), (hs_A rC'), (hs_A rX'), (hs_A rP'), (hs_A rD'), (hs_A gF), (hs_A gC), (hs_A gL), (hs_A gR), (hs_A gP), (hs_A gD), (hs_A gM), (hs_A gO), (hs_A lr), (hs_A ll), (hs_A lR), (hs_A lp), (hs_A lk), (hs_A wn), (hs_A sk))) : ∀ (n : Nat) (pre : List Nat) (x : Nat) (rest : List Nat) (rC rX rP rD : Nat → Nat), rest.length < n → h2_R U gq K rI M rX0 rP0 rD0 (pre ++ x :: rest) rC rX rP rD → h2_up rD 0 pre → ((∀ p, p ∈ pre → rD p < rD x) ∨ (∃ y ys, rest = y :: ys ∧ rD y = rD x ∧ (∀ z, z ∈ ys → rD x < rD z) ∧ (∀ p, p ∈ pre → rD p ≤ rD x))) → rest.Pairwise (fun a b => rD a ≤ rD b) → (∀ z, z ∈ rest → rD x ≤ rD z) → (∀ a b z, a ∈ rest → b ∈ rest → z ∈ rest → a ≠ b → b ≠ z → a ≠ z → rD a = rD b → rD b ≠ rD z) → wX_addRows_14 post n (nI (h1_hd (pre ++ x :: rest))) (nI (h3_la pre)) (nI x) (nI st) K A (hs_A sz) (hs_A hp) (hs_A pl) (hs_A pr) (hs_A pc) (hs_A pn) (hs_A pb) (hs_A rF) (hs_A rI) (hs_A rN) (hs_A rU) (hs_A rC) (hs_A rX) (hs_A rP) (hs_A rD) (hs_A gF) (hs_A gC) (hs_A gL) (hs_A gR) (hs_A gP) (hs_A gD) (hs_A gM) (hs_A gO) (hs_A lr) (hs_A ll) (hs_A lR) (hs_A lp) (hs_A lk) (hs_A wn) (hs_A sk) := by
  intro n
  induction n with
  | zero => intro pre x rest rC rX rP rD h; omega
  | succ n ih =>
    intro pre x rest rC rX rP rD hn hR hup hst hs hxr htw
    obtain ⟨hW, hO, hd, hL, hnL, hnx, hfr⟩ := hR
    have hU : ∀ z, z ∈ pre ++ x :: rest → U z ∧ z < 24 := fun z hz => ⟨(hM z (hL z hz).1).1, h2_lt hW z (hM z (hL z hz).1).1⟩
    obtain ⟨ux, x24⟩ := hU x (by simp)
    obtain ⟨npre, nxr, nd3⟩ := List.nodup_append.1 hd
    have nxr' := List.nodup_cons.1 nxr
    have la24 : h3_la pre ≤ 24 ∧ (h3_la pre = 24 ↔ pre = []) := by
      by_cases e : pre = []
      · rw [e]; exact ⟨Nat.le_refl _, by simp [h3_la]⟩
      · have := (hU _ (List.mem_append_left _ (h3_la_m e))).2
        exact ⟨by omega, ⟨fun h => by omega, fun h => absurd h e⟩⟩
    have rxx : rX x = h1_hd rest := h2_nx_at hnx
    have r24 := h1_hd_n (l := rest) (fun z hz => (hU z (by simp [hz])).2)
    have hd24 : h1_hd (pre ++ x :: rest) ≤ 24 := (h1_hd_n (fun z hz => (hU z hz).2)).1
    rw [wX_addRows_14]
    refine pk_eq x 24 (fun e => by omega) (fun _ => ?_)
    refine hs_in x (by omega) ?_
    refine pk_eq (rX x) 24 (fun e => ?_) (fun e => ?_) (hs_rd x (by omega)) rfl (by omega)
    · have er : rest = [] := r24.2.1 (by rw [← rxx]; exact e)
      subst er
      have hA : ∀ p, p ∈ pre → rD p < rD x := by
        rcases hst with h | ⟨y, ys, h, _⟩
        · exact h
        · simp at h
      refine hpost (pre ++ [x]) rC rX rP rD ⟨hW, hO, hd, hL, hnL, hnx, hfr⟩ (h2_up_app hup (fun a ha b hb => ?_) ⟨Nat.zero_le _, trivial⟩)
      rw [List.mem_singleton] at hb
      rw [hb]; exact hA a ha
    · obtain ⟨y, ys, er⟩ : ∃ y ys, rest = y :: ys := by
        cases hrest : rest with
        | nil => rw [hrest] at rxx; exact absurd rxx e
        | cons y ys => exact ⟨y, ys, rfl⟩
      subst er
      have rxy : rX x = y := rxx
      have uy := hU y (by simp)
      have ryy : rX y = h1_hd ys := by
        have e1 : pre ++ x :: y :: ys = (pre ++ [x]) ++ y :: ys := by simp
        rw [e1] at hnx
        exact h2_nx_at hnx
      have y24 := h1_hd_n (l := ys) (fun z hz => (hU z (by simp [hz])).2)
      have dx := (h2_d24 hW ux).1
      have dy := (h2_d24 hW uy.1).1
      have hs' := List.pairwise_cons.1 hs
      have ny := List.nodup_cons.1 nxr'.2
      rw [List.length_cons] at hn
      -- going on
      have wait : ((∀ p, p ∈ pre → rD p < rD x) ∧ (rD x ≠ rD y ∨ ∃ z zs, ys = z :: zs ∧ rD z = rD y)) → wX_addRows_97 post (wX_addRows_14 post n) (nI (h1_hd (pre ++ x :: y :: ys))) (nI (h3_la pre)) (nI x) (nI y) (nI (h1_hd ys)) 1 (nI st) K A (hs_A sz) (hs_A hp) (hs_A pl) (hs_A pr) (hs_A pc) (hs_A pn) (hs_A pb) (hs_A rF) (hs_A rI) (hs_A rN) (hs_A rU) (hs_A rC) (hs_A rX) (hs_A rP) (hs_A rD) (hs_A gF) (hs_A gC) (hs_A gL) (hs_A gR) (hs_A gP) (hs_A gD) (hs_A gM) (hs_A gO) (hs_A lr) (hs_A ll) (hs_A lR) (hs_A lp) (hs_A lk) (hs_A wn) (hs_A sk) := by
        intro ⟨hA, hw⟩
        unfold wX_addRows_97
        refine br_f (by decide) ?_
        have e1 : pre ++ x :: y :: ys = (pre ++ [x]) ++ y :: ys := by simp
        have hR' : h2_R U gq K rI M rX0 rP0 rD0 ((pre ++ [x]) ++ y :: ys) rC rX rP rD := by
          rw [← e1]; exact ⟨hW, hO, hd, hL, hnL, hnx, hfr⟩
        have xy := hxr y (by simp)
        have := ih (pre ++ [x]) y ys rC rX rP rD (by omega) hR' (h2_up_app hup (fun a ha b hb => by rw [List.mem_singleton] at hb; rw [hb]; exact hA a ha) ⟨Nat.zero_le _, trivial⟩) ?_ hs'.2 hs'.1 (fun a b z ha hb hz => htw a b z (by simp [ha]) (by simp [hb]) (by simp [hz]))
        · rw [h3_la_app (by simp), ← e1] at this
          exact this
        · rcases hw with h | ⟨z, zs, ez, dz⟩
          · refine Or.inl (fun p hp => ?_)
            rw [List.mem_append, List.mem_singleton] at hp
            rcases hp with hp | hp
            · have := hA p hp; omega
            · rw [hp]; omega
          · refine Or.inr ⟨z, zs, ez, dz, fun w hw => ?_, fun p hp => ?_⟩
            · subst ez
              have n2 := List.nodup_cons.1 ny.2
              have h1 := hs'.1 w (by simp [hw])
              have h2 := htw y z w (by simp) (by simp) (by simp [hw]) (fun h => ny.1 (by rw [h]; simp)) (fun h => n2.1 (h ▸ hw)) (fun h => ny.1 (by rw [h]; simp [hw])) dz.symm
              omega
            · rw [List.mem_append, List.mem_singleton] at hp
              rcases hp with hp | hp
              · have := hA p hp; omega
              · rw [hp]; exact xy
      have lnk : rD x = rD y → (∀ z, z ∈ ys → rD x < rD z) → (∀ p, p ∈ pre → rD p ≤ rD x) → wX_addRows_97 post (wX_addRows_14 post n) (nI (h1_hd (pre ++ x :: y :: ys))) (nI (h3_la pre)) (nI x) (nI y) (nI (h1_hd ys)) 0 (nI st) K A (hs_A sz) (hs_A hp) (hs_A pl) (hs_A pr) (hs_A pc) (hs_A pn) (hs_A pb) (hs_A rF) (hs_A rI) (hs_A rN) (hs_A rU) (hs_A rC) (hs_A rX) (hs_A rP) (hs_A rD) (hs_A gF) (hs_A gC) (hs_A gL) (hs_A gR) (hs_A gP) (hs_A gD) (hs_A gM) (hs_A gO) (hs_A lr) (hs_A ll) (hs_A lR) (hs_A lp) (hs_A lk) (hs_A wn) (hs_A sk) := by
        intro hxy hys hpre
        have xny : x ≠ y := fun h => nxr'.1 (by rw [h]; simp)
        have gx := (hM x (hL x (by simp)).1).2
        have gy := (hM y (hL y (by simp)).1).2
        unfold wX_addRows_97
        refine br_t rfl ?_
        refine h2_lkw x y hW ux uy.1 (hI x ux) (hI y uy.1) (fun h => xny (hinj x y ux uy.1 h)) (fun t u htu hb => ?_)
        dsimp only
        have tm : t = x ∨ t = y := by rcases htu with ⟨h, _⟩ | ⟨h, _⟩ <;> omega
        have um : u = x ∨ u = y := by rcases htu with ⟨_, h⟩ | ⟨_, h⟩ <;> omega
        have tu : t ≠ u := by rcases htu with ⟨h, h'⟩ | ⟨h, h'⟩ <;> omega
        have two : ∀ z, (z = x ∨ z = y) ↔ (z = t ∨ z = u) := by
          intro z; rcases htu with ⟨h, h'⟩ | ⟨h, h'⟩ <;> omega
        have ut : U t := by rcases tm with h | h <;> rw [h] <;> first | exact ux | exact uy.1
        have uu : U u := by rcases um with h | h <;> rw [h] <;> first | exact ux | exact uy.1
        have t24 := h2_lt hW t ut
        have u24 := h2_lt hW u uu
        have inL : ∀ z, (z = x ∨ z = y) → z ∈ pre ++ x :: y :: ys := by
          intro z h; rcases h with h | h <;> rw [h] <;> simp
        have tL := inL t ((two t).2 (Or.inl rfl))
        have uL := inL u ((two u).2 (Or.inr rfl))
        have dt : rD t = rD x := by rcases tm with h | h <;> rw [h] <;> omega
        have du : rD u = rD x := by rcases um with h | h <;> rw [h] <;> omega
        have npre2 : ∀ z, z ∈ pre → z ≠ t ∧ z ≠ u := by
          intro z hz
          have h1 : z ≠ x := fun h => nd3 z hz x (by simp) h
          have h2 : z ≠ y := fun h => nd3 z hz y (by simp) h
          have h3 : ¬ (z = t ∨ z = u) := fun h => ((two z).2 h).elim h1 h2
          exact ⟨fun h => h3 (Or.inl h), fun h => h3 (Or.inr h)⟩
        have nys2 : ∀ z, z ∈ ys → z ≠ t ∧ z ≠ u := by
          intro z hz
          have h1 : z ≠ x := fun h => nxr'.1 (by rw [← h]; simp [hz])
          have h2 : z ≠ y := fun h => ny.1 (h ▸ hz)
          have h3 : ¬ (z = t ∨ z = u) := fun h => ((two z).2 h).elim h1 h2
          exact ⟨fun h => h3 (Or.inl h), fun h => h3 (Or.inr h)⟩
        have hW1 := h2_link hW ut uu (hL t tL).2 (hL u uL).2 tu (by omega) (by rw [(hM t (hL t tL).1).2, (hM u (hL u uL).1).2])
        have hO1 := h2_linkO hO hb
        have pt : hs_s rP u t t = 24 := by rw [hs_sn tu]; exact (hL t tL).2
        have ty24 : h1_hd ys ≤ 24 := y24.1
        -- the new list
        have nd' : (pre ++ t :: ys).Nodup := by
          rw [List.nodup_append]
          refine ⟨npre, List.nodup_cons.2 ⟨fun h => (nys2 t h).1 rfl, ny.2⟩, fun a ha b hb e => ?_⟩
          rcases List.mem_cons.1 hb with h | h
          · exact (npre2 a ha).1 (e.trans h)
          · exact nd3 a ha b (by simp [h]) e
        have sub : ∀ z, z ∈ pre ++ t :: ys → z ∈ pre ++ x :: y :: ys ∧ z ≠ u := by
          intro z hz
          rw [List.mem_append, List.mem_cons] at hz
          rcases hz with h | h | h
          · exact ⟨by simp [h], (npre2 z h).2⟩
          · rw [h]; exact ⟨tL, tu⟩
          · exact ⟨by simp [h], (nys2 z h).2⟩
        have sub2 : ∀ z, z ∈ pre ++ x :: y :: ys → z ≠ u → z ∈ pre ++ t :: ys := by
          intro z hz hne
          rw [List.mem_append, List.mem_cons, List.mem_cons] at hz
          have : z = x ∨ z = y → z ∈ pre ++ t :: ys := fun h => by
            rw [((two z).1 h).resolve_right hne]; simp
          rcases hz with h | h | h | h
          · simp [h]
          · exact this (Or.inl h)
          · exact this (Or.inr h)
          · simp [h]
        have mk : ∀ rXn, (∀ z, U z → hs_s rP u t z ≠ 24 → rXn z = hs_s rX u (rC t) z) → h1_nx rXn (pre ++ t :: ys) → (∀ z, z ∉ M → rXn z = rX0 z) → h2_R U gq K rI M rX0 rP0 rD0 (pre ++ t :: ys) (hs_s rC t u) rXn (hs_s rP u t) (hs_s rD t (rD t + 1)) := by
          intro rXn h1 h2 h3
          refine ⟨h2_W_X hW1 h1, hO1, nd', fun z hz => ⟨(hL z (sub z hz).1).1, by rw [hs_sn (sub z hz).2]; exact (hL z (sub z hz).1).2⟩, fun z hz hn => ?_, h2, fun z hz => ⟨h3 z hz, ?_, ?_⟩⟩
          · by_cases ez : z = u
            · rw [ez, hs_ss]; omega
            · rw [hs_sn ez]; exact hnL z hz (fun h => hn (sub2 z h ez))
          · rw [hs_sn (fun h => hz (by rw [h]; exact (hL u uL).1))]; exact (hfr z hz).2.1
          · rw [hs_sn (fun h => hz (by rw [h]; exact (hL t tL).1))]; exact (hfr z hz).2.2
        have nxt : ∀ rXn, rXn t = h1_hd ys → (∀ z, z ∈ ys → rXn z = rX z) → h1_nx rXn (t :: ys) := by
          intro rXn h1 h2
          have e1 : pre ++ x :: y :: ys = (pre ++ [x, y]) ++ ys := by simp
          rw [e1] at hnx
          exact ⟨h1, h1_nx_fr h2 (h2_nx_app hnx)⟩
        have stp : ∀ rXn, h2_R U gq K rI M rX0 rP0 rD0 (pre ++ t :: ys) (hs_s rC t u) rXn (hs_s rP u t) (hs_s rD t (rD t + 1)) → wX_addRows_14 post n (nI (h1_hd (pre ++ t :: ys))) (nI (h3_la pre)) (nI t) (nI st) K A (hs_A sz) (hs_A hp) (hs_A pl) (hs_A pr) (hs_A pc) (hs_A pn) (hs_A pb) (hs_A rF) (hs_A rI) (hs_A rN) (hs_A rU) (hs_A (hs_s rC t u)) (hs_A rXn) (hs_A (hs_s rP u t)) (hs_A (hs_s rD t (rD t + 1))) (hs_A gF) (hs_A gC) (hs_A gL) (hs_A gR) (hs_A gP) (hs_A gD) (hs_A gM) (hs_A gO) (hs_A lr) (hs_A ll) (hs_A lR) (hs_A lp) (hs_A lk) (hs_A wn) (hs_A sk) := by
          intro rXn hRn
          have dys : ∀ z, z ∈ ys → hs_s rD t (rD t + 1) z = rD z := fun z hz => hs_sn (nys2 z hz).1
          refine ih pre t ys _ rXn _ _ (by omega) hRn (h2_up_fr (fun z hz => hs_sn (npre2 z hz).1) hup) (Or.inl (fun p hp => ?_)) ?_ (fun z hz => ?_) (fun a b z ha hb' hz => ?_)
          · rw [hs_sn (npre2 p hp).1, hs_ss, dt]; have := hpre p hp; omega
          · exact hs'.2.imp_of_mem (fun ha hb' h => by rw [dys _ ha, dys _ hb']; exact h)
          · rw [hs_ss, dys z hz, dt]; exact hys z hz
          · rw [dys a ha, dys b hb', dys z hz]
            exact htw a b z (by simp [ha]) (by simp [hb']) (by simp [hz])
        refine hs_w t (h1_hd ys) (by omega) (by omega) ?_
        refine pk_eq (h3_la pre) 24 (fun e0 => ?_) (fun e0 => ?_)
        · have ep := la24.2.1 e0
          have := stp (hs_s (hs_s rX u (rC t)) t (h1_hd ys)) (mk _ (fun z uz hz => hs_sn (fun h => hz (by rw [h]; exact pt))) ?_ (fun z hz => ?_))
          · rw [e0] at this
            rw [ep] at this ⊢
            exact this
          · rw [ep]
            exact nxt _ hs_ss (fun z hz => by rw [hs_sn (nys2 z hz).1, hs_sn (nys2 z hz).2])
          · rw [hs_sn (fun h => hz (by rw [h]; exact (hL t tL).1)), hs_sn (fun h => hz (by rw [h]; exact (hL u uL).1))]; exact (hfr z hz).1
        · have ep : pre ≠ [] := fun h => e0 (la24.2.2 h)
          have lm := h3_la_m ep
          have lL : h3_la pre ∈ pre ++ x :: y :: ys := List.mem_append_left _ lm
          have lt' := npre2 _ lm
          refine hs_w (h3_la pre) t (by omega) (by omega) ?_
          have := stp (hs_s (hs_s (hs_s rX u (rC t)) t (h1_hd ys)) (h3_la pre) t) (mk _ (fun z uz hz => ?_) ?_ (fun z hz => ?_))
          · rw [h3_hd_app ep] at this
            rw [h3_hd_app ep]
            exact this
          · rw [hs_sn (fun h => hz (by rw [h, hs_sn lt'.2]; exact (hL _ lL).2)), hs_sn (fun h => hz (by rw [h]; exact pt))]
          · refine h2_nx_re hnx npre (fun z hz hn => ?_) (fun _ => hs_ss) (nxt _ ?_ (fun z hz => ?_))
            · rw [hs_sn hn, hs_sn (npre2 z hz).1, hs_sn (npre2 z hz).2]
            · rw [hs_sn (Ne.symm lt'.1), hs_ss]
            · rw [hs_sn (fun h => nd3 _ lm z (by simp [hz]) h.symm), hs_sn (nys2 z hz).1, hs_sn (nys2 z hz).2]
          · rw [hs_sn (fun h => hz (by rw [h]; exact (hL _ lL).1)), hs_sn (fun h => hz (by rw [h]; exact (hL t tL).1)), hs_sn (fun h => hz (by rw [h]; exact (hL u uL).1))]; exact (hfr z hz).1
      refine hs_r x (by omega) ?_
      rw [rxy]
      refine hs_r y (by omega) ?_
      rw [ryy]
      refine hs_in x (by omega) (hs_in y (by omega) ?_)
      refine pk_eq (rD x) (rD y) (fun hxy => ?_) (fun hxy => ?_) (hs_rd x (by omega)) (hs_rd y (by omega))
      · have gt : (∀ z zs, ys = z :: zs → rD z ≠ rD x) → ∀ z, z ∈ ys → rD x < rD z := by
          intro hne z hz
          cases hys : ys with
          | nil => rw [hys] at hz; simp at hz
          | cons w ws =>
            have h1 := hne w ws hys
            have h2 := hs'.1 w (by rw [hys]; simp)
            rw [hys] at hz
            rcases List.mem_cons.1 hz with h | h
            · rw [h]; omega
            · have h3 := hs'.2
              rw [hys] at h3
              have := (List.pairwise_cons.1 h3).1 z h
              omega
        have prele : ∀ p, p ∈ pre → rD p ≤ rD x := by
          rcases hst with h | ⟨_, _, _, _, _, h⟩
          · exact fun p hp => by have := h p hp; omega
          · exact h
        refine pk_eq (h1_hd ys) 24 (fun e2 => ?_) (fun e2 => ?_)
        · unfold wX_addRows_96
          have := y24.2.1 e2
          exact lnk hxy (fun z hz => by rw [this] at hz; simp at hz) prele
        · obtain ⟨z, zs, ez⟩ : ∃ z zs, ys = z :: zs := by
            cases hys : ys with
            | nil => rw [hys] at e2; exact absurd rfl e2
            | cons z zs => exact ⟨z, zs, rfl⟩
          have uz := hU z (by rw [ez]; simp)
          have dz := (h2_d24 hW uz.1).1
          have ehz : h1_hd ys = z := by rw [ez]; rfl
          rw [ehz] at wait lnk ⊢
          refine hs_in z (by omega) (hs_in x (by omega) ?_)
          refine pk_eq (rD z) (rD x) (fun e3 => ?_) (fun e3 => ?_) (hs_rd z (by omega)) (hs_rd x (by omega))
          · unfold wX_addRows_92
            refine wait ⟨?_, Or.inr ⟨z, zs, ez, by omega⟩⟩
            rcases hst with h | ⟨y', ys', h1, h2, h3, h4⟩
            · exact h
            · exfalso
              rw [List.cons.injEq] at h1
              have := h3 z (by rw [← h1.2, ez]; simp)
              omega
          · unfold wX_addRows_96
            refine lnk hxy (gt (fun z' zs' h => ?_)) prele
            rw [ez, List.cons.injEq] at h
            rw [← h.1]; exact e3
      · unfold wX_addRows_92
        refine wait ⟨?_, Or.inl hxy⟩
        rcases hst with h | ⟨y', ys', h1, h2, h3, h4⟩
        · exact h
        · exfalso
          rw [List.cons.injEq] at h1
          rw [← h1.1] at h2; omega
theorem h2_addRows {post : Int32 → SX → Prop} {U : Nat → Prop} {gq : Nat → Nat} {G : Nat} {a' b' : Int32} (la lb : List Nat) (hI : ∀ z, U z → rI z < 24) (hinj : ∀ z z', U z → U z' → rI z = rI z' → z = z') (hW : h2_W U gq rC rX rP rD) (hO : h2_O U K rI rP) (hd : (la ++ lb).Nodup) (hM : ∀ z, z ∈ la ++ lb → U z ∧ rP z = 24 ∧ gq z = G) (hna : h1_nx rX la) (hnb : h1_nx rX lb) (hua : h2_up rD 0 la) (hub : h2_up rD 0 lb) (hpost : ∀ L rC' rX' rP' rD', h2_R U gq K rI (la ++ lb) rX rP rD L rC' rX' rP' rD' → h2_up rD' 0 L → post (nI (h1_hd L)) ((nI st), K, A, (hs_A sz), (hs_A hp), (hs_A pl), (hs_A pr), (hs_A pc), (hs_A pn), (hs_A pb), (hs_A rF), (hs_A rI), (hs_A rN), (hs_A rU), (hs_A rC'), (hs_A rX'), (hs_A rP'), (hs_A rD'), (hs_A gF), (hs_A gC), (hs_A gL), (hs_A gR), (hs_A gP), (hs_A gD), (hs_A gM), (hs_A gO), (hs_A lr), (hs_A ll), (hs_A lR), (hs_A lp), (hs_A lk), (hs_A wn), (hs_A sk))) (ea : a' = nI (h1_hd la) := by rfl) (eb : b' = nI (h1_hd lb) := by rfl) : wpX_addRows post ((nI st), K, A, (hs_A sz), (hs_A hp), (hs_A pl), (hs_A pr), (hs_A pc), (hs_A pn), (hs_A pb), (hs_A rF), (hs_A rI), (hs_A rN), (hs_A rU), (hs_A rC), (hs_A rX), (hs_A rP), (hs_A rD), (hs_A gF), (hs_A gC), (hs_A gL), (hs_A gR), (hs_A gP), (hs_A gD), (hs_A gM), (hs_A gO), (hs_A lr), (hs_A ll), (hs_A lR), (hs_A lp), (hs_A lk), (hs_A wn), (hs_A sk)) a' b' := by
  subst ea; subst eb
  unfold wpX_addRows
  dsimp only
  refine h2_sort la lb hd (fun z hz => ⟨h2_lt hW z (hM z hz).1, (h2_d24 hW (hM z hz).1).1⟩) hna hnb hua hub (fun L rX' hp hLd hLs hnx hfr => ?_)
  dsimp only
  have mem : ∀ z, z ∈ L ↔ z ∈ la ++ lb := fun z => hp.mem_iff
  have hR : h2_R U gq K rI (la ++ lb) rX rP rD L rC rX' rP rD := by
    refine ⟨h2_W_X hW (fun z uz hz => hfr z (fun h => hz (hM z h).2.1)), hO, hLd, fun z hz => ⟨(mem z).1 hz, (hM z ((mem z).1 hz)).2.1⟩, fun z hz hn => absurd ((mem z).2 hz) hn, hnx, fun z hz => ⟨hfr z hz, rfl, rfl⟩⟩
  cases hL : L with
  | nil =>
    refine ⟨1, ?_⟩
    rw [wX_addRows_14]
    refine br_t rfl ?_
    have := hpost [] rC rX' rP rD (hL ▸ hR) trivial
    exact this
  | cons x rest =>
    rw [hL] at hR hLd hLs
    have hs' := List.pairwise_cons.1 hLs
    refine ⟨_, h2_aL (U := U) (gq := gq) (G := G) (M := la ++ lb) (rX0 := rX) (rP0 := rP) (rD0 := rD) hI hinj (fun z hz => ⟨(hM z hz).1, (hM z hz).2.2⟩) hpost (rest.length + 1) [] x rest rC rX' rP rD (Nat.lt_succ_self _) hR trivial (Or.inl (fun p hp => by simp at hp)) hs'.2 hs'.1 (fun a b z ha hb hz n1 n2 n3 e1 e2 => ?_)⟩
    have ma : a ∈ la ++ lb := (mem a).1 (by rw [hL]; simp [ha])
    have mb : b ∈ la ++ lb := (mem b).1 (by rw [hL]; simp [hb])
    have mz : z ∈ la ++ lb := (mem z).1 (by rw [hL]; simp [hz])
    rw [List.mem_append] at ma mb mz
    rcases ma with ma | ma <;> rcases mb with mb | mb <;> rcases mz with mz | mz
    · exact n1 (h2_up_inj hua a b ma mb e1)
    · exact n1 (h2_up_inj hua a b ma mb e1)
    · exact n3 (h2_up_inj hua a z ma mz (e1.trans e2))
    · exact n2 (h2_up_inj hub b z mb mz e2)
    · exact n2 (h2_up_inj hua b z mb mz e2)
    · exact n3 (h2_up_inj hub a z ma mz (e1.trans e2))
    · exact n1 (h2_up_inj hub a b ma mb e1)
    · exact n1 (h2_up_inj hub a b ma mb e1)
end
end
section
/-! engine 2: add, join, the first -/
def h2_U (rU : Nat → Nat) (n : Nat) : Prop := n < 24 ∧ rU n = 1
def h2_B (Q rI rN rU : Nat → Nat) : Prop :=
  (∀ n, n < 24 → rU n < 2) ∧ rU 24 = 1 ∧ (∀ n, h2_U rU n → rI n < 24 ∧ Q (rI n) ≠ 0 ∧ rN (rI n) = n) ∧ (∀ x, x < 24 → Q x ≠ 0 → h2_U rU (rN x) ∧ rI (rN x) = x)
def h2_Lq (U : Nat → Prop) (gq rX rP rD : Nat → Nat) (f q : Nat) : Prop :=
  ∃ L : List Nat, f = h1_hd L ∧ h1_nx rX L ∧ L.Nodup ∧ (∀ c, c ∈ L ↔ U c ∧ rP c = 24 ∧ gq c = q + 1) ∧ h2_up rD 0 L
def h2_I (K : Nat → Int32) (Q rF rI rN rU rC rX rP rD : Nat → Nat) : Prop :=
  h2_B Q rI rN rU ∧ h2_W (h2_U rU) (fun n => Q (rI n)) rC rX rP rD ∧ h2_O (h2_U rU) K rI rP ∧ ∀ q, q < 4 → h2_Lq (h2_U rU) (fun n => Q (rI n)) rX rP rD (rF q) q
theorem h2_inj {Q rI rN rU : Nat → Nat} (h : h2_B Q rI rN rU) : ∀ z z', h2_U rU z → h2_U rU z' → rI z = rI z' → z = z' := by
  intro z z' uz uz' e
  have a := (h.2.2.1 z uz).2.2
  have b := (h.2.2.1 z' uz').2.2
  rw [e, b] at a; exact a.symm
theorem h2_I_K {K K' : Nat → Int32} {Q rF rI rN rU rC rX rP rD : Nat → Nat} (h : h2_I K Q rF rI rN rU rC rX rP rD) (hK : ∀ j, hs_T Q j → K' j = K j) : h2_I K' Q rF rI rN rU rC rX rP rD := by
  obtain ⟨hB, hW, hO, hL⟩ := h
  refine ⟨hB, hW, fun c uc hc => ?_, hL⟩
  have b := hO c uc hc
  have up := (h2_deg hW uc hc).1
  have i1 := hB.2.2.1 c uc
  have i2 := hB.2.2.1 _ up
  unfold hs_bef at *
  rw [hK _ ⟨i1.1, i1.2.1⟩, hK _ ⟨i2.1, i2.2.1⟩]; exact b
theorem h2_fin {K : Nat → Int32} {Q rF rI rN rU rC rX rP rD rX0 rP0 rD0 : Nat → Nat} {q : Nat} {M L : List Nat} (hB : h2_B Q rI rN rU) (hR : h2_R (h2_U rU) (fun n => Q (rI n)) K rI M rX0 rP0 rD0 L rC rX rP rD) (hup : h2_up rD 0 L) (hM : ∀ z, z ∈ M → h2_U rU z ∧ Q (rI z) = q + 1) (hMa : ∀ c, h2_U rU c → rP0 c = 24 → Q (rI c) = q + 1 → c ∈ M) (ho : ∀ p, p < 4 → p ≠ q → h2_Lq (h2_U rU) (fun n => Q (rI n)) rX0 rP0 rD0 (rF p) p) : h2_I K Q (hs_s rF q (h1_hd L)) rI rN rU rC rX rP rD := by
  obtain ⟨hW, hO, hd, hL, hnL, hnx, hfr⟩ := hR
  refine ⟨hB, hW, hO, fun p hp => ?_⟩
  by_cases e : p = q
  · subst e
    rw [hs_ss]
    refine ⟨L, rfl, hnx, hd, fun c => ⟨fun hc => ⟨(hM c (hL c hc).1).1, (hL c hc).2, (hM c (hL c hc).1).2⟩, fun ⟨uc, pc, gc⟩ => ?_⟩, hup⟩
    apply Classical.byContradiction
    intro hn
    by_cases cm : c ∈ M
    · exact hnL c cm hn pc
    · exact cm (hMa c uc (by rw [← (hfr c cm).2.1]; exact pc) gc)
  · rw [hs_sn e]
    obtain ⟨l, l1, l2, l3, l4, l5⟩ := ho p hp e
    have out : ∀ c, Q (rI c) = p + 1 → c ∉ M := fun c h1 h2 => by have := (hM c h2).2; omega
    have lo : ∀ c, c ∈ l → c ∉ M := fun c hc => out c ((l4 c).1 hc).2.2
    refine ⟨l, l1, h1_nx_fr (fun z hz => (hfr z (lo z hz)).1) l2, l3, fun c => ?_, h2_up_fr (fun z hz => (hfr z (lo z hz)).2.2) l5⟩
    rw [l4 c]
    constructor
    · intro ⟨a, b, d⟩; exact ⟨a, by rw [(hfr c (out c d)).2.1]; exact b, d⟩
    · intro ⟨a, b, d⟩; exact ⟨a, by rw [← (hfr c (out c d)).2.1]; exact b, d⟩
/-- a new node without children -/
theorem h2_new {U : Nat → Prop} {gq gq' rC rX rP rD : Nat → Nat} {j : Nat} (h : h2_W U gq rC rX rP rD) (nj : ¬ U j) (hj : j < 24) (hg : ∀ z, U z → gq' z = gq z) : h2_W (fun z => U z ∨ z = j) gq' (hs_s rC j 24) (hs_s rX j 24) (hs_s rP j 24) (hs_s rD j 0) := by
  have pj : ∀ c, U c → rP c ≠ j := by
    intro c uc e
    have := (h2_deg h uc (by omega)).1
    rw [e] at this; exact nj this
  refine ⟨fun n un => ?_, fun c uc => ?_⟩
  · by_cases e : n = j
    · subst e
      refine ⟨hj, [], by rw [hs_ss]; rfl, trivial, List.nodup_nil, fun c => ⟨fun hc => absurd hc (by simp), fun ⟨uc, pc⟩ => ?_⟩, by rw [hs_ss]; rfl⟩
      by_cases ec : c = n
      · rw [ec, hs_ss] at pc; omega
      · rw [hs_sn ec] at pc; exact absurd pc (pj c (uc.resolve_right ec))
    · have un' := un.resolve_right e
      obtain ⟨n24, l, l1, l2, l3, l4, l5⟩ := h.1 n un'
      have zj : ∀ z, z ∈ l → z ≠ j := fun z hz e => nj (e ▸ ((l4 z).1 hz).1)
      refine ⟨n24, l, by rw [hs_sn e]; exact l1, h1_nx_fr (fun z hz => hs_sn (zj z hz)) l2, l3, fun c => ?_, by rw [hs_sn e]; exact h2_dn_fr (fun z hz => hs_sn (zj z hz)) l5⟩
      rw [l4 c]
      by_cases ec : c = j
      · rw [ec, hs_ss]; exact ⟨fun h => absurd h.1 nj, fun h => by have := h.2; omega⟩
      · rw [hs_sn ec]; exact ⟨fun h => ⟨Or.inl h.1, h.2⟩, fun h => ⟨h.1.resolve_right ec, h.2⟩⟩
  · by_cases ec : c = j
    · rw [ec, hs_ss]; exact Or.inl rfl
    · have uc' := uc.resolve_right ec
      rw [hs_sn ec]
      rcases h.2 c uc' with o | o
      · exact Or.inl o
      · exact Or.inr ⟨Or.inl o.1, by rw [hg _ o.1, hg _ uc']; exact o.2⟩
/-- a free node -/
theorem h2_free {Q rI rN rU : Nat → Nat} (h : h2_B Q rI rN rU) {x : Nat} (hx : x < 24) (hQ : Q x = 0) : ∃ f, f < 24 ∧ rU f = 0 := by
  apply Classical.byContradiction
  intro hn
  have all : ∀ n, n < 24 → h2_U rU n := by
    intro n hn'
    have := h.1 n hn'
    refine ⟨hn', ?_⟩
    by_cases e : rU n = 0
    · exact absurd ⟨n, hn', e⟩ hn
    · omega
  have nd : (x :: (List.range 24).map rI).Nodup := by
    rw [List.nodup_cons]
    constructor
    · intro hm
      rw [List.mem_map] at hm
      obtain ⟨n, h1, h2⟩ := hm
      have := (h.2.2.1 n (all n (List.mem_range.1 h1))).2.1
      rw [h2] at this; exact this hQ
    · refine List.Pairwise.map rI (fun a b => id) ?_ |> fun h => h
      refine (List.nodup_range (n := 24)).imp_of_mem (fun ha hb hab e => ?_)
      exact hab (h2_inj h _ _ (all _ (List.mem_range.1 ha)) (all _ (List.mem_range.1 hb)) e)
  have := hs_len (n := 24) nd (fun z hz => by
    rcases List.mem_cons.1 hz with e | e
    · rw [e]; exact hx
    · rw [List.mem_map] at e
      obtain ⟨n, h1, h2⟩ := e
      rw [← h2]; exact (h.2.2.1 n (all n (List.mem_range.1 h1))).1)
  simp at this
/-- every item is behind a root's -/
theorem h2_root {K : Nat → Int32} {U : Nat → Prop} {gq rI rC rX rP rD : Nat → Nat} (hW : h2_W U gq rC rX rP rD) (hO : h2_O U K rI rP) : ∀ (k n : Nat), 24 ≤ k + rD n → U n → ∃ m, U m ∧ rP m = 24 ∧ gq m = gq n ∧ (m = n ∨ hs_bef K (rI m) (rI n)) := by
  intro k
  induction k with
  | zero =>
    intro n hk un
    by_cases e : rP n = 24
    · exact ⟨n, un, e, rfl, Or.inl rfl⟩
    · obtain ⟨a, b, c⟩ := h2_deg hW un e
      have := (h2_d24 hW a).1
      omega
  | succ k ih =>
    intro n hk un
    by_cases e : rP n = 24
    · exact ⟨n, un, e, rfl, Or.inl rfl⟩
    · obtain ⟨a, b, c⟩ := h2_deg hW un e
      obtain ⟨m, m1, m2, m3, m4⟩ := ih (rP n) (by omega) a
      refine ⟨m, m1, m2, m3.trans b, Or.inr ?_⟩
      rcases m4 with o | o
      · rw [o]; exact hO n un e
      · exact hs_bef_tr o (hO n un e)
section
variable {st : Nat} {K A : Nat → Int32} {sz hp pl pr pc pn pb rF rI rN rU rC rX rP rD gF gC gL gR gP gD gM gO lr ll lR lp lk wn sk : Nat → Nat}
theorem h2_setI {post : SX → Prop} {a' b' : Int32} (n x : Nat) (hn : n < 25) (hx : x < 24) (h : post ((nI st), K, A, (hs_A sz), (hs_A hp), (hs_A pl), (hs_A pr), (hs_A pc), (hs_A pn), (hs_A pb), (hs_A rF), (hs_A (hs_s rI n x)), (hs_A (hs_s rN x n)), (hs_A rU), (hs_A rC), (hs_A rX), (hs_A rP), (hs_A rD), (hs_A gF), (hs_A gC), (hs_A gL), (hs_A gR), (hs_A gP), (hs_A gD), (hs_A gM), (hs_A gO), (hs_A lr), (hs_A ll), (hs_A lR), (hs_A lp), (hs_A lk), (hs_A wn), (hs_A sk))) (ea : a' = nI n := by rfl) (eb : b' = nI x := by rfl) : wpX_setItem post ((nI st), K, A, (hs_A sz), (hs_A hp), (hs_A pl), (hs_A pr), (hs_A pc), (hs_A pn), (hs_A pb), (hs_A rF), (hs_A rI), (hs_A rN), (hs_A rU), (hs_A rC), (hs_A rX), (hs_A rP), (hs_A rD), (hs_A gF), (hs_A gC), (hs_A gL), (hs_A gR), (hs_A gP), (hs_A gD), (hs_A gM), (hs_A gO), (hs_A lr), (hs_A ll), (hs_A lR), (hs_A lp), (hs_A lk), (hs_A wn), (hs_A sk)) a' b' := by
  subst ea; subst eb
  unfold wpX_setItem
  dsimp only
  exact hs_w n x hn (by omega) (hs_w x n hx (by omega) h)
theorem h2_add {post : SX → Prop} {Q : Nat → Nat} {q' x' : Int32} (q x : Nat) (hq : q < 4) (hx : x < 24) (hI : h2_I K Q rF rI rN rU rC rX rP rD) (hQx : Q x = 0) (hpost : ∀ rF' rI' rN' rU' rC' rX' rP' rD', h2_I K (hs_s Q x (q + 1)) rF' rI' rN' rU' rC' rX' rP' rD' → post ((nI st), K, A, (hs_A sz), (hs_A hp), (hs_A pl), (hs_A pr), (hs_A pc), (hs_A pn), (hs_A pb), (hs_A rF'), (hs_A rI'), (hs_A rN'), (hs_A rU'), (hs_A rC'), (hs_A rX'), (hs_A rP'), (hs_A rD'), (hs_A gF), (hs_A gC), (hs_A gL), (hs_A gR), (hs_A gP), (hs_A gD), (hs_A gM), (hs_A gO), (hs_A lr), (hs_A ll), (hs_A lR), (hs_A lp), (hs_A lk), (hs_A wn), (hs_A sk))) (eq : q' = nI q := by rfl) (ex : x' = nI x := by rfl) : wpX_addToRow post ((nI st), K, A, (hs_A sz), (hs_A hp), (hs_A pl), (hs_A pr), (hs_A pc), (hs_A pn), (hs_A pb), (hs_A rF), (hs_A rI), (hs_A rN), (hs_A rU), (hs_A rC), (hs_A rX), (hs_A rP), (hs_A rD), (hs_A gF), (hs_A gC), (hs_A gL), (hs_A gR), (hs_A gP), (hs_A gD), (hs_A gM), (hs_A gO), (hs_A lr), (hs_A ll), (hs_A lR), (hs_A lp), (hs_A lk), (hs_A wn), (hs_A sk)) q' x' := by
  subst eq; subst ex
  obtain ⟨hB, hW, hO, hL⟩ := hI
  obtain ⟨f, f24, f0⟩ := h2_free hB hx hQx
  unfold wpX_addToRow
  dsimp only
  have loop : ∀ n j, j ≤ f → f < j + n → wX_addToRow_2 post (nI q) (nI x) (nI st) K A (hs_A sz) (hs_A hp) (hs_A pl) (hs_A pr) (hs_A pc) (hs_A pn) (hs_A pb) (hs_A rF) (hs_A rI) (hs_A rN) (hs_A rU) (hs_A rC) (hs_A rX) (hs_A rP) (hs_A rD) (hs_A gF) (hs_A gC) (hs_A gL) (hs_A gR) (hs_A gP) (hs_A gD) (hs_A gM) (hs_A gO) (hs_A lr) (hs_A ll) (hs_A lR) (hs_A lp) (hs_A lk) (hs_A wn) (hs_A sk) n (nI j) := by
    intro n
    induction n with
    | zero => intro j h1 h2; omega
    | succ n ih =>
      intro j h1 h2
      have j24 : j < 24 := by omega
      have u2 := hB.1 j j24
      rw [wX_addToRow_2]
      refine hs_in j (by omega) ?_
      refine pk_eq (rU j) 0 (fun e => ?_) (fun e => ?_) (hs_rd j (by omega)) rfl
      · refine hs_wz j 1 (by omega) (by omega) ?_
        refine h2_setI j x (by omega) hx ?_
        dsimp only
        refine hs_wn j 24 (by omega) (by omega) (hs_wn j 24 (by omega) (by omega) (hs_wn j 24 (by omega) (by omega) (hs_wn j 0 (by omega) (by omega) (hs_in q hq ?_))))
        have nj : ¬ h2_U rU j := fun h => by have := h.2; omega
        have hU : (fun z => h2_U rU z ∨ z = j) = h2_U (hs_s rU j 1) := by
          funext z; apply propext; unfold h2_U
          by_cases ez : z = j
          · rw [hs_se ez]; exact ⟨fun _ => ⟨by omega, rfl⟩, fun _ => Or.inr ez⟩
          · rw [hs_sn ez]; exact ⟨fun h => h.resolve_right ez, Or.inl⟩
        have ux : ∀ z, h2_U rU z → z ≠ j ∧ rI z ≠ x ∧ hs_s Q x (q + 1) (hs_s rI j x z) = Q (rI z) := fun z uz => by
          have h1 : z ≠ j := fun h => nj (h ▸ uz)
          have h2 : rI z ≠ x := fun h => by
            have := (hB.2.2.1 z uz).2.1
            rw [h] at this; exact this hQx
          exact ⟨h1, h2, by rw [hs_sn h1, hs_sn h2]⟩
        have hW1 := h2_new (gq' := fun n => hs_s Q x (q + 1) (hs_s rI j x n)) hW nj j24 (fun z uz => (ux z uz).2.2)
        rw [hU] at hW1
        have sp : ∀ z, h2_U (hs_s rU j 1) z → z ≠ j → h2_U rU z := fun z uz ez => by
          have := uz.2
          rw [hs_sn ez] at this
          exact ⟨uz.1, this⟩
        have mk : ∀ z, h2_U rU z → h2_U (hs_s rU j 1) z := fun z uz => ⟨uz.1, by rw [hs_sn (ux z uz).1]; exact uz.2⟩
        have uj : h2_U (hs_s rU j 1) j := ⟨j24, hs_ss⟩
        have hO1 : h2_O (h2_U (hs_s rU j 1)) K (hs_s rI j x) (hs_s rP j 24) := by
          intro c uc hc
          by_cases ec : c = j
          · rw [ec, hs_ss] at hc; exact absurd rfl hc
          · rw [hs_sn ec] at hc ⊢
            have uc' := sp c uc ec
            rw [hs_sn ec, hs_sn (ux _ (h2_deg hW uc' hc).1).1]
            exact hO c uc' hc
        have hB1 : h2_B (hs_s Q x (q + 1)) (hs_s rI j x) (hs_s rN x j) (hs_s rU j 1) := by
          refine ⟨fun n hn => ?_, by rw [hs_sn (by omega)]; exact hB.2.1, fun n un => ?_, fun y hy hQ => ?_⟩
          · by_cases en : n = j
            · rw [hs_se en]; omega
            · rw [hs_sn en]; exact hB.1 n hn
          · by_cases en : n = j
            · rw [en, hs_ss, hs_ss, hs_ss]; exact ⟨hx, by omega, rfl⟩
            · have un' := sp n un en
              obtain ⟨b1, b2, b3⟩ := hB.2.2.1 n un'
              rw [hs_sn en, hs_sn (ux n un').2.1, hs_sn (ux n un').2.1]; exact ⟨b1, b2, b3⟩
          · by_cases ey : y = x
            · rw [ey, hs_ss, hs_ss]; exact ⟨uj, rfl⟩
            · rw [hs_sn ey] at hQ
              obtain ⟨b1, b2⟩ := hB.2.2.2 y hy hQ
              rw [hs_sn ey, hs_sn (ux _ b1).1]; exact ⟨mk _ b1, b2⟩
        have ho : ∀ p, p < 4 → ∀ L : List Nat, (∀ c, c ∈ L ↔ h2_U rU c ∧ rP c = 24 ∧ Q (rI c) = p + 1) → (∀ c, c ∈ L → c ≠ j) := fun p hp L hm c hc => (ux c ((hm c).1 hc).1).1
        obtain ⟨L, l1, l2, l3, l4, l5⟩ := hL q hq
        have Lj := ho q hq L l4
        have Mg : ∀ z, z ∈ L ++ [j] → h2_U (hs_s rU j 1) z ∧ hs_s rP j 24 z = 24 ∧ hs_s Q x (q + 1) (hs_s rI j x z) = q + 1 := by
          intro z hz
          rw [List.mem_append, List.mem_singleton] at hz
          rcases hz with hz | hz
          · obtain ⟨c1, c2, c3⟩ := (l4 z).1 hz
            exact ⟨mk z c1, by rw [hs_sn (Lj z hz)]; exact c2, by rw [(ux z c1).2.2]; exact c3⟩
          · rw [hz, hs_ss, hs_ss, hs_ss]; exact ⟨uj, rfl, rfl⟩
        refine h2_addRows (U := h2_U (hs_s rU j 1)) (gq := fun n => hs_s Q x (q + 1) (hs_s rI j x n)) (G := q + 1) L [j] (fun z uz => (hB1.2.2.1 z uz).1) (h2_inj hB1) hW1 hO1 ?_ Mg (h1_nx_fr (fun z hz => hs_sn (Lj z hz)) l2) ⟨hs_ss, trivial⟩ (h2_up_fr (fun z hz => hs_sn (Lj z hz)) l5) ⟨Nat.zero_le _, trivial⟩ (fun L' rC' rX' rP' rD' hR hup => ?_) (by rw [hs_rd q (by omega), l1]) rfl
        · rw [List.nodup_append]
          refine ⟨l3, by simp, fun a ha b hb e => ?_⟩
          rw [List.mem_singleton] at hb
          exact Lj a ha (e.trans hb)
        · dsimp only
          have r24 : h1_hd L' ≤ 24 := (h1_hd_n (fun z hz => (Mg z ((hR.2.2.2.1 z hz).1)).1.1)).1
          refine hs_w q (h1_hd L') hq (by omega) ?_
          refine hpost _ _ _ _ _ _ _ _ (h2_fin hB1 hR hup (fun z hz => ⟨(Mg z hz).1, (Mg z hz).2.2⟩) (fun c uc pc' gc => ?_) (fun p hp ep => ?_))
          · rw [List.mem_append, List.mem_singleton]
            by_cases ec : c = j
            · exact Or.inr ec
            · have uc' := sp c uc ec
              rw [hs_sn ec] at pc'
              rw [(ux c uc').2.2] at gc
              exact Or.inl ((l4 c).2 ⟨uc', pc', gc⟩)
          · obtain ⟨Lp, p1, p2, p3, p4, p5⟩ := hL p hp
            have pj := ho p hp Lp p4
            refine ⟨Lp, p1, h1_nx_fr (fun z hz => hs_sn (pj z hz)) p2, p3, fun c => ?_, h2_up_fr (fun z hz => hs_sn (pj z hz)) p5⟩
            rw [p4 c]
            dsimp only
            by_cases ec : c = j
            · rw [ec, hs_ss, hs_ss, hs_ss]
              exact ⟨fun h => absurd h.1 nj, fun h => by have := h.2.2; omega⟩
            · rw [hs_sn ec, hs_sn ec]
              constructor
              · intro ⟨a, b, d⟩
                exact ⟨mk c a, b, by rw [hs_sn (ux c a).2.1]; exact d⟩
              · intro ⟨a, b, d⟩
                have a' := sp c a ec
                rw [hs_sn (ux c a').2.1] at d
                exact ⟨a', b, d⟩
      · refine nm_r (nI_1 _) (ih (j + 1) ?_ (by omega))
        by_cases ej : j = f
        · rw [ej] at e; exact absurd f0 e
        · omega
  exact ⟨_, loop (f + 1) 0 (by omega) (by omega)⟩
theorem h2_join {post : Int32 → SX → Prop} {Q : Nat → Nat} {x' y' : Int32} (a b : Nat) (ha : a < 4) (hb : b < 4) (hab : a ≠ b) (hI : h2_I K Q rF rI rN rU rC rX rP rD) (hpost : ∀ r rC' rX' rP' rD', r ≤ 24 → h2_I K (hs_jQ Q a b) (hs_s (hs_s rF a r) b 24) rI rN rU rC' rX' rP' rD' → post (nI r) ((nI st), K, A, (hs_A sz), (hs_A hp), (hs_A pl), (hs_A pr), (hs_A pc), (hs_A pn), (hs_A pb), (hs_A rF), (hs_A rI), (hs_A rN), (hs_A rU), (hs_A rC'), (hs_A rX'), (hs_A rP'), (hs_A rD'), (hs_A gF), (hs_A gC), (hs_A gL), (hs_A gR), (hs_A gP), (hs_A gD), (hs_A gM), (hs_A gO), (hs_A lr), (hs_A ll), (hs_A lR), (hs_A lp), (hs_A lk), (hs_A wn), (hs_A sk))) (ex : x' = nI (rF a)) (ey : y' = nI (rF b)) : wpX_addRows post ((nI st), K, A, (hs_A sz), (hs_A hp), (hs_A pl), (hs_A pr), (hs_A pc), (hs_A pn), (hs_A pb), (hs_A rF), (hs_A rI), (hs_A rN), (hs_A rU), (hs_A rC), (hs_A rX), (hs_A rP), (hs_A rD), (hs_A gF), (hs_A gC), (hs_A gL), (hs_A gR), (hs_A gP), (hs_A gD), (hs_A gM), (hs_A gO), (hs_A lr), (hs_A ll), (hs_A lR), (hs_A lp), (hs_A lk), (hs_A wn), (hs_A sk)) x' y' := by
  obtain ⟨hB, hW, hO, hL⟩ := hI
  have jb : ∀ z, Q z = b + 1 → hs_jQ Q a b z = a + 1 := fun z e => by unfold hs_jQ; rw [if_pos e]
  have jn : ∀ z, Q z ≠ b + 1 → hs_jQ Q a b z = Q z := fun z e => by unfold hs_jQ; rw [if_neg e]
  have j0 : ∀ z, hs_jQ Q a b z = 0 ↔ Q z = 0 := fun z => by
    by_cases e : Q z = b + 1
    · rw [jb z e]; omega
    · rw [jn z e]
  have hB1 : h2_B (hs_jQ Q a b) rI rN rU := ⟨hB.1, hB.2.1, fun n un => ⟨(hB.2.2.1 n un).1, fun h => (hB.2.2.1 n un).2.1 ((j0 _).1 h), (hB.2.2.1 n un).2.2⟩, fun x hx h => hB.2.2.2 x hx (fun h' => h ((j0 x).2 h'))⟩
  have hW1 : h2_W (h2_U rU) (fun n => hs_jQ Q a b (rI n)) rC rX rP rD := h2_W_g hW (fun z z' _ _ e => by
    have e' : Q (rI z) = Q (rI z') := e
    show hs_jQ Q a b (rI z) = hs_jQ Q a b (rI z')
    unfold hs_jQ; rw [e'])
  obtain ⟨La, a1, a2, a3, a4, a5⟩ := hL a ha
  obtain ⟨Lb, b1, b2, b3, b4, b5⟩ := hL b hb
  dsimp only at a4 b4
  have Mg : ∀ z, z ∈ La ++ Lb → h2_U rU z ∧ rP z = 24 ∧ hs_jQ Q a b (rI z) = a + 1 := by
    intro z hz
    rw [List.mem_append] at hz
    rcases hz with hz | hz
    · obtain ⟨c1, c2, c3⟩ := (a4 z).1 hz
      exact ⟨c1, c2, by rw [jn _ (by omega)]; exact c3⟩
    · obtain ⟨c1, c2, c3⟩ := (b4 z).1 hz
      exact ⟨c1, c2, jb _ c3⟩
  refine h2_addRows (U := h2_U rU) (gq := fun n => hs_jQ Q a b (rI n)) (G := a + 1) La Lb (fun z uz => (hB.2.2.1 z uz).1) (h2_inj hB) hW1 hO ?_ Mg a2 b2 a5 b5 (fun L' rC' rX' rP' rD' hR hup => ?_) (by rw [ex, a1]) (by rw [ey, b1])
  · rw [List.nodup_append]
    refine ⟨a3, b3, fun x hx y hy e => ?_⟩
    have h1 := ((a4 x).1 hx).2.2
    have h2 := ((b4 y).1 hy).2.2
    rw [e] at h1; omega
  · have r24 : h1_hd L' ≤ 24 := (h1_hd_n (fun z hz => (Mg z ((hR.2.2.2.1 z hz).1)).1.1)).1
    refine hpost _ _ _ _ _ r24 ?_
    rw [h0_sc hab]
    refine h2_fin hB1 hR hup (fun z hz => ⟨(Mg z hz).1, (Mg z hz).2.2⟩) (fun c uc pc' gc => ?_) (fun p hp ep => ?_)
    · rw [List.mem_append]
      by_cases e : Q (rI c) = b + 1
      · exact Or.inr ((b4 c).2 ⟨uc, pc', e⟩)
      · rw [jn _ e] at gc; exact Or.inl ((a4 c).2 ⟨uc, pc', gc⟩)
    · by_cases eb : p = b
      · rw [hs_se eb]
        refine ⟨[], rfl, trivial, List.nodup_nil, fun c => ⟨fun h => absurd h (by simp), fun ⟨_, _, h⟩ => ?_⟩, trivial⟩
        dsimp only at h
        by_cases e : Q (rI c) = b + 1
        · rw [jb _ e] at h; omega
        · rw [jn _ e] at h; omega
      · rw [hs_sn eb]
        obtain ⟨Lp, p1, p2, p3, p4, p5⟩ := hL p hp
        refine ⟨Lp, p1, p2, p3, fun c => ?_, p5⟩
        rw [p4 c]
        dsimp only
        constructor
        · intro ⟨x1, x2, x3⟩; exact ⟨x1, x2, by rw [jn _ (by omega)]; exact x3⟩
        · intro ⟨x1, x2, x3⟩
          refine ⟨x1, x2, ?_⟩
          by_cases e : Q (rI c) = b + 1
          · rw [jb _ e] at x3; omega
          · rw [jn _ e] at x3; exact x3
theorem h2_first {post : Int32 → Prop} {Q : Nat → Nat} {q' : Int32} (q : Nat) (hq : q < 4) (hI : h2_I K Q rF rI rN rU rC rX rP rD) (hpost : ∀ r, hs_min K Q q r → post (nI r)) (eq : q' = nI q := by rfl) : wpX_firstInRow post ((nI st), K, A, (hs_A sz), (hs_A hp), (hs_A pl), (hs_A pr), (hs_A pc), (hs_A pn), (hs_A pb), (hs_A rF), (hs_A rI), (hs_A rN), (hs_A rU), (hs_A rC), (hs_A rX), (hs_A rP), (hs_A rD), (hs_A gF), (hs_A gC), (hs_A gL), (hs_A gR), (hs_A gP), (hs_A gD), (hs_A gM), (hs_A gO), (hs_A lr), (hs_A ll), (hs_A lR), (hs_A lp), (hs_A lk), (hs_A wn), (hs_A sk)) q' := by
  subst eq
  obtain ⟨hB, hW, hO, hL⟩ := hI
  obtain ⟨L, l1, l2, l3, l4, l5⟩ := hL q hq
  dsimp only at l4
  have key : ∀ (l dn : List Nat) (r : Nat), L = dn ++ l → h1_nx rX l → ((r = 24 ∧ dn = []) ∨ (∃ c, c ∈ dn ∧ rI c = r)) → (∀ c, c ∈ dn → rI c = r ∨ hs_bef K r (rI c)) → wX_firstInRow_10 post (nI st) K A (hs_A sz) (hs_A hp) (hs_A pl) (hs_A pr) (hs_A pc) (hs_A pn) (hs_A pb) (hs_A rF) (hs_A rI) (hs_A rN) (hs_A rU) (hs_A rC) (hs_A rX) (hs_A rP) (hs_A rD) (hs_A gF) (hs_A gC) (hs_A gL) (hs_A gR) (hs_A gP) (hs_A gD) (hs_A gM) (hs_A gO) (hs_A lr) (hs_A ll) (hs_A lR) (hs_A lp) (hs_A lk) (hs_A wn) (hs_A sk) (l.length + 1) (nI r) (nI (h1_hd l)) := by
    intro l
    induction l with
    | nil =>
      intro dn r e hn hr hm
      rw [wX_firstInRow_10]
      refine br_t rfl (hpost r ?_)
      rw [List.append_nil] at e
      subst e
      have beh : ∀ x, x < 24 → Q x = q + 1 → ∃ c, c ∈ L ∧ (rI c = x ∨ hs_bef K (rI c) x) := by
        intro x hx hQ
        obtain ⟨un, en⟩ := hB.2.2.2 x hx (by omega)
        obtain ⟨m, m1, m2, m3, m4⟩ := h2_root hW hO 24 (rN x) (by omega) un
        try dsimp only at m3
        rw [en] at m3 m4
        refine ⟨m, (l4 m).2 ⟨m1, m2, m3.trans hQ⟩, m4.imp (fun h => by rw [h]; exact en) id⟩
      rcases hr with ⟨h1, h2⟩ | ⟨c, h1, h2⟩
      · refine Or.inl ⟨h1, fun x hx hQ => ?_⟩
        obtain ⟨c, cm, _⟩ := beh x hx hQ
        rw [h2] at cm; simp at cm
      · obtain ⟨c1, c2, c3⟩ := (l4 c).1 h1
        refine Or.inr ⟨by rw [← h2]; exact (hB.2.2.1 c c1).1, by rw [← h2]; exact c3, fun x hx hQ ne => ?_⟩
        obtain ⟨d, dm, o⟩ := beh x hx hQ
        rcases hm d dm with h | h
        · rw [h] at o
          exact o.resolve_left (fun h' => ne h'.symm)
        · rcases o with o | o
          · rw [o] at h; exact h
          · exact hs_bef_tr h o
    | cons c l ih =>
      intro dn r e hn hr hm
      obtain ⟨n1, n2⟩ := hn
      have uc := ((l4 c).1 (by rw [e]; simp)).1
      have c24 := uc.1
      have i24 := (hB.2.2.1 c uc).1
      have r24 : r ≤ 24 := by
        rcases hr with h | ⟨d, h1, h2⟩
        · omega
        · have := (hB.2.2.1 d ((l4 d).1 (by rw [e]; simp [h1])).1).1
          omega
      have e' : L = (dn ++ [c]) ++ l := by rw [e]; simp
      have new : (r = 24 ∨ hs_bef K (rI c) r) → wX_firstInRow_36 post (wX_firstInRow_10 post (nI st) K A (hs_A sz) (hs_A hp) (hs_A pl) (hs_A pr) (hs_A pc) (hs_A pn) (hs_A pb) (hs_A rF) (hs_A rI) (hs_A rN) (hs_A rU) (hs_A rC) (hs_A rX) (hs_A rP) (hs_A rD) (hs_A gF) (hs_A gC) (hs_A gL) (hs_A gR) (hs_A gP) (hs_A gD) (hs_A gM) (hs_A gO) (hs_A lr) (hs_A ll) (hs_A lR) (hs_A lp) (hs_A lk) (hs_A wn) (hs_A sk) (l.length + 1)) (nI c) (nI st) K A (hs_A sz) (hs_A hp) (hs_A pl) (hs_A pr) (hs_A pc) (hs_A pn) (hs_A pb) (hs_A rF) (hs_A rI) (hs_A rN) (hs_A rU) (hs_A rC) (hs_A rX) (hs_A rP) (hs_A rD) (hs_A gF) (hs_A gC) (hs_A gL) (hs_A gR) (hs_A gP) (hs_A gD) (hs_A gM) (hs_A gO) (hs_A lr) (hs_A ll) (hs_A lR) (hs_A lp) (hs_A lk) (hs_A wn) (hs_A sk) := by
        intro ho
        unfold wX_firstInRow_36
        refine hs_r c (by omega) (hs_r c (by omega) ?_)
        rw [n1]
        refine ih (dn ++ [c]) (rI c) e' n2 (Or.inr ⟨c, by simp, rfl⟩) (fun d hd => ?_)
        rw [List.mem_append, List.mem_singleton] at hd
        rcases hd with hd | hd
        · rcases ho with h | h
          · rcases hr with ⟨_, h2⟩ | ⟨d', h1, h2⟩
            · rw [h2] at hd; simp at hd
            · have := (hB.2.2.1 d' ((l4 d').1 (by rw [e]; simp [h1])).1).1
              omega
          · rcases hm d hd with h' | h'
            · rw [h']; exact Or.inr h
            · exact Or.inr (hs_bef_tr h h')
        · rw [hd]; exact Or.inl rfl
      rw [wX_firstInRow_10]
      refine pk_eq c 24 (fun h => by omega) (fun _ => ?_)
      refine pk_eq r 24 (fun h => new (Or.inl h)) (fun h => ?_)
      refine hs_in c (by omega) ?_
      refine hs_cbb (rI c) r i24 (by omega) (fun hb => new (Or.inr hb)) (fun hb => ?_) (hs_rd c (by omega)) rfl
      refine hs_r c (by omega) ?_
      rw [n1]
      refine ih (dn ++ [c]) r e' n2 (Or.inr ?_) (fun d hd => ?_)
      · rcases hr with ⟨h1, _⟩ | ⟨d, h1, h2⟩
        · exact absurd h1 h
        · exact ⟨d, by simp [h1], h2⟩
      · rw [List.mem_append, List.mem_singleton] at hd
        rcases hd with hd | hd
        · exact hm d hd
        · rw [hd]
          by_cases er : rI c = r
          · exact Or.inl er
          · exact Or.inr (hs_bef_tot hb er)
  unfold wpX_firstInRow
  dsimp only
  refine hs_r q hq ⟨L.length + 1, ?_⟩
  rw [l1]
  exact key L [] 24 rfl l2 (Or.inl ⟨rfl, rfl⟩) (fun c hc => by simp at hc)
end
end
section
/-! engine 2: rising, lowering, removing -/
theorem h2_B_sw {Q rI rN rU : Nat → Nat} {n p x : Nat} (h : h2_B Q rI rN rU) (un : h2_U rU n) (up : h2_U rU p) (np : n ≠ p) (hx : rI n = x) : h2_B Q (hs_s (hs_s rI n (rI p)) p x) (hs_s (hs_s rN (rI p) n) x p) rU := by
  obtain ⟨h1, h2, h3, h4⟩ := h
  obtain ⟨n1, n2, n3⟩ := h3 n un
  obtain ⟨p1, p2, p3⟩ := h3 p up
  rw [hx] at n1 n2 n3
  have xp : rI p ≠ x := fun e => by rw [e, n3] at p3; exact np p3
  refine ⟨h1, h2, fun z uz => ?_, fun y hy hQ => ?_⟩
  · by_cases ez : z = p
    · rw [ez, hs_ss, hs_ss]; exact ⟨n1, n2, rfl⟩
    · rw [hs_sn ez]
      by_cases ez' : z = n
      · rw [ez', hs_ss, hs_sn xp, hs_ss]; exact ⟨p1, p2, rfl⟩
      · rw [hs_sn ez']
        obtain ⟨z1, z2, z3⟩ := h3 z uz
        have e1 : rI z ≠ x := fun e => by rw [e, n3] at z3; exact ez' z3.symm
        have e2 : rI z ≠ rI p := fun e => by rw [e, p3] at z3; exact ez z3.symm
        rw [hs_sn e1, hs_sn e2]; exact ⟨z1, z2, z3⟩
  · by_cases ey : y = x
    · rw [ey, hs_ss, hs_ss]; exact ⟨up, rfl⟩
    · rw [hs_sn ey]
      by_cases ey' : y = rI p
      · rw [ey', hs_ss, hs_sn np, hs_ss]; exact ⟨un, rfl⟩
      · rw [hs_sn ey']
        obtain ⟨y1, y2⟩ := h4 y hy hQ
        have e1 : rN y ≠ p := fun e => by rw [e] at y2; exact ey' y2.symm
        have e2 : rN y ≠ n := fun e => by rw [e, hx] at y2; exact ey y2.symm
        rw [hs_sn e1, hs_sn e2]; exact ⟨y1, y2⟩
/-- order on all edges that do not touch n, and past n -/
def h2_N (U : Nat → Prop) (K : Nat → Int32) (rP rI : Nat → Nat) (n : Nat) : Prop :=
  (∀ c, U c → rP c ≠ 24 → c ≠ n → rP c ≠ n → hs_bef K (rI (rP c)) (rI c)) ∧ (∀ c, U c → rP c = n → rP n ≠ 24 → hs_bef K (rI (rP n)) (rI c))
/-- order on all edges but the one above n, and past n -/
def h2_Q (U : Nat → Prop) (K : Nat → Int32) (rP rI : Nat → Nat) (n : Nat) : Prop :=
  (∀ c, U c → rP c ≠ 24 → c ≠ n → hs_bef K (rI (rP c)) (rI c)) ∧ (∀ c, U c → rP c = n → rP n ≠ 24 → hs_bef K (rI (rP n)) (rI c))
theorem h2_ne {U : Nat → Prop} {gq rC rX rP rD : Nat → Nat} (hW : h2_W U gq rC rX rP rD) {c : Nat} (uc : U c) (hc : rP c ≠ 24) : rP c ≠ c := fun e => by
  have := (h2_deg hW uc hc).2.2
  rw [e] at this; omega
theorem h2_N_s {U : Nat → Prop} {K : Nat → Int32} {gq rC rX rP rD rI : Nat → Nat} {n x : Nat} (hW : h2_W U gq rC rX rP rD) (h : h2_N U K rP rI n) (un : U n) (hx : rI n = x) (hp : rP n ≠ 24) : h2_N U K rP (hs_s (hs_s rI n (rI (rP n))) (rP n) x) (rP n) := by
  obtain ⟨h1, h2⟩ := h
  have np := h2_ne hW un hp
  obtain ⟨u1, _, d1⟩ := h2_deg hW un hp
  constructor
  · intro c uc hc c1 c2
    rw [hs_sn c1, hs_sn c2]
    by_cases e : c = n
    · rw [e] at c2; exact absurd rfl c2
    · rw [hs_sn e]
      by_cases e' : rP c = n
      · rw [e', hs_ss]; exact h2 c uc e' hp
      · rw [hs_sn e']; exact h1 c uc hc e e'
  · intro c uc hc hpp
    have d2 := (h2_deg hW u1 hpp).2.2
    have e1 : rP (rP n) ≠ rP n := h2_ne hW u1 hpp
    have e2 : rP (rP n) ≠ n := fun e => by rw [e] at d2; omega
    have cp : c ≠ rP n := fun e => by rw [e] at hc; exact e1 hc
    rw [hs_sn e1, hs_sn e2, hs_sn cp]
    have b1 := h1 (rP n) u1 hpp np e2
    by_cases e : c = n
    · rw [hs_se e]; exact b1
    · rw [hs_sn e]
      have hcn : rP c ≠ 24 := by rw [hc]; exact hp
      have b2 := h1 c uc hcn e (by rw [hc]; exact np)
      rw [hc] at b2
      exact hs_bef_tr b1 b2
theorem h2_Q_s {U : Nat → Prop} {K : Nat → Int32} {gq rC rX rP rD rI : Nat → Nat} {n x : Nat} (hW : h2_W U gq rC rX rP rD) (h : h2_Q U K rP rI n) (un : U n) (hx : rI n = x) (hp : rP n ≠ 24) (hb : hs_bef K x (rI (rP n))) : h2_Q U K rP (hs_s (hs_s rI n (rI (rP n))) (rP n) x) (rP n) := by
  have hN := h2_N_s hW (x := x) ⟨fun c uc hc c1 _ => h.1 c uc hc c1, h.2⟩ un hx hp
  have np := h2_ne hW un hp
  refine ⟨fun c uc hc c1 => ?_, hN.2⟩
  by_cases e : rP c = rP n
  · rw [hs_sn c1, e, hs_ss]
    by_cases ec : c = n
    · rw [hs_se ec]; exact hb
    · rw [hs_sn ec]
      have := h.1 c uc hc ec
      rw [e] at this
      exact hs_bef_tr hb this
  · exact hN.1 c uc hc c1 e
section
variable {st : Nat} {K A : Nat → Int32} {sz hp pl pr pc pn pb rF rI rN rU rC rX rP rD gF gC gL gR gP gD gM gO lr ll lR lp lk wn sk : Nat → Nat}
theorem h2_riseL {post : Int32 → SX → Prop} {Q gq : Nat → Nat} {x b : Nat} {Inv : (Nat → Nat) → Nat → Prop} (hx : x < 24) (hb2 : b < 2) (hW : h2_W (h2_U rU) gq rC rX rP rD) (hst : ∀ rI n, Inv rI n → h2_U rU n → rI n = x → rP n ≠ 24 → (b = 1 ∨ hs_bef K x (rI (rP n))) → Inv (hs_s (hs_s rI n (rI (rP n))) (rP n) x) (rP n)) (hpost : ∀ n rI' rN', h2_U rU n → rI' n = x → h2_B Q rI' rN' rU → (∀ z, h2_U rU z → Q (rI' z) = gq z) → Inv rI' n → (rP n = 24 ∨ (b = 0 ∧ ¬ hs_bef K x (rI' (rP n)))) → post (nI n) ((nI st), K, A, (hs_A sz), (hs_A hp), (hs_A pl), (hs_A pr), (hs_A pc), (hs_A pn), (hs_A pb), (hs_A rF), (hs_A rI'), (hs_A rN'), (hs_A rU), (hs_A rC), (hs_A rX), (hs_A rP), (hs_A rD), (hs_A gF), (hs_A gC), (hs_A gL), (hs_A gR), (hs_A gP), (hs_A gD), (hs_A gM), (hs_A gO), (hs_A lr), (hs_A ll), (hs_A lR), (hs_A lp), (hs_A lk), (hs_A wn), (hs_A sk))) : ∀ (m n : Nat) (rI rN : Nat → Nat), 24 < m + rD n → h2_U rU n → rI n = x → h2_B Q rI rN rU → (∀ z, h2_U rU z → Q (rI z) = gq z) → Inv rI n → wX_riseInRow_7 post (nI x) (nI b) m (nI n) (nI st) K A (hs_A sz) (hs_A hp) (hs_A pl) (hs_A pr) (hs_A pc) (hs_A pn) (hs_A pb) (hs_A rF) (hs_A rI) (hs_A rN) (hs_A rU) (hs_A rC) (hs_A rX) (hs_A rP) (hs_A rD) (hs_A gF) (hs_A gC) (hs_A gL) (hs_A gR) (hs_A gP) (hs_A gD) (hs_A gM) (hs_A gO) (hs_A lr) (hs_A ll) (hs_A lR) (hs_A lp) (hs_A lk) (hs_A wn) (hs_A sk) := by
  intro m
  induction m with
  | zero =>
    intro n rI rN hm un
    have := (h2_d24 hW un).1
    omega
  | succ m ih =>
    intro n rI rN hm un en hB hgq hI
    have n24 := un.1
    have p24 : rP n ≤ 24 := by
      by_cases e : rP n = 24
      · omega
      · have := (h2_deg hW un e).1.1; omega
    rw [wX_riseInRow_7]
    refine hs_in n (by omega) ?_
    refine pk_eq (rP n) 24 (fun e => hpost n rI rN un en hB hgq hI (Or.inl e)) (fun e => ?_) (hs_rd n (by omega)) rfl
    obtain ⟨up, gp, dp⟩ := h2_deg hW un e
    have u24 := up.1
    have ip := (hB.2.2.1 _ up).1
    have np := h2_ne hW un e
    have go : (b = 1 ∨ hs_bef K x (rI (rP n))) → wX_riseInRow_41 post (wX_riseInRow_7 post (nI x) (nI b) m) (nI x) (nI b) (nI n) (nI st) K A (hs_A sz) (hs_A hp) (hs_A pl) (hs_A pr) (hs_A pc) (hs_A pn) (hs_A pb) (hs_A rF) (hs_A rI) (hs_A rN) (hs_A rU) (hs_A rC) (hs_A rX) (hs_A rP) (hs_A rD) (hs_A gF) (hs_A gC) (hs_A gL) (hs_A gR) (hs_A gP) (hs_A gD) (hs_A gM) (hs_A gO) (hs_A lr) (hs_A ll) (hs_A lR) (hs_A lp) (hs_A lk) (hs_A wn) (hs_A sk) := by
      intro ho
      unfold wX_riseInRow_41
      refine hs_r n (by omega) (hs_in (rP n) (by omega) ?_)
      refine h2_setI n (rI (rP n)) (by omega) ip ?_ rfl (hs_rd (rP n) (by omega))
      dsimp only
      refine h2_setI (rP n) x (by omega) hx ?_
      dsimp only
      refine ih (rP n) _ _ (by omega) up hs_ss (h2_B_sw hB un up (Ne.symm np) en) (fun z uz => ?_) (hst rI n hI un en e ho)
      by_cases ez : z = rP n
      · rw [ez, hs_ss, gp, ← hgq n un, en]
      · rw [hs_sn ez]
        by_cases ez' : z = n
        · rw [ez', hs_ss, hgq _ up]; exact gp
        · rw [hs_sn ez']; exact hgq z uz
    refine pk_eq b 0 (fun eb => ?_) (fun eb => go (Or.inl (by omega)))
    have erp : hs_A rP (nI n).toNatClampNeg = nI (rP n) := hs_rd n (by omega)
    refine hs_in n (by omega) (hs_in (rP n) (by omega) ?_ erp)
    exact hs_cbb x (rI (rP n)) hx ip (fun hb => go (Or.inr hb)) (fun hb => hpost n rI rN un en hB hgq hI (Or.inr ⟨eb, hb⟩)) rfl (hs_rd (rP n) (by omega) erp)
theorem h2_low {post : Int32 → SX → Prop} {Q : Nat → Nat} {K0 : Nat → Int32} {x' : Int32} (x : Nat) (hx : x < 24) (hI : h2_I K0 Q rF rI rN rU rC rX rP rD) (hQx : Q x ≠ 0) (hK : ∀ j, j ≠ x → K j = K0 j) (hl : K x ≤ K0 x) (hpost : ∀ r rI' rN', h2_I K Q rF rI' rN' rU rC rX rP rD → post r ((nI st), K, A, (hs_A sz), (hs_A hp), (hs_A pl), (hs_A pr), (hs_A pc), (hs_A pn), (hs_A pb), (hs_A rF), (hs_A rI'), (hs_A rN'), (hs_A rU), (hs_A rC), (hs_A rX), (hs_A rP), (hs_A rD), (hs_A gF), (hs_A gC), (hs_A gL), (hs_A gR), (hs_A gP), (hs_A gD), (hs_A gM), (hs_A gO), (hs_A lr), (hs_A ll), (hs_A lR), (hs_A lp), (hs_A lk), (hs_A wn), (hs_A sk))) (ex : x' = nI x := by rfl) : wpX_riseInRow post ((nI st), K, A, (hs_A sz), (hs_A hp), (hs_A pl), (hs_A pr), (hs_A pc), (hs_A pn), (hs_A pb), (hs_A rF), (hs_A rI), (hs_A rN), (hs_A rU), (hs_A rC), (hs_A rX), (hs_A rP), (hs_A rD), (hs_A gF), (hs_A gC), (hs_A gL), (hs_A gR), (hs_A gP), (hs_A gD), (hs_A gM), (hs_A gO), (hs_A lr), (hs_A ll), (hs_A lR), (hs_A lp), (hs_A lk), (hs_A wn), (hs_A sk)) x' 0 := by
  subst ex
  obtain ⟨hB, hW, hO, hL⟩ := hI
  obtain ⟨un, en⟩ := hB.2.2.2 x hx hQx
  have n24 := un.1
  have ix : ∀ c, h2_U rU c → c ≠ rN x → rI c ≠ x := fun c uc hc e => by
    have := (hB.2.2.1 c uc).2.2
    rw [e] at this; exact hc this.symm
  have hQ0 : h2_Q (h2_U rU) K rP rI (rN x) := by
    refine ⟨fun c uc hc c1 => hs_bef_low hK hl (ix c uc c1) (hO c uc hc), fun c uc hc hp => ?_⟩
    have b1 := hO (rN x) un hp
    have hcn : rP c ≠ 24 := by rw [hc]; have := un.1; omega
    have b2 := hO c uc hcn
    have cn : c ≠ rN x := fun e => h2_ne hW uc hcn (by rw [hc, e])
    rw [hc] at b2
    exact hs_bef_low hK hl (ix c uc cn) (hs_bef_tr b1 b2)
  unfold wpX_riseInRow
  dsimp only
  refine hs_r x hx ⟨25, ?_⟩
  refine h2_riseL (Q := Q) (gq := fun n => Q (rI n)) (x := x) (b := 0) (Inv := fun rI n => h2_Q (h2_U rU) K rP rI n) hx (by omega) hW (fun rI n h un en hp ho => h2_Q_s hW h un en hp (ho.resolve_left (by omega))) (fun n rI' rN' un' en' hB' hgq h ho => ?_) 25 (rN x) rI rN (by omega) un en hB (fun _ _ => rfl) hQ0
  refine hpost (nI n) rI' rN' ⟨hB', h2_W_g hW (fun z z' uz uz' e => by rw [hgq z uz, hgq z' uz']; exact e), fun c uc hc => ?_, fun q hq => ?_⟩
  · by_cases e : c = n
    · subst e
      rcases ho with o | ⟨_, o⟩
      · exact absurd o hc
      · rw [en']
        refine hs_bef_tot o (fun e => ?_)
        rw [← en'] at e
        exact h2_ne hW uc hc (h2_inj hB' _ _ (h2_deg hW uc hc).1 uc e.symm)
    · exact h.1 c uc hc e
  · obtain ⟨L, l1, l2, l3, l4, l5⟩ := hL q hq
    refine ⟨L, l1, l2, l3, fun c => ?_, l5⟩
    rw [l4 c]
    dsimp only
    constructor
    · intro ⟨a, b, d⟩; exact ⟨a, b, by rw [hgq c a]; exact d⟩
    · intro ⟨a, b, d⟩; exact ⟨a, b, by rw [hgq c a] at d; exact d⟩
/-- turning the children around -/
theorem h2_turn {post : SX → Prop} {q n : Nat} {lc : List Nat} {rX1 rP1 : Nat → Nat} (hd : lc.Nodup) (h24 : ∀ z, z ∈ lc → z < 24) (hn : n < 24) (hq : q < 4) (hnx : h1_nx rX1 lc) (hpost : ∀ rX2, h1_nx rX2 lc.reverse → (∀ z, z ∉ lc → rX2 z = rX1 z) → ∀ rP2, (∀ z, z ∈ lc → rP2 z = 24) → (∀ z, z ∉ lc → rP2 z = rP1 z) → wpX_addRows (fun r_48 u => match u with | (f_stacked_49, a_key_50, a_queue_51, a_size_52, a_heap_53, a_place_54, a_pairRoot_55, a_pairChild_56, a_pairNext_57, a_pairBefore_58, a_rowFirst_59, a_rowItem_60, a_rowNode_61, a_rowUsed_62, a_rowChild_63, a_rowNext_64, a_rowParent_65, a_rowDegree_66, a_ringFirst_67, a_ringChild_68, a_ringLeft_69, a_ringRight_70, a_ringParent_71, a_ringDegree_72, a_ringMark_73, a_ringOfDegree_74, a_leanRoot_75, a_leanLeft_76, a_leanRight_77, a_leanParent_78, a_leanRank_79, a_winner_80, a_stack_81) => (vp_in (nI q) 4 ∧ ∀ a_rowFirst_83 : Nat → Int32, a_rowFirst_83 = upd a_rowFirst_59 (nI q).toNatClampNeg (vp_nar .byte r_48.toInt8.toInt32) → (post (f_stacked_49, a_key_50, a_queue_51, a_size_52, a_heap_53, a_place_54, a_pairRoot_55, a_pairChild_56, a_pairNext_57, a_pairBefore_58, a_rowFirst_83, a_rowItem_60, a_rowNode_61, a_rowUsed_62, a_rowChild_63, a_rowNext_64, a_rowParent_65, a_rowDegree_66, a_ringFirst_67, a_ringChild_68, a_ringLeft_69, a_ringRight_70, a_ringParent_71, a_ringDegree_72, a_ringMark_73, a_ringOfDegree_74, a_leanRoot_75, a_leanLeft_76, a_leanRight_77, a_leanParent_78, a_leanRank_79, a_winner_80, a_stack_81)))) ((nI st), K, A, (hs_A sz), (hs_A hp), (hs_A pl), (hs_A pr), (hs_A pc), (hs_A pn), (hs_A pb), (hs_A rF), (hs_A rI), (hs_A rN), (hs_A (hs_s rU n 0)), (hs_A rC), (hs_A rX2), (hs_A rP2), (hs_A rD), (hs_A gF), (hs_A gC), (hs_A gL), (hs_A gR), (hs_A gP), (hs_A gD), (hs_A gM), (hs_A gO), (hs_A lr), (hs_A ll), (hs_A lR), (hs_A lp), (hs_A lk), (hs_A wn), (hs_A sk)) (nI (rF q)) (nI (h1_hd lc.reverse))) : ∀ (rest dn : List Nat) (rX rP : Nat → Nat), lc = dn ++ rest → h1_nx rX dn.reverse → (∀ z, z ∉ dn → rX z = rX1 z) → (∀ z, z ∈ dn → rP z = 24) → (∀ z, z ∉ dn → rP z = rP1 z) → wX_removeFromRow_88 post (nI q) (nI n) (nI st) (rest.length + 1) (nI (h1_hd dn.reverse)) (nI (h1_hd rest)) K A (hs_A sz) (hs_A hp) (hs_A pl) (hs_A pr) (hs_A pc) (hs_A pn) (hs_A pb) (hs_A rF) (hs_A rI) (hs_A rN) (hs_A rU) (hs_A rC) (hs_A rX) (hs_A rP) (hs_A rD) (hs_A gF) (hs_A gC) (hs_A gL) (hs_A gR) (hs_A gP) (hs_A gD) (hs_A gM) (hs_A gO) (hs_A lr) (hs_A ll) (hs_A lR) (hs_A lp) (hs_A lk) (hs_A wn) (hs_A sk) := by
  intro rest
  induction rest with
  | nil =>
    intro dn rX rP e h1 h2 h3 h4
    rw [List.append_nil] at e
    subst e
    rw [wX_removeFromRow_88]
    refine br_t rfl ?_
    refine hs_wz n 0 (by omega) (by omega) (hs_in q hq ?_)
    have := hpost rX h1 h2 rP h3 h4
    rw [hs_rd q (by omega)]
    exact this
  | cons c rest ih =>
    intro dn rX rP e h1 h2 h3 h4
    have cm : c ∈ lc := by rw [e]; simp
    have c24 := h24 c cm
    have cd : c ∉ dn := by
      intro h
      rw [e, List.nodup_append] at hd
      exact hd.2.2 c h c (by simp) rfl
    have t24 := (h1_hd_n (l := dn.reverse) (fun z hz => h24 z (by rw [e]; simp at hz; simp [hz]))).1
    have nxc : rX c = h1_hd rest := by
      rw [h2 c cd]
      rw [e] at hnx
      exact h2_nx_at hnx
    rw [wX_removeFromRow_88]
    refine pk_eq c 24 (fun h => by omega) (fun _ => ?_)
    refine hs_r c (by omega) ?_
    rw [nxc]
    refine hs_w c (h1_hd dn.reverse) (by omega) (by omega) (hs_wn c 24 (by omega) (by omega) ?_)
    have e2 : (dn ++ [c]).reverse = c :: dn.reverse := by simp
    have := ih (dn ++ [c]) (hs_s rX c (h1_hd dn.reverse)) (hs_s rP c 24) (by rw [e]; simp) ?_ (fun z hz => ?_) (fun z hz => ?_) (fun z hz => ?_)
    · rw [e2] at this; exact this
    · rw [e2]
      refine ⟨hs_ss, h1_nx_fr (fun z hz => hs_sn (fun h => cd ?_)) h1⟩
      rw [← h]; exact List.mem_reverse.1 hz
    · rw [List.mem_append, List.mem_singleton] at hz
      rw [hs_sn (fun h => hz (Or.inr h))]; exact h2 z (fun h => hz (Or.inl h))
    · rw [List.mem_append, List.mem_singleton] at hz
      rcases hz with hz | hz
      · have zc : z ≠ c := fun h => cd (h ▸ hz)
        rw [hs_sn zc]; exact h3 z hz
      · rw [hs_se hz]
    · rw [List.mem_append, List.mem_singleton] at hz
      rw [hs_sn (fun h => hz (Or.inr h))]; exact h4 z (fun h => hz (Or.inl h))
end
end
section
/-! engine 2: remove -/
section
variable {st : Nat} {K A : Nat → Int32} {sz hp pl pr pc pn pb rF rI rN rU rC rX rP rD gF gC gL gR gP gD gM gO lr ll lR lp lk wn sk : Nat → Nat}
theorem h2_rem {post : SX → Prop} {Q : Nat → Nat} {q' x' : Int32} (q x : Nat) (hq : q < 4) (hx : x < 24) (hI : h2_I K Q rF rI rN rU rC rX rP rD) (hQx : Q x = q + 1) (hpost : ∀ rF' rI' rN' rU' rC' rX' rP' rD', h2_I K (hs_s Q x 0) rF' rI' rN' rU' rC' rX' rP' rD' → post ((nI st), K, A, (hs_A sz), (hs_A hp), (hs_A pl), (hs_A pr), (hs_A pc), (hs_A pn), (hs_A pb), (hs_A rF'), (hs_A rI'), (hs_A rN'), (hs_A rU'), (hs_A rC'), (hs_A rX'), (hs_A rP'), (hs_A rD'), (hs_A gF), (hs_A gC), (hs_A gL), (hs_A gR), (hs_A gP), (hs_A gD), (hs_A gM), (hs_A gO), (hs_A lr), (hs_A ll), (hs_A lR), (hs_A lp), (hs_A lk), (hs_A wn), (hs_A sk))) (eq : q' = nI q := by rfl) (ex : x' = nI x := by rfl) : wpX_removeFromRow post ((nI st), K, A, (hs_A sz), (hs_A hp), (hs_A pl), (hs_A pr), (hs_A pc), (hs_A pn), (hs_A pb), (hs_A rF), (hs_A rI), (hs_A rN), (hs_A rU), (hs_A rC), (hs_A rX), (hs_A rP), (hs_A rD), (hs_A gF), (hs_A gC), (hs_A gL), (hs_A gR), (hs_A gP), (hs_A gD), (hs_A gM), (hs_A gO), (hs_A lr), (hs_A ll), (hs_A lR), (hs_A lp), (hs_A lk), (hs_A wn), (hs_A sk)) q' x' := by
  subst eq; subst ex
  obtain ⟨hB, hW, hO, hL⟩ := hI
  obtain ⟨un0, en0⟩ := hB.2.2.2 x hx (by omega)
  have m24 := un0.1
  unfold wpX_removeFromRow
  dsimp only
  unfold wpX_riseInRow
  dsimp only
  refine hs_r x hx ⟨25, ?_⟩
  refine h2_riseL (Q := Q) (gq := fun n => Q (rI n)) (x := x) (b := 1) (Inv := fun rI n => h2_N (h2_U rU) K rP rI n) hx (by omega) hW (fun rI n h un en hp ho => h2_N_s hW h un en hp) (fun n rI' rN' un en hB' hgq hN ho => ?_) 25 (rN x) rI rN (by omega) un0 en0 hB (fun _ _ => rfl) ⟨fun c uc hc _ _ => hO c uc hc, fun c uc hc hp => ?_⟩
  · dsimp only
    have rn : rP n = 24 := ho.resolve_right (fun h => by have := h.1; omega)
    have gn : Q (rI n) = q + 1 := by rw [← hgq n un, en]; exact hQx
    have n24 := un.1
    obtain ⟨L, l1, l2, l3, l4, l5⟩ := hL q hq
    dsimp only at l4
    have nL : n ∈ L := (l4 n).2 ⟨un, rn, gn⟩
    obtain ⟨k1, k2, el⟩ := List.append_of_mem nL
    have L24 : ∀ z, z ∈ L → z < 24 := fun z hz => ((l4 z).1 hz).1.1
    have l3' := l3
    rw [el] at l3'
    obtain ⟨nk1, nk2, nk3⟩ := List.nodup_append.1 l3'
    have nk2' := List.nodup_cons.1 nk2
    have rxn : rX n = h1_hd k2 := by rw [el] at l2; exact h2_nx_at l2
    have k24 := (h1_hd_n (l := k2) (fun z hz => L24 z (by rw [el]; simp [hz]))).1
    obtain ⟨_, lc, c1, c2, c3, c4, c5⟩ := hW.1 n un
    have lc24 : ∀ z, z ∈ lc → z < 24 := fun z hz => ((c4 z).1 hz).1.1
    -- from the row without n, and its children as they are, to the end
    have fin : ∀ rX1 rF1, h1_nx rX1 (k1 ++ k2) → rF1 q = h1_hd (k1 ++ k2) → (∀ p, p ≠ q → rF1 p = rF p) → (∀ z, z ∉ k1 → rX1 z = rX z) → ∃ n88, wX_removeFromRow_88 post (nI q) (nI n) (nI st) n88 24 (nI (rC n)) K A (hs_A sz) (hs_A hp) (hs_A pl) (hs_A pr) (hs_A pc) (hs_A pn) (hs_A pb) (hs_A rF1) (hs_A rI') (hs_A rN') (hs_A rU) (hs_A rC) (hs_A rX1) (hs_A rP) (hs_A rD) (hs_A gF) (hs_A gC) (hs_A gL) (hs_A gR) (hs_A gP) (hs_A gD) (hs_A gM) (hs_A gO) (hs_A lr) (hs_A ll) (hs_A lR) (hs_A lp) (hs_A lk) (hs_A wn) (hs_A sk) := by
      intro rX1 rF1 hx1 hf1 hf2 hx2
      have lk : ∀ z, z ∈ lc → z ∉ k1 := fun z hz hm => by
        have h1 := ((l4 z).1 (by rw [el]; simp [hm])).2.1
        have h2 := ((c4 z).1 hz).2
        omega
      have nlc : n ∉ lc := fun h => by have := ((c4 n).1 h).2; omega
      refine ⟨lc.length + 1, ?_⟩
      rw [c1]
      refine h2_turn (lc := lc) (rX1 := rX1) (rP1 := rP) c3 lc24 n24 hq (h1_nx_fr (fun z hz => hx2 z (lk z hz)) c2) (fun rX2 t1 t2 rP2 t3 t4 => ?_) lc [] rX1 rP rfl trivial (fun _ _ => rfl) (fun z hz => by simp at hz) (fun _ _ => rfl)
      -- the new picture
      have hU : ∀ z, h2_U (hs_s rU n 0) z ↔ h2_U rU z ∧ z ≠ n := by
        intro z; unfold h2_U
        by_cases ez : z = n
        · rw [hs_se ez]; exact ⟨fun h => by have := h.2; omega, fun h => absurd ez h.2⟩
        · rw [hs_sn ez]; exact ⟨fun h => ⟨h, ez⟩, fun h => h.1⟩
      have ix : ∀ z, h2_U (hs_s rU n 0) z → rI' z ≠ x ∧ hs_s Q x 0 (rI' z) = Q (rI z) := fun z uz => by
        have uz' := (hU z).1 uz
        have h1 : rI' z ≠ x := fun e => uz'.2 (h2_inj hB' z n uz'.1 un (e.trans en.symm))
        exact ⟨h1, by rw [hs_sn h1]; exact hgq z uz'.1⟩
      have hB1 : h2_B (hs_s Q x 0) rI' rN' (hs_s rU n 0) := by
        refine ⟨fun z hz => ?_, by rw [hs_sn (by omega)]; exact hB'.2.1, fun z uz => ?_, fun y hy hQ => ?_⟩
        · by_cases ez : z = n
          · rw [hs_se ez]; omega
          · rw [hs_sn ez]; exact hB'.1 z hz
        · obtain ⟨b1, b2, b3⟩ := hB'.2.2.1 z ((hU z).1 uz).1
          refine ⟨b1, ?_, b3⟩
          rw [hs_sn (ix z uz).1]; exact b2
        · have yx : y ≠ x := fun e => hQ (by rw [hs_se e])
          rw [hs_sn yx] at hQ
          obtain ⟨b1, b2⟩ := hB'.2.2.2 y hy hQ
          refine ⟨(hU _).2 ⟨b1, fun e => ?_⟩, b2⟩
          rw [e, en] at b2; exact yx b2.symm
      have p2 : ∀ z, h2_U (hs_s rU n 0) z → (rP2 z = 24 ∧ (rP z = 24 ∨ z ∈ lc)) ∨ (rP2 z = rP z ∧ rP z ≠ 24 ∧ rP z ≠ n ∧ z ∉ lc) := by
        intro z uz
        by_cases hz : z ∈ lc
        · exact Or.inl ⟨t3 z hz, Or.inr hz⟩
        · have e := t4 z hz
          by_cases h24 : rP z = 24
          · exact Or.inl ⟨by rw [e]; exact h24, Or.inl h24⟩
          · exact Or.inr ⟨e, h24, fun h => hz ((c4 z).2 ⟨((hU z).1 uz).1, h⟩), hz⟩
      have hW1 : h2_W (h2_U (hs_s rU n 0)) (fun m => hs_s Q x 0 (rI' m)) rC rX2 rP2 rD := by
        refine ⟨fun m um => ?_, fun c uc => ?_⟩
        · obtain ⟨um', mn⟩ := (hU m).1 um
          obtain ⟨m24', l, d1, d2, d3, d4, d5⟩ := hW.1 m um'
          have lout : ∀ z, z ∈ l → z ∉ lc ∧ z ∉ k1 := fun z hz => by
            have h1 := ((d4 z).1 hz).2
            refine ⟨fun h => mn (h1.symm.trans ((c4 z).1 h).2), fun h => ?_⟩
            have h2 := ((l4 z).1 (by rw [el]; simp [h])).2.1
            omega
          refine ⟨m24', l, d1, h1_nx_fr (fun z hz => by rw [t2 z (lout z hz).1, hx2 z (lout z hz).2]) d2, d3, fun c => ?_, d5⟩
          rw [d4 c]
          constructor
          · intro ⟨a, b⟩
            have cl : c ∉ lc := fun h => mn (b.symm.trans ((c4 c).1 h).2)
            exact ⟨(hU c).2 ⟨a, fun e => by rw [e, rn] at b; omega⟩, by rw [t4 c cl]; exact b⟩
          · intro ⟨a, b⟩
            rcases p2 c a with h | h
            · rw [h.1] at b; omega
            · exact ⟨((hU c).1 a).1, by rw [← h.1]; exact b⟩
        · rcases p2 c uc with h | ⟨h1, h2, h3, h4⟩
          · exact Or.inl h.1
          · obtain ⟨a, b, _⟩ := h2_deg hW ((hU c).1 uc).1 h2
            have ua : h2_U (hs_s rU n 0) (rP c) := (hU _).2 ⟨a, h3⟩
            refine Or.inr ?_
            rw [h1]
            refine ⟨ua, ?_⟩
            dsimp only
            rw [(ix _ ua).2, (ix _ uc).2]; exact b
      have hO1 : h2_O (h2_U (hs_s rU n 0)) K rI' rP2 := by
        intro c uc hc
        rcases p2 c uc with h | ⟨h1, h2, h3, h4⟩
        · exact absurd h.1 hc
        · rw [h1]; exact hN.1 c ((hU c).1 uc).1 h2 ((hU c).1 uc).2 h3
      have kk : ∀ z, z ∈ k1 ++ k2 ↔ z ∈ L ∧ z ≠ n := by
        intro z
        rw [el, List.mem_append, List.mem_append, List.mem_cons]
        constructor
        · intro h
          rcases h with h | h
          · exact ⟨Or.inl h, fun e => nk3 z h n (by simp) e⟩
          · exact ⟨Or.inr (Or.inr h), fun e => nk2'.1 (e ▸ h)⟩
        · intro ⟨h, hne⟩
          rcases h with h | h | h
          · exact Or.inl h
          · exact absurd h hne
          · exact Or.inr h
      have klc : ∀ z, z ∈ k1 ++ k2 → z ∉ lc := fun z hz h => by
        have h1 := ((l4 z).1 ((kk z).1 hz).1).2.1
        have h2 := ((c4 z).1 h).2
        omega
      have Mg : ∀ z, z ∈ (k1 ++ k2) ++ lc.reverse → h2_U (hs_s rU n 0) z ∧ rP2 z = 24 ∧ hs_s Q x 0 (rI' z) = q + 1 := by
        intro z hz
        rw [List.mem_append, List.mem_reverse] at hz
        rcases hz with hz | hz
        · have zl := (kk z).1 hz
          obtain ⟨z1, z2, z3⟩ := (l4 z).1 zl.1
          have uz := (hU z).2 ⟨z1, zl.2⟩
          exact ⟨uz, by rw [t4 z (klc z hz)]; exact z2, by rw [(ix z uz).2]; exact z3⟩
        · obtain ⟨z1, z2⟩ := (c4 z).1 hz
          have uz := (hU z).2 ⟨z1, fun e => nlc (e ▸ hz)⟩
          refine ⟨uz, t3 z hz, ?_⟩
          rw [(ix z uz).2]
          have := (h2_deg hW z1 (by omega)).2.1
          rw [z2] at this
          try dsimp only at this
          omega
      refine h2_addRows (U := h2_U (hs_s rU n 0)) (gq := fun m => hs_s Q x 0 (rI' m)) (G := q + 1) (k1 ++ k2) lc.reverse (fun z uz => (hB1.2.2.1 z uz).1) (h2_inj hB1) hW1 hO1 ?_ Mg (h1_nx_fr (fun z hz => t2 z (klc z hz)) hx1) t1 (h2_up_sub (by rw [el] at l5; exact l5)) (h2_dn_rev c5) (fun L' rC' rX' rP' rD' hR hup => ?_) (by rw [hf1]) rfl
      · rw [List.nodup_append]
        refine ⟨(List.nodup_cons.1 (List.perm_middle.nodup l3')).2, (List.reverse_perm lc).symm.nodup c3, fun a ha b hb e => ?_⟩
        exact klc a ha (by rw [e]; exact List.mem_reverse.1 hb)
      · dsimp only
        have r24 : h1_hd L' ≤ 24 := (h1_hd_n (fun z hz => (Mg z ((hR.2.2.2.1 z hz).1)).1.1)).1
        refine hs_w q (h1_hd L') hq (by omega) ?_
        refine hpost _ _ _ _ _ _ _ _ (h2_fin hB1 hR hup (fun z hz => ⟨(Mg z hz).1, (Mg z hz).2.2⟩) (fun c uc pc' gc => ?_) (fun p hp ep => ?_))
        · rw [List.mem_append, List.mem_reverse]
          by_cases cl : c ∈ lc
          · exact Or.inr cl
          · rw [t4 c cl] at pc'
            rw [(ix c uc).2] at gc
            exact Or.inl ((kk c).2 ⟨(l4 c).2 ⟨((hU c).1 uc).1, pc', gc⟩, ((hU c).1 uc).2⟩)
        · obtain ⟨Lp, s1, s2, s3, s4, s5⟩ := hL p hp
          dsimp only at s4
          have so : ∀ z, z ∈ Lp → z ∉ lc ∧ z ∉ k1 ∧ z ≠ n := fun z hz => by
            obtain ⟨z1, z2, z3⟩ := (s4 z).1 hz
            refine ⟨fun h => by have := ((c4 z).1 h).2; omega, fun h => ?_, fun h => by rw [h] at z3; omega⟩
            have := ((l4 z).1 (by rw [el]; simp [h])).2.2
            omega
          refine ⟨Lp, by rw [hf2 p ep]; exact s1, h1_nx_fr (fun z hz => by rw [t2 z (so z hz).1, hx2 z (so z hz).2.1]) s2, s3, fun c => ?_, s5⟩
          rw [s4 c]
          dsimp only
          constructor
          · intro ⟨a, b, d⟩
            have hc := so c ((s4 c).2 ⟨a, b, d⟩)
            have uc := (hU c).2 ⟨a, hc.2.2⟩
            exact ⟨uc, by rw [t4 c hc.1]; exact b, by rw [(ix c uc).2]; exact d⟩
          · intro ⟨a, b, d⟩
            have d' := (ix c a).2
            rw [d'] at d
            refine ⟨((hU c).1 a).1, ?_, d⟩
            rcases p2 c a with h | h
            · rcases h.2 with h' | h'
              · exact h'
              · exfalso
                obtain ⟨z1, z2⟩ := (c4 c).1 h'
                have := (h2_deg hW z1 (by omega)).2.1
                rw [z2] at this
                try dsimp only at this
                omega
            · rw [h.1] at b; exact absurd b h.2.1
    -- finding n in its row
    have la24 : ∀ d1 : List Nat, (∀ z, z ∈ d1 → z < 24) → h3_la d1 ≤ 24 ∧ (h3_la d1 = 24 ↔ d1 = []) := by
      intro d1 h
      by_cases e : d1 = []
      · rw [e]; exact ⟨Nat.le_refl _, by simp [h3_la]⟩
      · have := h _ (h3_la_m e)
        exact ⟨by omega, ⟨fun h => by omega, fun h => absurd h e⟩⟩
    have find : ∀ (r1 d1 : List Nat), k1 = d1 ++ r1 → wX_removeFromRow_19 post (nI q) (nI n) (nI st) K A (hs_A sz) (hs_A hp) (hs_A pl) (hs_A pr) (hs_A pc) (hs_A pn) (hs_A pb) (hs_A rF) (hs_A rI') (hs_A rN') (hs_A rU) (hs_A rC) (hs_A rX) (hs_A rP) (hs_A rD) (hs_A gF) (hs_A gC) (hs_A gL) (hs_A gR) (hs_A gP) (hs_A gD) (hs_A gM) (hs_A gO) (hs_A lr) (hs_A ll) (hs_A lR) (hs_A lp) (hs_A lk) (hs_A wn) (hs_A sk) (r1.length + 1) (nI (h3_la d1)) (nI (h1_hd (r1 ++ n :: k2))) := by
      intro r1
      induction r1 with
      | nil =>
        intro d1 e
        rw [List.append_nil] at e
        subst e
        rw [wX_removeFromRow_19]
        refine br_t rfl ?_
        have k1m : ∀ z, z ∈ k1 → z < 24 := fun z hz => L24 z (by rw [el]; simp [hz])
        have lak := la24 k1 k1m
        refine pk_eq (h3_la k1) 24 (fun e2 => ?_) (fun e2 => ?_)
        · have ek := lak.2.1 e2
          refine hs_in n (by omega) (hs_wn q (rX n) hq (by omega) ?_ rfl (hs_rd n (by omega)))
          refine hs_r n (by omega) ?_
          refine fin rX (hs_s rF q (rX n)) ?_ (by rw [hs_ss, ek, rxn]; rfl) (fun p hp => hs_sn hp) (fun _ _ => rfl)
          rw [ek]
          rw [el, ek] at l2
          exact l2.2
        · have ek : k1 ≠ [] := fun h => e2 (lak.2.2 h)
          refine hs_in n (by omega) (hs_wn (h3_la k1) (rX n) (by omega) (by omega) ?_ rfl (hs_rd n (by omega)))
          refine hs_r n (by omega) ?_
          have lm := h3_la_m ek
          refine fin (hs_s rX (h3_la k1) (rX n)) rF ?_ (by rw [l1, el, h3_hd_app ek, h3_hd_app ek]) (fun _ _ => rfl) (fun z hz => hs_sn (fun h => hz (by rw [h]; exact lm)))
          rw [el] at l2
          have l2k : h1_nx rX k2 := by
            have e3 : k1 ++ n :: k2 = (k1 ++ [n]) ++ k2 := by simp
            rw [e3] at l2
            exact h2_nx_app l2
          refine h2_nx_re l2 nk1 (fun z hz hn => hs_sn hn) (fun _ => by rw [hs_ss]; exact rxn) (h1_nx_fr (fun z hz => hs_sn (fun h => nk3 _ lm z (by simp [hz]) h.symm)) l2k)
      | cons y r1 ih =>
        intro d1 e
        have yL : y ∈ L := by rw [el, e]; simp
        have y24 := L24 y yL
        have yn : y ≠ n := fun h => nk3 y (by rw [e]; simp) n (by simp) h
        have ry : rX y = h1_hd (r1 ++ n :: k2) := by
          rw [el, e] at l2
          have e3 : (d1 ++ y :: r1) ++ n :: k2 = d1 ++ y :: (r1 ++ n :: k2) := by simp
          rw [e3] at l2
          exact h2_nx_at l2
        rw [wX_removeFromRow_19]
        refine pk_eq y n (fun h => absurd h yn) (fun _ => ?_)
        refine hs_r y (by omega) ?_
        rw [ry]
        have := ih (d1 ++ [y]) (by rw [e]; simp)
        rw [h3_la_app (by simp)] at this
        exact this
    refine hs_r q hq ⟨k1.length + 1, ?_⟩
    rw [l1, el]
    exact find k1 [] rfl
  · have b1 := hO (rN x) un0 hp
    have hcn : rP c ≠ 24 := by rw [hc]; omega
    have b2 := hO c uc hcn
    rw [hc] at b2
    exact hs_bef_tr b1 b2
end
end
section
/-! soundness: the stack, and the paired trees -/
/-- how many items a queue has -/
def hs_ct (Q : Nat → Nat) (q : Nat) : Nat := hs_cn (fun x => Q x == q + 1) 24
theorem hs_ct_l {Q : Nat → Nat} {q : Nat} {l : List Nat} (hd : l.Nodup) (h : ∀ x, x ∈ l ↔ x < 24 ∧ Q x = q + 1) : l.length = hs_ct Q q :=
  hs_cn_ls hd (fun x => by rw [h x]; simp)
theorem hs_ct_24 {Q : Nat → Nat} {q : Nat} : hs_ct Q q ≤ 24 := hs_cn_bd
section
variable {st : Nat} {K A : Nat → Int32} {sz hp pl pr pc pn pb rF rI rN rU rC rX rP rD gF gC gL gR gP gD gM gO lr ll lR lp lk wn sk : Nat → Nat}
theorem hs_push {post : SX → Prop} {stk : List Nat} {x' : Int32} (x : Nat) (hx : x ≤ 24) (hl : stk.length < 64) (hk : hs_K sk stk) (h0 : x = 24 → post ((nI (stk.length)), K, A, (hs_A sz), (hs_A hp), (hs_A pl), (hs_A pr), (hs_A pc), (hs_A pn), (hs_A pb), (hs_A rF), (hs_A rI), (hs_A rN), (hs_A rU), (hs_A rC), (hs_A rX), (hs_A rP), (hs_A rD), (hs_A gF), (hs_A gC), (hs_A gL), (hs_A gR), (hs_A gP), (hs_A gD), (hs_A gM), (hs_A gO), (hs_A lr), (hs_A ll), (hs_A lR), (hs_A lp), (hs_A lk), (hs_A wn), (hs_A sk))) (h1 : x ≠ 24 → ∀ sk', hs_K sk' (x :: stk) → post ((nI ((x :: stk).length)), K, A, (hs_A sz), (hs_A hp), (hs_A pl), (hs_A pr), (hs_A pc), (hs_A pn), (hs_A pb), (hs_A rF), (hs_A rI), (hs_A rN), (hs_A rU), (hs_A rC), (hs_A rX), (hs_A rP), (hs_A rD), (hs_A gF), (hs_A gC), (hs_A gL), (hs_A gR), (hs_A gP), (hs_A gD), (hs_A gM), (hs_A gO), (hs_A lr), (hs_A ll), (hs_A lR), (hs_A lp), (hs_A lk), (hs_A wn), (hs_A sk'))) (ex : x' = nI x := by rfl) : wpX_push post ((nI (stk.length)), K, A, (hs_A sz), (hs_A hp), (hs_A pl), (hs_A pr), (hs_A pc), (hs_A pn), (hs_A pb), (hs_A rF), (hs_A rI), (hs_A rN), (hs_A rU), (hs_A rC), (hs_A rX), (hs_A rP), (hs_A rD), (hs_A gF), (hs_A gC), (hs_A gL), (hs_A gR), (hs_A gP), (hs_A gD), (hs_A gM), (hs_A gO), (hs_A lr), (hs_A ll), (hs_A lR), (hs_A lp), (hs_A lk), (hs_A wn), (hs_A sk)) x' := by
  subst ex
  unfold wpX_push
  dsimp only
  refine pk_eq x 24 h0 (fun e => ?_)
  refine hs_w stk.length x hl (by omega) (nm_r (nI_1 _) ?_)
  exact h1 e _ (hs_K_push hk)
theorem h1_sI {post : Int32 → SX → Prop} {J : Int32 → Int32 → Int32 → (Nat → Int32) → (Nat → Int32) → (Nat → Int32) → (Nat → Int32) → (Nat → Int32) → (Nat → Int32) → (Nat → Int32) → (Nat → Int32) → (Nat → Int32) → (Nat → Int32) → (Nat → Int32) → (Nat → Int32) → (Nat → Int32) → (Nat → Int32) → (Nat → Int32) → (Nat → Int32) → (Nat → Int32) → (Nat → Int32) → (Nat → Int32) → (Nat → Int32) → (Nat → Int32) → (Nat → Int32) → (Nat → Int32) → (Nat → Int32) → (Nat → Int32) → (Nat → Int32) → (Nat → Int32) → (Nat → Int32) → (Nat → Int32) → (Nat → Int32) → (Nat → Int32) → (Nat → Int32) → Prop} {q x n : Nat} {l stk : List Nat} (hx : x < 24) (hl : ∀ z, z ∈ l → z < 24 ∧ hs_bef K x z) (hn : h1_nx pn l) (hlen : l.length + stk.length ≤ 24) (hJ : ∀ sk', hs_K sk' (l.reverse ++ stk) → J 1 (nI n) (nI ((l.reverse ++ stk).length)) K A (hs_A sz) (hs_A hp) (hs_A pl) (hs_A pr) (hs_A pc) (hs_A pn) (hs_A pb) (hs_A rF) (hs_A rI) (hs_A rN) (hs_A rU) (hs_A rC) (hs_A rX) (hs_A rP) (hs_A rD) (hs_A gF) (hs_A gC) (hs_A gL) (hs_A gR) (hs_A gP) (hs_A gD) (hs_A gM) (hs_A gO) (hs_A lr) (hs_A ll) (hs_A lR) (hs_A lp) (hs_A lk) (hs_A wn) (hs_A sk')) : ∀ (rest dn : List Nat) (sk : Nat → Nat), l = dn ++ rest → hs_K sk (dn.reverse ++ stk) → wX_isPairSound_80 post J (nI q) (nI n) (nI x) (rest.length + 1) 1 (nI (h1_hd rest)) (nI ((dn.reverse ++ stk).length)) K A (hs_A sz) (hs_A hp) (hs_A pl) (hs_A pr) (hs_A pc) (hs_A pn) (hs_A pb) (hs_A rF) (hs_A rI) (hs_A rN) (hs_A rU) (hs_A rC) (hs_A rX) (hs_A rP) (hs_A rD) (hs_A gF) (hs_A gC) (hs_A gL) (hs_A gR) (hs_A gP) (hs_A gD) (hs_A gM) (hs_A gO) (hs_A lr) (hs_A ll) (hs_A lR) (hs_A lp) (hs_A lk) (hs_A wn) (hs_A sk) := by
  intro rest
  induction rest with
  | nil =>
    intro dn sk e hk
    rw [List.append_nil] at e
    subst e
    rw [wX_isPairSound_80]
    exact br_t rfl (hJ sk hk)
  | cons c rest ih =>
    intro dn sk e hk
    obtain ⟨c24, bc⟩ := hl c (by rw [e]; simp)
    have rc : pn c = h1_hd rest := by rw [e] at hn; exact h2_nx_at hn
    have el : l.length = dn.length + (rest.length + 1) := by rw [e]; simp
    rw [wX_isPairSound_80]
    refine pk_eq c 24 (fun h => by omega) (fun _ => ?_)
    refine br_f (by decide) ?_
    refine hs_cbb x c hx c24 (fun _ => ?_) (fun h => absurd bc h)
    unfold wX_isPairSound_107
    refine hs_push (stk := dn.reverse ++ stk) c (by omega) (by simp; omega) hk (fun h => by omega) (fun _ sk' hk' => ?_)
    dsimp only
    refine hs_r c (by omega) ?_
    rw [rc]
    have e2 : (dn ++ [c]).reverse ++ stk = c :: (dn.reverse ++ stk) := by simp
    have := ih (dn ++ [c]) sk' (by rw [e]; simp) (by rw [e2]; exact hk')
    rw [e2] at this
    exact this
theorem h1_snd {post : Int32 → SX → Prop} {Q : Nat → Nat} {q' : Int32} (q : Nat) (hq : q < 4) (hI : h1_I K Q pr pc pn pb) (hA : ∀ x, x < 24 → A x = nI (Q x) - 1) (hz : sz q = hs_ct Q q) (hpost : ∀ st' sk', post 1 ((nI (st')), K, A, (hs_A sz), (hs_A hp), (hs_A pl), (hs_A pr), (hs_A pc), (hs_A pn), (hs_A pb), (hs_A rF), (hs_A rI), (hs_A rN), (hs_A rU), (hs_A rC), (hs_A rX), (hs_A rP), (hs_A rD), (hs_A gF), (hs_A gC), (hs_A gL), (hs_A gR), (hs_A gP), (hs_A gD), (hs_A gM), (hs_A gO), (hs_A lr), (hs_A ll), (hs_A lR), (hs_A lp), (hs_A lk), (hs_A wn), (hs_A sk'))) (eq : q' = nI q := by rfl) : wpX_isPairSound post ((nI st), K, A, (hs_A sz), (hs_A hp), (hs_A pl), (hs_A pr), (hs_A pc), (hs_A pn), (hs_A pb), (hs_A rF), (hs_A rI), (hs_A rN), (hs_A rU), (hs_A rC), (hs_A rX), (hs_A rP), (hs_A rD), (hs_A gF), (hs_A gC), (hs_A gL), (hs_A gR), (hs_A gP), (hs_A gD), (hs_A gM), (hs_A gO), (hs_A lr), (hs_A ll), (hs_A lR), (hs_A lp), (hs_A lk), (hs_A wn), (hs_A sk)) q' := by
  subst eq
  obtain ⟨hr, par, ch, hF, hP⟩ := hI
  have rq := hr q hq
  have c24 := hs_ct_24 (Q := Q) (q := q)
  have hDF : hs_DF (fun x => x < 24 ∧ Q x = q + 1) (fun x => x = pr q ∧ x ≠ 24) (fun p c => hs_T Q c ∧ ¬ hs_R Q pr c ∧ par c = p) (hs_rk K) := by
    refine ⟨fun p c tp ⟨c1, c2, c3⟩ => ⟨c1.1, ?_⟩, fun p p' c h h' => h.2.2.symm.trans h'.2.2, fun p c h r => ?_, fun c tc => ?_, fun x tx => tx.1, fun x hx => ?_⟩
    · have := (hF.2 c c1 c2).2.2
      rw [c3] at this; omega
    · have := rq.resolve_left (fun e => r.2 (r.1.trans e))
      refine h.2.1 ?_
      unfold hs_R
      rw [r.1, this.2]; rfl
    · by_cases rc : hs_R Q pr c
      · refine Or.inl ⟨?_, by have := tc.1; omega⟩
        unfold hs_R at rc
        rw [tc.2] at rc; exact rc.symm
      · have t' : hs_T Q c := ⟨tc.1, by have := tc.2; omega⟩
        obtain ⟨a, b, d⟩ := hF.2 c t' rc
        exact Or.inr ⟨par c, ⟨a.1, by rw [d]; exact tc.2⟩, ⟨t', rc, rfl⟩, hs_rk_lt b a.1⟩
    · have := rq.resolve_left (fun e => hx.2 (hx.1.trans e))
      rw [hx.1]; exact this
  have loop : ∀ (n : Nat) (vis stk : List Nat) (sk : Nat → Nat), 24 < n + vis.length → hs_D (fun x => x < 24 ∧ Q x = q + 1) (fun x => x = pr q ∧ x ≠ 24) (fun p c => hs_T Q c ∧ ¬ hs_R Q pr c ∧ par c = p) vis stk → hs_K sk stk → wX_isPairSound_19 post (nI q) n 1 (nI vis.length) (nI (stk.length)) K A (hs_A sz) (hs_A hp) (hs_A pl) (hs_A pr) (hs_A pc) (hs_A pn) (hs_A pb) (hs_A rF) (hs_A rI) (hs_A rN) (hs_A rU) (hs_A rC) (hs_A rX) (hs_A rP) (hs_A rD) (hs_A gF) (hs_A gC) (hs_A gL) (hs_A gR) (hs_A gP) (hs_A gD) (hs_A gM) (hs_A gO) (hs_A lr) (hs_A ll) (hs_A lR) (hs_A lp) (hs_A lk) (hs_A wn) (hs_A sk) := by
    intro n
    induction n with
    | zero =>
      intro vis stk sk hn hD
      have := hs_D_len hDF hD
      omega
    | succ n ih =>
      intro vis stk sk hn hD hk
      have len := hs_D_len hDF hD
      rw [wX_isPairSound_19]
      cases stk with
      | nil =>
        refine br_t (by decide) (br_f (by decide) (hs_in q hq ?_))
        obtain ⟨v1, v2⟩ := hs_D_e hDF hD
        have ev := hs_ct_l v1 v2
        exact br_t (by rw [hs_rd q (by omega), hz, ev]) (hpost _ _)
      | cons x stk =>
        rw [List.length_cons] at len ⊢
        have tx := hD.2.1 x (by simp)
        have t' : hs_T Q x := ⟨tx.1, by have := tx.2; omega⟩
        obtain ⟨p1, p2, p3, p4⟩ := hP x t'
        have x24 := tx.1
        refine br_f (nI_nle (by omega) (by omega)) (nm_r (nI_pred _) ?_)
        refine hs_r stk.length (by omega) ?_
        rw [hk.1]
        refine nm_r (nI_1 _) (br_f (by decide) (hs_in x x24 ?_))
        refine br_t (by rw [nI_clamp (by omega), hA x x24, tx.2, nI_pred]) ?_
        refine hs_r x (by omega) ⟨(ch x).length + 1, ?_⟩
        rw [p1]
        have hlb : ∀ z, z ∈ ch x → z < 24 ∧ hs_bef K x z := fun z hz => by
          obtain ⟨z1, z2, z3⟩ := (p4 z).1 hz
          have := (hF.2 z z1 z2).2.1
          rw [z3] at this
          exact ⟨z1.1, this⟩
        have hD' := hs_D_s (l := (ch x).reverse) hDF hD ((List.reverse_perm _).symm.nodup p3) (fun c => by rw [List.mem_reverse]; exact p4 c)
        have len' := hs_D_len hDF hD'
        rw [List.length_append, List.length_reverse, List.length_cons] at len'
        refine h1_sI (l := ch x) (stk := stk) x24 hlb (h1_ln_nx p2) (by omega) (fun sk' hk' => ?_) (ch x) [] sk rfl hk.2
        exact ih (x :: vis) ((ch x).reverse ++ stk) sk' (by rw [List.length_cons]; omega) hD' hk'
  unfold wpX_isPairSound
  dsimp only
  refine hs_in q hq ?_
  refine hs_push (stk := []) (pr q) (by omega) (by simp) trivial (fun e => ?_) (fun e sk' hk' => ?_) (hs_rd q (by omega))
  · dsimp only
    exact ⟨25, loop 25 [] [] sk (by simp) (hs_D_0 hDF List.nodup_nil (fun x => ⟨fun h => absurd h (by simp), fun h => absurd (h.1.trans e) h.2⟩)) trivial⟩
  · dsimp only
    exact ⟨25, loop 25 [] [pr q] sk' (by simp) (hs_D_0 hDF (by simp) (fun x => by rw [List.mem_singleton]; exact ⟨fun h => ⟨h, by omega⟩, fun h => h.1⟩)) hk'⟩
end
end
section
/-! soundness of the trees that lean left -/
section
variable {st : Nat} {K A : Nat → Int32} {sz hp pl pr pc pn pb rF rI rN rU rC rX rP rD gF gC gL gR gP gD gM gO lr ll lR lp lk wn sk : Nat → Nat}
theorem h4_snd {post : Int32 → SX → Prop} {Q : Nat → Nat} {b' q' : Int32} (bs o q : Nat) (hbo : (bs = 0 ∧ o = 0) ∨ (bs = 25 ∧ o = 4)) (hq : q < 4) (hI : h4_I bs K Q (fun p => lr (o + p)) ll lR lp lk) (hA : ∀ x, x < 24 → A x = nI (Q x) - 1) (hz : sz q = hs_ct Q q) (hpost : ∀ st' sk', post 1 ((nI (st')), K, A, (hs_A sz), (hs_A hp), (hs_A pl), (hs_A pr), (hs_A pc), (hs_A pn), (hs_A pb), (hs_A rF), (hs_A rI), (hs_A rN), (hs_A rU), (hs_A rC), (hs_A rX), (hs_A rP), (hs_A rD), (hs_A gF), (hs_A gC), (hs_A gL), (hs_A gR), (hs_A gP), (hs_A gD), (hs_A gM), (hs_A gO), (hs_A lr), (hs_A ll), (hs_A lR), (hs_A lp), (hs_A lk), (hs_A wn), (hs_A sk'))) (eb : b' = nI bs := by rfl) (eq : q' = nI q := by rfl) : wpX_isLeanSound post ((nI st), K, A, (hs_A sz), (hs_A hp), (hs_A pl), (hs_A pr), (hs_A pc), (hs_A pn), (hs_A pb), (hs_A rF), (hs_A rI), (hs_A rN), (hs_A rU), (hs_A rC), (hs_A rX), (hs_A rP), (hs_A rD), (hs_A gF), (hs_A gC), (hs_A gL), (hs_A gR), (hs_A gP), (hs_A gD), (hs_A gM), (hs_A gO), (hs_A lr), (hs_A ll), (hs_A lR), (hs_A lp), (hs_A lk), (hs_A wn), (hs_A sk)) b' q' := by
  subst eb; subst eq
  obtain ⟨hr, hW, hro⟩ := hI
  have rq := hr q hq
  dsimp only at rq
  have c24 := hs_ct_24 (Q := Q) (q := q)
  have hW0 := hW
  obtain ⟨p, l, r, hF, hS, hAr, hk⟩ := hW
  have hDF : hs_DF (fun x => x < 24 ∧ Q x = q + 1) (fun x => x = lr (o + q) ∧ x ≠ 24) (fun u c => hs_T Q c ∧ ¬ hs_R Q (fun p => lr (o + p)) c ∧ p c = u) (hs_rk K) := by
    refine ⟨fun u c tu ⟨c1, c2, c3⟩ => ⟨c1.1, ?_⟩, fun u u' c h h' => h.2.2.symm.trans h'.2.2, fun u c h e => ?_, fun c tc => ?_, fun x tx => tx.1, fun x hx => ?_⟩
    · have := (hF.2 c c1 c2).2.2
      rw [c3] at this; omega
    · have := rq.resolve_left (fun e' => e.2 (e.1.trans e'))
      refine h.2.1 ?_
      unfold hs_R
      rw [e.1, this.2]; rfl
    · by_cases rc : hs_R Q (fun p => lr (o + p)) c
      · refine Or.inl ⟨?_, by have := tc.1; omega⟩
        unfold hs_R at rc
        rw [tc.2] at rc; exact rc.symm
      · have t' : hs_T Q c := ⟨tc.1, by have := tc.2; omega⟩
        obtain ⟨a, b, d⟩ := hF.2 c t' rc
        exact Or.inr ⟨p c, ⟨a.1, by rw [d]; exact tc.2⟩, ⟨t', rc, rfl⟩, hs_rk_lt b a.1⟩
    · have := rq.resolve_left (fun e => hx.2 (hx.1.trans e))
      rw [hx.1]; exact this
  have loop : ∀ (n : Nat) (vis stk : List Nat) (sk : Nat → Nat), 24 < n + vis.length → hs_D (fun x => x < 24 ∧ Q x = q + 1) (fun x => x = lr (o + q) ∧ x ≠ 24) (fun u c => hs_T Q c ∧ ¬ hs_R Q (fun p => lr (o + p)) c ∧ p c = u) vis stk → hs_K sk stk → wX_isLeanSound_29 post (nI bs) (nI q) n 1 (nI vis.length) (nI (stk.length)) K A (hs_A sz) (hs_A hp) (hs_A pl) (hs_A pr) (hs_A pc) (hs_A pn) (hs_A pb) (hs_A rF) (hs_A rI) (hs_A rN) (hs_A rU) (hs_A rC) (hs_A rX) (hs_A rP) (hs_A rD) (hs_A gF) (hs_A gC) (hs_A gL) (hs_A gR) (hs_A gP) (hs_A gD) (hs_A gM) (hs_A gO) (hs_A lr) (hs_A ll) (hs_A lR) (hs_A lp) (hs_A lk) (hs_A wn) (hs_A sk) := by
    intro n
    induction n with
    | zero =>
      intro vis stk sk hn hD
      have := hs_D_len hDF hD
      omega
    | succ n ih =>
      intro vis stk sk hn hD hk'
      have len := hs_D_len hDF hD
      rw [wX_isLeanSound_29]
      cases stk with
      | nil =>
        refine br_t (by decide) (br_f (by decide) (hs_in q hq ?_))
        obtain ⟨v1, v2⟩ := hs_D_e hDF hD
        have ev := hs_ct_l v1 v2
        exact br_t (by rw [hs_rd q (by omega), hz, ev]) (hpost _ _)
      | cons x stk =>
        rw [List.length_cons] at len ⊢
        have tx := hD.2.1 x (by simp)
        have t' : hs_T Q x := ⟨tx.1, by have := tx.2; omega⟩
        have x24 := tx.1
        obtain ⟨a1, _, _, _⟩ := hAr x t'
        have el := (a1 id).1
        have er := (a1 id).2 id
        obtain ⟨s1, s2, s3, s4⟩ := hS x t'
        have ch : ∀ c, (c = 24 ∨ (hs_T Q c ∧ ¬ hs_R Q (fun p => lr (o + p)) c ∧ p c = x)) → c ≤ 24 ∧ (c ≠ 24 → hs_bef K x c) := fun c hc => by
          rcases hc with h | ⟨h1, h2, h3⟩
          · exact ⟨by omega, fun h' => absurd h h'⟩
          · have := (hF.2 c h1 h2).2.1
            rw [h3] at this
            exact ⟨by have := h1.1; omega, fun _ => this⟩
        have l24 := ch _ s1
        have r24 := ch _ s2
        refine br_f (nI_nle (by omega) (by omega)) (nm_r (nI_pred _) ?_)
        refine hs_r stk.length (by omega) ?_
        rw [hk'.1]
        refine hs_r (bs + x) (by omega) (hs_r (bs + x) (by omega) ?_ (hs_bx x)) (hs_bx x)
        rw [el, er]
        refine nm_r (nI_1 _) (br_f (by decide) (hs_in x x24 ?_))
        refine br_t (by rw [nI_clamp (by omega), hA x x24, tx.2, nI_pred]) ?_
        -- the pushes
        have fin : wX_isLeanSound_188 post (wX_isLeanSound_29 post (nI bs) (nI q) n) (nI bs) (nI q) (nI (vis.length + 1)) (nI (l x)) (nI (r x)) 1 (nI (stk.length)) K A (hs_A sz) (hs_A hp) (hs_A pl) (hs_A pr) (hs_A pc) (hs_A pn) (hs_A pb) (hs_A rF) (hs_A rI) (hs_A rN) (hs_A rU) (hs_A rC) (hs_A rX) (hs_A rP) (hs_A rD) (hs_A gF) (hs_A gC) (hs_A gL) (hs_A gR) (hs_A gP) (hs_A gD) (hs_A gM) (hs_A gO) (hs_A lr) (hs_A ll) (hs_A lR) (hs_A lp) (hs_A lk) (hs_A wn) (hs_A sk) := by
          unfold wX_isLeanSound_188
          have go : ∀ (m : List Nat) (sk' : Nat → Nat), m.Nodup → (∀ c, c ∈ m ↔ hs_T Q c ∧ ¬ hs_R Q (fun p => lr (o + p)) c ∧ p c = x) → hs_K sk' (m ++ stk) → wX_isLeanSound_29 post (nI bs) (nI q) n 1 (nI (vis.length + 1)) (nI ((m ++ stk).length)) K A (hs_A sz) (hs_A hp) (hs_A pl) (hs_A pr) (hs_A pc) (hs_A pn) (hs_A pb) (hs_A rF) (hs_A rI) (hs_A rN) (hs_A rU) (hs_A rC) (hs_A rX) (hs_A rP) (hs_A rD) (hs_A gF) (hs_A gC) (hs_A gL) (hs_A gR) (hs_A gP) (hs_A gD) (hs_A gM) (hs_A gO) (hs_A lr) (hs_A ll) (hs_A lR) (hs_A lp) (hs_A lk) (hs_A wn) (hs_A sk') := by
            intro m sk' hm1 hm2 hm3
            have := ih (x :: vis) (m ++ stk) sk' (by rw [List.length_cons]; omega) (hs_D_s hDF hD hm1 hm2) hm3
            exact this
          have mem : ∀ c, (hs_T Q c ∧ ¬ hs_R Q (fun p => lr (o + p)) c ∧ p c = x) ↔ (c ≠ 24 ∧ (c = l x ∨ c = r x)) := by
            intro c
            constructor
            · intro ⟨h1, h2, h3⟩
              exact ⟨by have := h1.1; omega, s4 c h1 h2 h3⟩
            · intro ⟨h1, h2⟩
              rcases h2 with h2 | h2
              · rw [h2] at h1 ⊢; exact s1.resolve_left h1
              · rw [h2] at h1 ⊢; exact s2.resolve_left h1
          refine hs_push (stk := stk) (l x) l24.1 (by omega) hk'.2 (fun e1 => ?_) (fun e1 sk1 hk1 => ?_)
          · dsimp only
            refine hs_push (stk := stk) (r x) r24.1 (by omega) hk'.2 (fun e2 => ?_) (fun e2 sk2 hk2 => ?_)
            · dsimp only
              refine go [] sk List.nodup_nil (fun c => ?_) hk'.2
              rw [mem c]
              exact ⟨fun h => absurd h (by simp), fun h => by omega⟩
            · dsimp only
              refine go [r x] sk2 (by simp) (fun c => ?_) hk2
              rw [mem c, List.mem_singleton]
              exact ⟨fun h => ⟨by omega, Or.inr h⟩, fun h => by omega⟩
          · dsimp only
            refine hs_push (stk := l x :: stk) (r x) r24.1 (by rw [List.length_cons]; omega) hk1 (fun e2 => ?_) (fun e2 sk2 hk2 => ?_)
            · dsimp only
              refine go [l x] sk1 (by simp) (fun c => ?_) hk1
              rw [mem c, List.mem_singleton]
              exact ⟨fun h => ⟨by omega, Or.inl h⟩, fun h => by omega⟩
            · dsimp only
              have lr' : r x ≠ l x := fun h => e1 (s3 h.symm)
              refine go [r x, l x] sk2 (by simp [lr']) (fun c => ?_) hk2
              rw [mem c, List.mem_cons, List.mem_singleton]
              exact ⟨fun h => ⟨by omega, h.symm⟩, fun h => h.2.symm⟩
        have s133 : wX_isLeanSound_133 post (wX_isLeanSound_29 post (nI bs) (nI q) n) (nI bs) (nI q) (nI (vis.length + 1)) (nI x) (nI (l x)) (nI (r x)) (nI (stk.length)) K A (hs_A sz) (hs_A hp) (hs_A pl) (hs_A pr) (hs_A pc) (hs_A pn) (hs_A pb) (hs_A rF) (hs_A rI) (hs_A rN) (hs_A rU) (hs_A rC) (hs_A rX) (hs_A rP) (hs_A rD) (hs_A gF) (hs_A gC) (hs_A gL) (hs_A gR) (hs_A gP) (hs_A gD) (hs_A gM) (hs_A gO) (hs_A lr) (hs_A ll) (hs_A lR) (hs_A lp) (hs_A lk) (hs_A wn) (hs_A sk) := by
          unfold wX_isLeanSound_133 wX_isLeanSound_138
          refine br_f (by decide) ?_
          rcases hbo with ⟨e, e'⟩ | ⟨e, e'⟩
          · subst e
            have rb := h4_rb hW0 t' id id (fun _ _ _ h => h)
            obtain ⟨k1, k2⟩ := (hk rfl).2 x t' id
            rw [Nat.zero_add] at el er
            rw [el, er] at rb
            refine br_f (by decide) (hs_in (l x) (by omega) (hs_in (r x) (by omega) ?_))
            refine pk_lt (lk (l x)) (lk (r x)) (fun h => by omega) (fun _ => ?_) (hs_rd _ (by omega)) (hs_rd _ (by omega))
            refine hs_in x (by omega) (hs_in (r x) (by omega) ?_)
            refine br_t (by rw [hs_rd x (by omega), hs_rd (r x) (by omega), nI_1, k2]) ?_
            unfold wX_isLeanSound_183
            exact fin
          · subst e
            refine br_t (by decide) ?_
            unfold wX_isLeanSound_183
            exact fin
        have s115 : wX_isLeanSound_115 post (wX_isLeanSound_29 post (nI bs) (nI q) n) (nI bs) (nI q) (nI (vis.length + 1)) (nI x) (nI (l x)) (nI (r x)) (nI (stk.length)) K A (hs_A sz) (hs_A hp) (hs_A pl) (hs_A pr) (hs_A pc) (hs_A pn) (hs_A pb) (hs_A rF) (hs_A rI) (hs_A rN) (hs_A rU) (hs_A rC) (hs_A rX) (hs_A rP) (hs_A rD) (hs_A gF) (hs_A gC) (hs_A gL) (hs_A gR) (hs_A gP) (hs_A gD) (hs_A gM) (hs_A gO) (hs_A lr) (hs_A ll) (hs_A lR) (hs_A lp) (hs_A lk) (hs_A wn) (hs_A sk) := by
          unfold wX_isLeanSound_115
          refine pk_eq (r x) 24 (fun _ => s133) (fun e => ?_)
          exact hs_cbb x (r x) x24 (by omega) (fun _ => s133) (fun h => absurd (r24.2 e) h)
        refine pk_eq (l x) 24 (fun _ => s115) (fun e => ?_)
        exact hs_cbb x (l x) x24 (by omega) (fun _ => s115) (fun h => absurd (l24.2 e) h)
  unfold wpX_isLeanSound
  dsimp only
  refine h4_rp (q := q) hbo (hs_in (o + q) (by omega) ?_)
  refine hs_push (stk := []) (lr (o + q)) (by omega) (by simp) trivial (fun e => ?_) (fun e sk' hk' => ?_) (hs_rd (o + q) (by omega))
  · dsimp only
    exact ⟨25, loop 25 [] [] sk (by simp) (hs_D_0 hDF List.nodup_nil (fun x => ⟨fun h => absurd h (by simp), fun h => absurd (h.1.trans e) h.2⟩)) trivial⟩
  · dsimp only
    exact ⟨25, loop 25 [] [lr (o + q)] sk' (by simp) (hs_D_0 hDF (by simp) (fun x => by rw [List.mem_singleton]; exact ⟨fun h => ⟨h, by omega⟩, fun h => h.1⟩)) hk'⟩
end
end
section
/-! soundness of the rings -/
section
variable {st : Nat} {K A : Nat → Int32} {sz hp pl pr pc pn pb rF rI rN rU rC rX rP rD gF gC gL gR gP gD gM gO lr ll lR lp lk wn sk : Nat → Nat}
theorem h3_prL {post : Int32 → SX → Prop} {l stk : List Nat} (hl : h3_rg gR gL l) (hd : l.Nodup) (h24 : ∀ z, z ∈ l → z < 24) (hlen : l.length + stk.length ≤ 24) (hpost : ∀ sk', hs_K sk' (l.reverse ++ stk) → post (nI l.length) ((nI ((l.reverse ++ stk).length)), K, A, (hs_A sz), (hs_A hp), (hs_A pl), (hs_A pr), (hs_A pc), (hs_A pn), (hs_A pb), (hs_A rF), (hs_A rI), (hs_A rN), (hs_A rU), (hs_A rC), (hs_A rX), (hs_A rP), (hs_A rD), (hs_A gF), (hs_A gC), (hs_A gL), (hs_A gR), (hs_A gP), (hs_A gD), (hs_A gM), (hs_A gO), (hs_A lr), (hs_A ll), (hs_A lR), (hs_A lp), (hs_A lk), (hs_A wn), (hs_A sk'))) : ∀ (l2 l1 : List Nat) (x : Nat) (sk : Nat → Nat), l = l1 ++ x :: l2 → hs_K sk (l1.reverse ++ stk) → wX_pushRing_17 post (nI (h1_hd l)) (l2.length + 2) (nI l1.length) (nI x) 1 (nI ((l1.reverse ++ stk).length)) K A (hs_A sz) (hs_A hp) (hs_A pl) (hs_A pr) (hs_A pc) (hs_A pn) (hs_A pb) (hs_A rF) (hs_A rI) (hs_A rN) (hs_A rU) (hs_A rC) (hs_A rX) (hs_A rP) (hs_A rD) (hs_A gF) (hs_A gC) (hs_A gL) (hs_A gR) (hs_A gP) (hs_A gD) (hs_A gM) (hs_A gO) (hs_A lr) (hs_A ll) (hs_A lR) (hs_A lp) (hs_A lk) (hs_A wn) (hs_A sk) := by
  intro l2
  induction l2 with
  | nil =>
    intro l1 x sk e hk
    have x24 := h24 x (by rw [e]; simp)
    have f24 := h24 (h1_hd l) (h1_hd_m (by rw [e]; simp))
    have el : l.length = l1.length + 1 := by rw [e]; simp
    have e2 : l.reverse ++ stk = x :: (l1.reverse ++ stk) := by rw [e]; simp
    rw [wX_pushRing_17]
    refine br_f (by decide) ?_
    refine hs_push (stk := l1.reverse ++ stk) x (by omega) (by simp; omega) hk (fun h => by omega) (fun _ sk' hk' => ?_)
    dsimp only
    refine nm_r (nI_1 _) (hs_r x (by omega) ?_)
    have nx := (h3_next (e ▸ hl)).1 rfl
    rw [← e] at nx
    rw [nx]
    refine br_t rfl ?_
    rw [wX_pushRing_17]
    refine br_t rfl ?_
    have := hpost sk' (by rw [e2]; exact hk')
    rw [el, e2] at this
    exact this
  | cons y l2 ih =>
    intro l1 x sk e hk
    have x24 := h24 x (by rw [e]; simp)
    have y24 := h24 y (by rw [e]; simp)
    have f24 := h24 (h1_hd l) (h1_hd_m (by rw [e]; simp))
    have el : l.length = l1.length + 1 + (l2.length + 1) := by rw [e]; simp; omega
    rw [wX_pushRing_17]
    refine br_f (by decide) ?_
    refine hs_push (stk := l1.reverse ++ stk) x (by omega) (by simp; omega) hk (fun h => by omega) (fun _ sk' hk' => ?_)
    dsimp only
    refine nm_r (nI_1 _) (hs_r x (by omega) ?_)
    have nx : gR x = y := (h3_next (e ▸ hl)).2 (by simp)
    rw [nx]
    have yf : y ≠ h1_hd l := by
      rw [e]
      intro h
      rw [e] at hd
      cases l1 with
      | nil =>
        have h' : y = x := h
        simp [h'] at hd
      | cons a t =>
        have h' : y = a := h
        simp [h'] at hd
    refine pk_eq y (h1_hd l) (fun h => absurd h yf) (fun _ => ?_)
    have e2 : (l1 ++ [x]).reverse ++ stk = x :: (l1.reverse ++ stk) := by simp
    have := ih (l1 ++ [x]) y sk' (by rw [e]; simp) (by rw [e2]; exact hk')
    rw [e2, List.length_append] at this
    exact this
/-- pushRing: nothing, or a whole ring -/
theorem h3_pr {post : Int32 → SX → Prop} {T : Nat → Prop} {rid : Nat → Nat} {stk : List Nat} {f' : Int32} (f : Nat) (hRS : h3_RS T rid gR gL) (lt : ∀ z, T z → z < 24) (hf : f = 24 ∨ T f) (hk : hs_K sk stk) (hlen : ∀ m : List Nat, m.Nodup → (f = 24 → m = []) → (f ≠ 24 → ∀ c, c ∈ m ↔ T c ∧ rid c = rid f) → m.length + stk.length ≤ 24) (hpost : ∀ (m : List Nat) (sk' : Nat → Nat), m.Nodup → (f = 24 → m = []) → (f ≠ 24 → ∀ c, c ∈ m ↔ T c ∧ rid c = rid f) → hs_K sk' (m ++ stk) → post (nI m.length) ((nI ((m ++ stk).length)), K, A, (hs_A sz), (hs_A hp), (hs_A pl), (hs_A pr), (hs_A pc), (hs_A pn), (hs_A pb), (hs_A rF), (hs_A rI), (hs_A rN), (hs_A rU), (hs_A rC), (hs_A rX), (hs_A rP), (hs_A rD), (hs_A gF), (hs_A gC), (hs_A gL), (hs_A gR), (hs_A gP), (hs_A gD), (hs_A gM), (hs_A gO), (hs_A lr), (hs_A ll), (hs_A lR), (hs_A lp), (hs_A lk), (hs_A wn), (hs_A sk'))) (ef : f' = nI f := by rfl) : wpX_pushRing post ((nI (stk.length)), K, A, (hs_A sz), (hs_A hp), (hs_A pl), (hs_A pr), (hs_A pc), (hs_A pn), (hs_A pb), (hs_A rF), (hs_A rI), (hs_A rN), (hs_A rU), (hs_A rC), (hs_A rX), (hs_A rP), (hs_A rD), (hs_A gF), (hs_A gC), (hs_A gL), (hs_A gR), (hs_A gP), (hs_A gD), (hs_A gM), (hs_A gO), (hs_A lr), (hs_A ll), (hs_A lR), (hs_A lp), (hs_A lk), (hs_A wn), (hs_A sk)) f' := by
  subst ef
  have f24 : f ≤ 24 := by
    rcases hf with h | h
    · omega
    · have := lt f h; omega
  unfold wpX_pushRing
  dsimp only
  refine pk_eq f 24 (fun e => ⟨1, ?_⟩) (fun e => ?_)
  · rw [wX_pushRing_17]
    refine br_t rfl ?_
    exact hpost [] sk List.nodup_nil (fun _ => rfl) (fun h => absurd e h) hk
  · have tf := hf.resolve_left e
    obtain ⟨t, hg, hd, hm⟩ := h3_at hRS tf
    have hd' : (f :: t).reverse.Nodup := (List.reverse_perm _).symm.nodup hd
    have hm' : ∀ c, c ∈ (f :: t).reverse ↔ T c ∧ rid c = rid f := fun c => by rw [List.mem_reverse]; exact hm c
    have len := hlen _ hd' (fun h => absurd h e) (fun _ => hm')
    rw [List.length_reverse] at len
    refine ⟨t.length + 2, h3_prL (l := f :: t) (stk := stk) hg hd (fun z hz => lt z ((hm z).1 hz).1) len (fun sk' hk' => ?_) t [] f sk rfl hk⟩
    have := hpost _ sk' hd' (fun h => absurd h e) (fun _ => hm') hk'
    rw [List.length_reverse] at this
    exact this
theorem h3_snd {post : Int32 → SX → Prop} {Q : Nat → Nat} {q' : Int32} (q : Nat) (hq : q < 4) (hI : h3_I K Q gF gC gL gR gP gD gM) (hA : ∀ x, x < 24 → A x = nI (Q x) - 1) (hz : sz q = hs_ct Q q) (hpost : ∀ st' sk', post 1 ((nI (st')), K, A, (hs_A sz), (hs_A hp), (hs_A pl), (hs_A pr), (hs_A pc), (hs_A pn), (hs_A pb), (hs_A rF), (hs_A rI), (hs_A rN), (hs_A rU), (hs_A rC), (hs_A rX), (hs_A rP), (hs_A rD), (hs_A gF), (hs_A gC), (hs_A gL), (hs_A gR), (hs_A gP), (hs_A gD), (hs_A gM), (hs_A gO), (hs_A lr), (hs_A ll), (hs_A lR), (hs_A lp), (hs_A lk), (hs_A wn), (hs_A sk'))) (eq : q' = nI q := by rfl) : wpX_isRingSound post ((nI st), K, A, (hs_A sz), (hs_A hp), (hs_A pl), (hs_A pr), (hs_A pc), (hs_A pn), (hs_A pb), (hs_A rF), (hs_A rI), (hs_A rN), (hs_A rU), (hs_A rC), (hs_A rX), (hs_A rP), (hs_A rD), (hs_A gF), (hs_A gC), (hs_A gL), (hs_A gR), (hs_A gP), (hs_A gD), (hs_A gM), (hs_A gO), (hs_A lr), (hs_A ll), (hs_A lR), (hs_A lp), (hs_A lk), (hs_A wn), (hs_A sk)) q' := by
  subst eq
  obtain ⟨hV, hRS, hG⟩ := hI
  have c24 := hs_ct_24 (Q := Q) (q := q)
  have lt := hV.1.1
  have hDF : hs_DF (fun x => x < 24 ∧ Q x = q + 1) (fun x => hs_T Q x ∧ gP x = 24 ∧ Q x = q + 1) (fun u c => hs_T Q c ∧ gP c = u ∧ u ≠ 24) (hs_rk K) := by
    refine ⟨fun u c tu ⟨c1, c2, c3⟩ => ⟨c1.1, ?_⟩, fun u u' c h h' => h.2.1.symm.trans h'.2.1, fun u c h e => ?_, fun c tc => ?_, fun x tx => tx.1, fun x hx => ⟨hx.1.1, hx.2.2⟩⟩
    · have := (hV.1.2 c c1 (by omega)).2.2
      rw [c2] at this; omega
    · exact h.2.2 (h.2.1.symm.trans e.2.1)
    · have t' : hs_T Q c := ⟨tc.1, by have := tc.2; omega⟩
      by_cases rc : gP c = 24
      · exact Or.inl ⟨t', rc, tc.2⟩
      · obtain ⟨a, b, d⟩ := hV.1.2 c t' rc
        exact Or.inr ⟨gP c, ⟨a.1, by rw [d]; exact tc.2⟩, ⟨t', rfl, rc⟩, hs_rk_lt b a.1⟩
  have loop : ∀ (n : Nat) (vis stk : List Nat) (sk : Nat → Nat), 24 < n + vis.length → hs_D (fun x => x < 24 ∧ Q x = q + 1) (fun x => hs_T Q x ∧ gP x = 24 ∧ Q x = q + 1) (fun u c => hs_T Q c ∧ gP c = u ∧ u ≠ 24) vis stk → hs_K sk stk → wX_isRingSound_20 post (nI q) n 1 (nI vis.length) (nI (stk.length)) K A (hs_A sz) (hs_A hp) (hs_A pl) (hs_A pr) (hs_A pc) (hs_A pn) (hs_A pb) (hs_A rF) (hs_A rI) (hs_A rN) (hs_A rU) (hs_A rC) (hs_A rX) (hs_A rP) (hs_A rD) (hs_A gF) (hs_A gC) (hs_A gL) (hs_A gR) (hs_A gP) (hs_A gD) (hs_A gM) (hs_A gO) (hs_A lr) (hs_A ll) (hs_A lR) (hs_A lp) (hs_A lk) (hs_A wn) (hs_A sk) := by
    intro n
    induction n with
    | zero =>
      intro vis stk sk hn hD
      have := hs_D_len hDF hD
      omega
    | succ n ih =>
      intro vis stk sk hn hD hk'
      have len := hs_D_len hDF hD
      rw [wX_isRingSound_20]
      cases stk with
      | nil =>
        refine br_t (by decide) (br_f (by decide) (hs_in q hq ?_))
        obtain ⟨v1, v2⟩ := hs_D_e hDF hD
        have ev := hs_ct_l v1 v2
        exact br_t (by rw [hs_rd q (by omega), hz, ev]) (hpost _ _)
      | cons x stk =>
        rw [List.length_cons] at len ⊢
        have tx := hD.2.1 x (by simp)
        have t' : hs_T Q x := ⟨tx.1, by have := tx.2; omega⟩
        have x24 := tx.1
        have gp := h3_gP hV t'
        have cc := hV.2.2.1 x t' id
        have d24 := h3_deg24 hV t' id
        obtain ⟨r1, r2, r3, r4, r5, r6⟩ := h3_right hRS t'
        have rr := lt _ r1
        refine br_f (nI_nle (by omega) (by omega)) (nm_r (nI_pred _) ?_)
        refine hs_r stk.length (by omega) ?_
        rw [hk'.1]
        refine nm_r (nI_1 _) (hs_r x (by omega) (br_f (by decide) (hs_in x x24 ?_)))
        refine br_t (by rw [nI_clamp (by omega), hA x x24, tx.2, nI_pred]) ?_
        have zx : ∀ c, hs_T Q c → (h3_Z Q gP c = x ↔ gP c = x) := by
          intro c tc
          have := hV.2.1 c tc
          unfold h3_Z
          by_cases e : gP c = 24
          · rw [if_pos e]; exact ⟨fun h => by omega, fun h => by omega⟩
          · rw [if_neg e]
        -- a list of the children
        have mem : ∀ m : List Nat, (gC x = 24 → m = []) → (gC x ≠ 24 → ∀ c, c ∈ m ↔ hs_T Q c ∧ h3_Z Q gP c = h3_Z Q gP (gC x)) → ∀ c, c ∈ m ↔ hs_T Q c ∧ gP c = x ∧ x ≠ 24 := by
          intro m h1 h2 c
          rcases cc with ⟨o1, o2⟩ | ⟨o1, o2⟩
          · rw [h1 o1]
            exact ⟨fun h => absurd h (by simp), fun h => absurd h.2.1 (o2 c h.1)⟩
          · have o3 := lt _ o1
            rw [h2 (by omega) c, (zx _ o1).2 o2]
            exact ⟨fun h => ⟨h.1, (zx c h.1).1 h.2, by omega⟩, fun h => ⟨h.1, (zx c h.1).2 h.2.1⟩⟩
        have s93 : wX_isRingSound_93 post (wX_isRingSound_20 post (nI q) n) (nI q) (nI (vis.length + 1)) (nI x) (nI (stk.length)) K A (hs_A sz) (hs_A hp) (hs_A pl) (hs_A pr) (hs_A pc) (hs_A pn) (hs_A pb) (hs_A rF) (hs_A rI) (hs_A rN) (hs_A rU) (hs_A rC) (hs_A rX) (hs_A rP) (hs_A rD) (hs_A gF) (hs_A gC) (hs_A gL) (hs_A gR) (hs_A gP) (hs_A gD) (hs_A gM) (hs_A gO) (hs_A lr) (hs_A ll) (hs_A lR) (hs_A lp) (hs_A lk) (hs_A wn) (hs_A sk) := by
          unfold wX_isRingSound_93
          have erx : hs_A gR (nI x).toNatClampNeg = nI (gR x) := hs_rd x (by omega)
          refine hs_in x (by omega) (hs_in (gR x) (by omega) ?_ erx)
          refine br_t (by rw [hs_rd (gR x) (by omega) erx, r5]) ?_
          unfold wX_isRingSound_115
          refine hs_in x (by omega) ?_
          refine h3_pr (gC x) hRS lt (cc.imp (fun h => h.1) (fun h => h.1)) hk'.2 (fun m m1 m2 m3 => ?_) (fun m sk' m1 m2 m3 m4 => ?_) (hs_rd x (by omega))
          · have hD' := hs_D_s (l := m) hDF hD m1 (fun c => mem m m2 m3 c)
            have := hs_D_len hDF hD'
            rw [List.length_append, List.length_cons] at this
            omega
          · dsimp only
            refine br_f (by decide) (hs_in x (by omega) ?_)
            have em : m.length = gD x := by
              obtain ⟨lo, l1, l2, l3, l4⟩ := hV.2.2.2.2 x t' id
              rw [l3]
              refine ((List.perm_ext_iff_of_nodup m1 l1).2 (fun c => ?_)).length_eq
              rw [mem m m2 m3 c, l2 c]
              exact ⟨fun h => ⟨h.1, h.2.1⟩, fun h => ⟨h.1, h.2, by omega⟩⟩
            refine br_t (by rw [hs_rd x (by omega), em]) ?_
            exact ih (x :: vis) (m ++ stk) sk' (by rw [List.length_cons]; omega) (hs_D_s hDF hD m1 (fun c => mem m m2 m3 c)) m4
        refine pk_eq (gP x) 24 (fun _ => s93) (fun e => ?_) rfl rfl (by omega)
        obtain ⟨p1, p2, p3, p4⟩ := gp.resolve_left e
        exact hs_cbb (gP x) x p1 x24 (fun _ => s93) (fun h => absurd p3 h)
  have rt : ∀ m : List Nat, (gF q = 24 → m = []) → (gF q ≠ 24 → ∀ c, c ∈ m ↔ hs_T Q c ∧ h3_Z Q gP c = h3_Z Q gP (gF q)) → ∀ c, c ∈ m ↔ hs_T Q c ∧ gP c = 24 ∧ Q c = q + 1 := by
    intro m h1 h2 c
    rcases hG q hq with ⟨o1, o2⟩ | ⟨f1, f2, f3, f4⟩
    · rw [h1 o1]
      exact ⟨fun h => absurd h (by simp), fun h => absurd h.2.2 (o2 c h.1)⟩
    · have fl := f1.1
      have zf : h3_Z Q gP (gF q) = 32 + q := by unfold h3_Z; rw [if_pos f3, f2]; omega
      rw [h2 (by omega) c, zf]
      constructor
      · intro ⟨tc, e⟩
        unfold h3_Z at e
        have := h3_gP hV tc
        by_cases e' : gP c = 24
        · rw [if_pos e'] at e; exact ⟨tc, e', by omega⟩
        · rw [if_neg e'] at e; omega
      · intro ⟨tc, e1, e2⟩
        refine ⟨tc, ?_⟩
        unfold h3_Z; rw [if_pos e1, e2]; omega
  unfold wpX_isRingSound
  dsimp only
  refine hs_in q hq ?_
  refine h3_pr (stk := []) (gF q) hRS lt ((hG q hq).imp (fun h => h.1) (fun h => h.1)) trivial (fun m m1 m2 m3 => ?_) (fun m sk' m1 m2 m3 m4 => ?_) (hs_rd q (by omega))
  · have := hs_len m1 (fun z hz => ((rt m m2 m3 z).1 hz).1.1)
    simpa using this
  · dsimp only
    have hk' : hs_K sk' m := by simpa using m4
    have := loop 25 [] m sk' (by simp) (hs_D_0 hDF m1 (rt m m2 m3)) hk'
    rw [List.append_nil]
    exact ⟨25, this⟩
end
end
section
/-! soundness of the rows -/
section
variable {st : Nat} {K A : Nat → Int32} {sz hp pl pr pc pn pb rF rI rN rU rC rX rP rD gF gC gL gR gP gD gM gO lr ll lR lp lk wn sk : Nat → Nat}
theorem h2_sI {post : Int32 → SX → Prop} {J : Int32 → Int32 → Int32 → (Nat → Int32) → (Nat → Int32) → (Nat → Int32) → (Nat → Int32) → (Nat → Int32) → (Nat → Int32) → (Nat → Int32) → (Nat → Int32) → (Nat → Int32) → (Nat → Int32) → (Nat → Int32) → (Nat → Int32) → (Nat → Int32) → (Nat → Int32) → (Nat → Int32) → (Nat → Int32) → (Nat → Int32) → (Nat → Int32) → (Nat → Int32) → (Nat → Int32) → (Nat → Int32) → (Nat → Int32) → (Nat → Int32) → (Nat → Int32) → (Nat → Int32) → (Nat → Int32) → (Nat → Int32) → (Nat → Int32) → (Nat → Int32) → (Nat → Int32) → (Nat → Int32) → (Nat → Int32) → Prop} {q x n : Nat} {l stk : List Nat} (hx : x < 24) (ix : rI x < 24) (hl : ∀ z, z ∈ l → z < 24 ∧ rP z = x ∧ rI z < 24 ∧ hs_bef K (rI x) (rI z) ∧ rD z ≤ 24) (hn : h1_nx rX l) (hlen : l.length + stk.length ≤ 24) (hAx : A (rI x) = nI q) (hN : rN (rI x) = x) (hJ : ∀ sk', hs_K sk' (l.reverse ++ stk) → J 1 (nI n) (nI ((l.reverse ++ stk).length)) K A (hs_A sz) (hs_A hp) (hs_A pl) (hs_A pr) (hs_A pc) (hs_A pn) (hs_A pb) (hs_A rF) (hs_A rI) (hs_A rN) (hs_A rU) (hs_A rC) (hs_A rX) (hs_A rP) (hs_A rD) (hs_A gF) (hs_A gC) (hs_A gL) (hs_A gR) (hs_A gP) (hs_A gD) (hs_A gM) (hs_A gO) (hs_A lr) (hs_A ll) (hs_A lR) (hs_A lp) (hs_A lk) (hs_A wn) (hs_A sk')) : ∀ (rest dn : List Nat) (d : Nat) (sk : Nat → Nat), l = dn ++ rest → h2_dn rD d rest → hs_K sk (dn.reverse ++ stk) → wX_isRowSound_137 post J (nI q) (nI n) (nI x) (rest.length + 1) 1 (nI d) (nI (h1_hd rest)) (nI ((dn.reverse ++ stk).length)) K A (hs_A sz) (hs_A hp) (hs_A pl) (hs_A pr) (hs_A pc) (hs_A pn) (hs_A pb) (hs_A rF) (hs_A rI) (hs_A rN) (hs_A rU) (hs_A rC) (hs_A rX) (hs_A rP) (hs_A rD) (hs_A gF) (hs_A gC) (hs_A gL) (hs_A gR) (hs_A gP) (hs_A gD) (hs_A gM) (hs_A gO) (hs_A lr) (hs_A ll) (hs_A lR) (hs_A lp) (hs_A lk) (hs_A wn) (hs_A sk) := by
  intro rest
  induction rest with
  | nil =>
    intro dn d sk e hdn hk
    rw [List.append_nil] at e
    subst e
    have d0 : d = 0 := hdn
    subst d0
    have eix : hs_A rI (nI x).toNatClampNeg = nI (rI x) := hs_rd x (by omega)
    rw [wX_isRowSound_137]
    refine br_t rfl (br_f (by decide) (br_t rfl ?_))
    refine hs_in x (by omega) (hs_in (rI x) ix ?_ eix)
    refine br_t (by rw [eix, nI_clamp (by omega)]; exact hAx) ?_
    refine hs_in x (by omega) (hs_in (rI x) ix ?_ eix)
    refine br_t (by rw [hs_rd (rI x) (by omega) eix, hN]) (hJ sk hk)
  | cons c rest ih =>
    intro dn d sk e hdn hk
    obtain ⟨c24, pc', ic, bc, dc⟩ := hl c (by rw [e]; simp)
    have rc : rX c = h1_hd rest := by rw [e] at hn; exact h2_nx_at hn
    have el : l.length = dn.length + (rest.length + 1) := by rw [e]; simp
    obtain ⟨e1, e2⟩ := hdn
    subst e1
    rw [wX_isRowSound_137]
    refine pk_eq c 24 (fun h => by omega) (fun _ => ?_)
    refine nm_r (pk_m1 _) (br_f (by decide) (hs_in c (by omega) ?_))
    refine br_t (hs_rd c (by omega)) (hs_in c (by omega) ?_)
    refine br_t (by rw [hs_rd c (by omega), pc']) (hs_in x (by omega) (hs_in c (by omega) ?_))
    refine hs_cbb (rI x) (rI c) ix ic (fun _ => ?_) (fun h => absurd bc h) (hs_rd x (by omega)) (hs_rd c (by omega))
    unfold wX_isRowSound_201
    refine hs_push (stk := dn.reverse ++ stk) c (by omega) (by simp; omega) hk (fun h => by omega) (fun _ sk' hk' => ?_)
    dsimp only
    refine hs_r c (by omega) ?_
    rw [rc]
    have e3 : (dn ++ [c]).reverse ++ stk = c :: (dn.reverse ++ stk) := by simp
    have := ih (dn ++ [c]) (rD c) sk' (by rw [e]; simp) e2 (by rw [e3]; exact hk')
    rw [e3] at this
    exact this
theorem h2_snd {post : Int32 → SX → Prop} {Q : Nat → Nat} {q' : Int32} (q : Nat) (hq : q < 4) (hI : h2_I K Q rF rI rN rU rC rX rP rD) (hA : ∀ x, x < 24 → A x = nI (Q x) - 1) (hz : sz q = hs_ct Q q) (hpost : ∀ st' sk', post 1 ((nI (st')), K, A, (hs_A sz), (hs_A hp), (hs_A pl), (hs_A pr), (hs_A pc), (hs_A pn), (hs_A pb), (hs_A rF), (hs_A rI), (hs_A rN), (hs_A rU), (hs_A rC), (hs_A rX), (hs_A rP), (hs_A rD), (hs_A gF), (hs_A gC), (hs_A gL), (hs_A gR), (hs_A gP), (hs_A gD), (hs_A gM), (hs_A gO), (hs_A lr), (hs_A ll), (hs_A lR), (hs_A lp), (hs_A lk), (hs_A wn), (hs_A sk'))) (eq : q' = nI q := by rfl) : wpX_isRowSound post ((nI st), K, A, (hs_A sz), (hs_A hp), (hs_A pl), (hs_A pr), (hs_A pc), (hs_A pn), (hs_A pb), (hs_A rF), (hs_A rI), (hs_A rN), (hs_A rU), (hs_A rC), (hs_A rX), (hs_A rP), (hs_A rD), (hs_A gF), (hs_A gC), (hs_A gL), (hs_A gR), (hs_A gP), (hs_A gD), (hs_A gM), (hs_A gO), (hs_A lr), (hs_A ll), (hs_A lR), (hs_A lp), (hs_A lk), (hs_A wn), (hs_A sk)) q' := by
  subst eq
  obtain ⟨hB, hW, hO, hL⟩ := hI
  have c24 := hs_ct_24 (Q := Q) (q := q)
  have hDF : hs_DF (fun n => h2_U rU n ∧ Q (rI n) = q + 1) (fun n => h2_U rU n ∧ rP n = 24 ∧ Q (rI n) = q + 1) (fun u c => h2_U rU c ∧ rP c = u ∧ u ≠ 24) (fun n => 24 - rD n) := by
    refine ⟨fun u c tu ⟨c1, c2, c3⟩ => ⟨c1, ?_⟩, fun u u' c h h' => h.2.1.symm.trans h'.2.1, fun u c h e => ?_, fun c tc => ?_, fun x tx => tx.1.1, fun x hx => ⟨hx.1, hx.2.2⟩⟩
    · have := (h2_deg hW c1 (by omega)).2.1
      rw [c2] at this
      try dsimp only at this
      have := tu.2
      omega
    · exact h.2.2 (h.2.1.symm.trans e.2.1)
    · by_cases rc : rP c = 24
      · exact Or.inl ⟨tc.1, rc, tc.2⟩
      · obtain ⟨a, b, d⟩ := h2_deg hW tc.1 rc
        have := (h2_d24 hW a).1
        refine Or.inr ⟨rP c, ⟨a, b.trans tc.2⟩, ⟨tc.1, rfl, rc⟩, ?_⟩
        show 24 - rD (rP c) < 24 - rD c
        omega
  have cnt : ∀ vis : List Nat, vis.Nodup → (∀ x, x ∈ vis ↔ h2_U rU x ∧ Q (rI x) = q + 1) → vis.length = hs_ct Q q := by
    intro vis v1 v2
    have nd : (vis.map rI).Nodup := by
      refine List.Pairwise.map rI (fun a b => id) ?_ |> fun h => h
      refine v1.imp_of_mem (fun ha hb hab e => ?_)
      exact hab (h2_inj hB _ _ ((v2 _).1 ha).1 ((v2 _).1 hb).1 e)
    have := hs_ct_l (Q := Q) (q := q) nd (fun x => ?_)
    · rw [List.length_map] at this; exact this
    · rw [List.mem_map]
      constructor
      · intro ⟨n, h1, h2⟩
        obtain ⟨u1, u2⟩ := (v2 n).1 h1
        rw [← h2]; exact ⟨(hB.2.2.1 n u1).1, u2⟩
      · intro ⟨h1, h2⟩
        obtain ⟨u1, u2⟩ := hB.2.2.2 x h1 (by omega)
        exact ⟨rN x, (v2 _).2 ⟨u1, by rw [u2]; exact h2⟩, u2⟩
  have loop : ∀ (n : Nat) (vis stk : List Nat) (sk : Nat → Nat), 24 < n + vis.length → hs_D (fun n => h2_U rU n ∧ Q (rI n) = q + 1) (fun n => h2_U rU n ∧ rP n = 24 ∧ Q (rI n) = q + 1) (fun u c => h2_U rU c ∧ rP c = u ∧ u ≠ 24) vis stk → hs_K sk stk → wX_isRowSound_88 post (nI q) n 1 (nI vis.length) (nI (stk.length)) K A (hs_A sz) (hs_A hp) (hs_A pl) (hs_A pr) (hs_A pc) (hs_A pn) (hs_A pb) (hs_A rF) (hs_A rI) (hs_A rN) (hs_A rU) (hs_A rC) (hs_A rX) (hs_A rP) (hs_A rD) (hs_A gF) (hs_A gC) (hs_A gL) (hs_A gR) (hs_A gP) (hs_A gD) (hs_A gM) (hs_A gO) (hs_A lr) (hs_A ll) (hs_A lR) (hs_A lp) (hs_A lk) (hs_A wn) (hs_A sk) := by
    intro n
    induction n with
    | zero =>
      intro vis stk sk hn hD
      have := hs_D_len hDF hD
      omega
    | succ n ih =>
      intro vis stk sk hn hD hk'
      have len := hs_D_len hDF hD
      rw [wX_isRowSound_88]
      cases stk with
      | nil =>
        refine br_t (by decide) (br_f (by decide) (hs_in q hq ?_))
        obtain ⟨v1, v2⟩ := hs_D_e hDF hD
        have ev := cnt vis v1 v2
        exact br_t (by rw [hs_rd q (by omega), hz, ev]) (hpost _ _)
      | cons x stk =>
        rw [List.length_cons] at len ⊢
        obtain ⟨ux, gx⟩ := hD.2.1 x (by simp)
        have x24 := ux.1
        obtain ⟨_, l, l1, l2, l3, l4, l5⟩ := hW.1 x ux
        obtain ⟨i1, i2, i3⟩ := hB.2.2.1 x ux
        have dx := h2_d24 hW ux
        refine br_f (nI_nle (by omega) (by omega)) (nm_r (nI_pred _) ?_)
        refine hs_r stk.length (by omega) ?_
        rw [hk'.1]
        refine nm_r (nI_1 _) (hs_r x (by omega) (hs_r x (by omega) ⟨l.length + 1, ?_⟩))
        rw [l1]
        have hD' := hs_D_s (l := l.reverse) hDF hD ((List.reverse_perm _).symm.nodup l3) (fun c => by
          rw [List.mem_reverse, l4 c]
          exact ⟨fun h => ⟨h.1, h.2, by omega⟩, fun h => ⟨h.1, h.2.1⟩⟩)
        have len' := hs_D_len hDF hD'
        rw [List.length_append, List.length_reverse, List.length_cons] at len'
        refine h2_sI (l := l) (stk := stk) x24 i1 (fun z hz => ?_) l2 (by omega) (by rw [hA _ i1, gx, nI_pred]) i3 (fun sk' hk2 => ?_) l [] (rD x) sk rfl l5 hk'.2
        · obtain ⟨z1, z2⟩ := (l4 z).1 hz
          have b := hO z z1 (by omega)
          rw [z2] at b
          exact ⟨z1.1, z2, (hB.2.2.1 z z1).1, b, (h2_d24 hW z1).1⟩
        · exact ih (x :: vis) (l.reverse ++ stk) sk' (by rw [List.length_cons]; omega) hD' hk2
  obtain ⟨L, l1, l2, l3, l4, l5⟩ := hL q hq
  try dsimp only at l4
  have first : ∀ (rest dn : List Nat) (d0 : Nat) (last : Int32) (sk : Nat → Nat), L = dn ++ rest → h2_up rD d0 rest → (∀ k, d0 ≤ k → k ≤ 24 → ¬ nI k ≤ last) → hs_K sk dn.reverse → wX_isRowSound_20 post (nI q) 0 (rest.length + 1) 1 last (nI (h1_hd rest)) (nI (dn.reverse.length)) K A (hs_A sz) (hs_A hp) (hs_A pl) (hs_A pr) (hs_A pc) (hs_A pn) (hs_A pb) (hs_A rF) (hs_A rI) (hs_A rN) (hs_A rU) (hs_A rC) (hs_A rX) (hs_A rP) (hs_A rD) (hs_A gF) (hs_A gC) (hs_A gL) (hs_A gR) (hs_A gP) (hs_A gD) (hs_A gM) (hs_A gO) (hs_A lr) (hs_A ll) (hs_A lR) (hs_A lp) (hs_A lk) (hs_A wn) (hs_A sk) := by
    intro rest
    induction rest with
    | nil =>
      intro dn d0 last sk e hup hlast hk'
      rw [List.append_nil] at e
      subst e
      rw [wX_isRowSound_20]
      refine br_t rfl ⟨25, ?_⟩
      exact loop 25 [] L.reverse sk (by simp) (hs_D_0 hDF ((List.reverse_perm _).symm.nodup l3) (fun x => by rw [List.mem_reverse]; exact l4 x)) hk'
    | cons c rest ih =>
      intro dn d0 last sk e hup hlast hk'
      obtain ⟨uc, pc', gc⟩ := (l4 c).1 (by rw [e]; simp)
      have cl := uc.1
      have dc := (h2_d24 hW uc).1
      have rc : rX c = h1_hd rest := by rw [e] at l2; exact h2_nx_at l2
      have len := hs_len (n := 24) l3 (fun z hz => ((l4 z).1 hz).1.1)
      have el : L.length = dn.length + (rest.length + 1) := by rw [e]; simp
      rw [wX_isRowSound_20]
      refine pk_eq c 24 (fun h => by omega) (fun _ => ?_)
      refine br_f (by decide) (hs_in c (by omega) ?_)
      refine br_f (by rw [hs_rd c (by omega)]; exact hlast _ hup.1 dc) (hs_in c (by omega) ?_)
      refine br_t (by rw [hs_rd c (by omega), pc']; rfl) ?_
      unfold wX_isRowSound_60
      refine hs_r c (by omega) ?_
      refine hs_push (stk := dn.reverse) c (by omega) (by simp; omega) hk' (fun h => by omega) (fun _ sk' hk2 => ?_)
      dsimp only
      refine hs_r c (by omega) ?_
      rw [rc]
      have e3 : (dn ++ [c]).reverse = c :: dn.reverse := by simp
      have := ih (dn ++ [c]) (rD c + 1) (nI (rD c)) sk' (by rw [e]; simp) hup.2 (fun k h1 h2 => nI_ge (by omega) (by omega)) (by rw [e3]; exact hk2)
      rw [e3] at this
      exact this
  unfold wpX_isRowSound
  dsimp only
  refine hs_r q hq ⟨L.length + 1, ?_⟩
  rw [l1]
  refine first L [] 0 (-1) sk rfl l5 (fun k _ hk' => ?_) trivial
  rw [Int32.le_iff_toInt_le, nI_toInt (by omega)]
  have : (-1 : Int32).toInt = -1 := by decide
  rw [this]; omega
end
end
section
/-! all seven engines at once -/
theorem hs_ct_a {Q : Nat → Nat} {x q p : Nat} (hx : x < 24) (hQ : Q x = 0) : hs_ct (hs_s Q x (q + 1)) p = hs_s (hs_ct Q) q (hs_ct Q q + 1) p := by
  by_cases e : p = q
  · rw [e, hs_ss]
    refine hs_cn_1 (y := x) (by simp [hQ]) (by simp [hs_ss]) (fun z _ hz => by simp [hs_sn hz]) hx
  · rw [hs_sn e]
    refine hs_cn_cg (fun z _ => ?_)
    by_cases ez : z = x
    · rw [ez, hs_ss, hQ, Bool.eq_iff_iff]; simp; omega
    · rw [hs_sn ez]
theorem hs_ct_r {Q : Nat → Nat} {x q p : Nat} (hx : x < 24) (hQ : Q x = q + 1) : hs_ct (hs_s Q x 0) p = hs_s (hs_ct Q) q (hs_ct Q q - 1) p := by
  by_cases e : p = q
  · rw [e, hs_ss]
    have := hs_cn_1 (P := fun z => hs_s Q x 0 z == q + 1) (P' := fun z => Q z == q + 1) (y := x) (n := 24) (by simp [hs_ss]) (by simp [hQ]) (fun z _ hz => by simp [hs_sn hz]) hx
    unfold hs_ct; omega
  · rw [hs_sn e]
    refine hs_cn_cg (fun z _ => ?_)
    by_cases ez : z = x
    · rw [ez, hs_ss, hQ, Bool.eq_iff_iff]; simp; omega
    · rw [hs_sn ez]
theorem hs_ct_j {Q : Nat → Nat} {a b p : Nat} (hab : a ≠ b) : hs_ct (hs_jQ Q a b) p = hs_s (hs_s (hs_ct Q) a (hs_ct Q a + hs_ct Q b)) b 0 p := by
  by_cases eb : p = b
  · rw [eb, hs_ss]
    refine hs_cn_0 (fun z _ => ?_)
    unfold hs_jQ
    by_cases e : Q z = b + 1
    · rw [if_pos e]; simp; omega
    · rw [if_neg e]; simpa using e
  · rw [hs_sn eb]
    by_cases ea : p = a
    · rw [ea, hs_ss]
      refine hs_cn_or (fun z _ => ?_) (fun z _ h => ?_)
      · unfold hs_jQ
        by_cases e : Q z = b + 1
        · rw [if_pos e, e]; simp
        · rw [if_neg e, Bool.eq_iff_iff]; simp [e]
      · have h1 : Q z = a + 1 := by simpa using h.1
        have h2 : Q z = b + 1 := by simpa using h.2
        omega
    · rw [hs_sn ea]
      refine hs_cn_cg (fun z _ => ?_)
      unfold hs_jQ
      by_cases e : Q z = b + 1
      · rw [if_pos e, e, Bool.eq_iff_iff]; simp; omega
      · rw [if_neg e]
theorem hs_ct_2 {Q : Nat → Nat} {a b : Nat} (hab : a ≠ b) : hs_ct Q a + hs_ct Q b ≤ 24 := by
  have := hs_ct_j (Q := Q) (a := a) (b := b) (p := a) hab
  rw [hs_sn hab, hs_ss] at this
  rw [← this]; exact hs_ct_24
theorem hs_ct_lt {Q : Nat → Nat} {x q : Nat} (hx : x < 24) (hQ : Q x = 0) : hs_ct Q q < 24 := by
  have := hs_ct_a (q := q) (p := q) hx hQ
  rw [hs_ss] at this
  have h24 := hs_ct_24 (Q := hs_s Q x (q + 1)) (q := q)
  omega
theorem hs_ct_p {Q : Nat → Nat} {x q : Nat} (hx : x < 24) (hQ : Q x = q + 1) : 0 < hs_ct Q q :=
  hs_cn_pos hx (by simp [hQ])
theorem h0_cg {K : Nat → Int32} {Q c c' hp pl : Nat → Nat} (h : h0_I K Q c hp pl) (hc : ∀ q, q < 4 → c' q = c q) : h0_I K Q c' hp pl := by
  refine ⟨fun q hq => ?_, fun q hq => ?_⟩
  · rw [hc q hq]; exact h.1 q hq
  · rw [hc q hq]; exact h.2 q hq
theorem h0_I_K {K K' : Nat → Int32} {Q c hp pl : Nat → Nat} (h : h0_I K Q c hp pl) (hK : ∀ j, hs_T Q j → K' j = K j) : h0_I K' Q c hp pl := by
  refine ⟨h.1, fun q hq j hj hjn => ?_⟩
  have b := h.2 q hq j hj hjn
  have i1 := (h.1 q hq).2.1 j hjn
  have i2 := (h.1 q hq).2.1 ((j - 1) / 2) (by omega)
  unfold h0_v hs_bef at *
  rw [hK _ ⟨i1.1, by omega⟩, hK _ ⟨i2.1, by omega⟩]; exact b
theorem h6_I_K {K K' : Nat → Int32} {Q wn : Nat → Nat} (h : h6_I K Q wn) (hK : ∀ j, hs_T Q j → K' j = K j) : h6_I K' Q wn := by
  intro q hq i h1 h2
  rcases h q hq i h1 h2 with o | ⟨o1, o2, o3, o4⟩
  · exact Or.inl o
  · refine Or.inr ⟨o1, o2, o3, fun x hx s e n => ?_⟩
    have b := o4 x hx s e n
    unfold hs_bef at *
    rw [hK _ ⟨o1, by omega⟩, hK _ ⟨hx, by omega⟩]; exact b
def hs_E (K : Nat → Int32) (Q hp pl pr pc pn pb rF rI rN rU rC rX rP rD gF gC gL gR gP gD gM lr ll lR lp lk wn : Nat → Nat) : Prop :=
  h0_I K Q (hs_ct Q) hp pl ∧ h1_I K Q pr pc pn pb ∧ h2_I K Q rF rI rN rU rC rX rP rD ∧ h3_I K Q gF gC gL gR gP gD gM ∧ h4_I 0 K Q (fun p => lr (0 + p)) ll lR lp lk ∧ h4_I 25 K Q (fun p => lr (4 + p)) ll lR lp lk ∧ h6_I K Q wn
theorem hs_E_K {K K' : Nat → Int32} {Q hp pl pr pc pn pb rF rI rN rU rC rX rP rD gF gC gL gR gP gD gM lr ll lR lp lk wn : Nat → Nat} (h : hs_E K Q hp pl pr pc pn pb rF rI rN rU rC rX rP rD gF gC gL gR gP gD gM lr ll lR lp lk wn) (hK : ∀ j, hs_T Q j → K' j = K j) : hs_E K' Q hp pl pr pc pn pb rF rI rN rU rC rX rP rD gF gC gL gR gP gD gM lr ll lR lp lk wn :=
  ⟨h0_I_K h.1 hK, h1_I_K h.2.1 hK, h2_I_K h.2.2.1 hK, h3_I_K h.2.2.2.1 hK, h4_I_K h.2.2.2.2.1 hK, h4_I_K h.2.2.2.2.2.1 hK, h6_I_K h.2.2.2.2.2.2 hK⟩
def hs_J (K A : Nat → Int32) (Q sz hp pl pr pc pn pb rF rI rN rU rC rX rP rD gF gC gL gR gP gD gM lr ll lR lp lk wn : Nat → Nat) : Prop :=
  (∀ x, x < 24 → A x = nI (Q x) - 1) ∧ (∀ x, Q x ≤ 4) ∧ (∀ x, (x < 24 → -999 ≤ (K x).toInt ∧ (K x).toInt ≤ 999) ∧ (24 ≤ x → Q x = 0)) ∧ (∀ q, q < 4 → sz q = hs_ct Q q) ∧ hs_E K Q hp pl pr pc pn pb rF rI rN rU rC rX rP rD gF gC gL gR gP gD gM lr ll lR lp lk wn
def i_Rel (k : Nat) (u : SX) (v : SY) : Prop := ∃ (st : Nat) (K A : Nat → Int32) (Q sz hp pl pr pc pn pb rF rI rN rU rC rX rP rD gF gC gL gR gP gD gM gO lr ll lR lp lk wn sk : Nat → Nat), u = ((nI st), K, A, (hs_A sz), (hs_A hp), (hs_A pl), (hs_A pr), (hs_A pc), (hs_A pn), (hs_A pb), (hs_A rF), (hs_A rI), (hs_A rN), (hs_A rU), (hs_A rC), (hs_A rX), (hs_A rP), (hs_A rD), (hs_A gF), (hs_A gC), (hs_A gL), (hs_A gR), (hs_A gP), (hs_A gD), (hs_A gM), (hs_A gO), (hs_A lr), (hs_A ll), (hs_A lR), (hs_A lp), (hs_A lk), (hs_A wn), (hs_A sk)) ∧ v = (hs_A Q, K) ∧ hs_J K A Q sz hp pl pr pc pn pb rF rI rN rU rC rX rP rD gF gC gL gR gP gD gM lr ll lR lp lk wn
theorem i_up {k : Nat} {u : SX} {v : SY} (h : i_Rel k u v) : i_Rel (k + 3) u v := h
theorem hs_el {k : Nat} {u : SX} {v : SY} {P : SX → SY → Prop} (I : i_Rel k u v) (h : ∀ (st : Nat) (K A : Nat → Int32) (Q sz hp pl pr pc pn pb rF rI rN rU rC rX rP rD gF gC gL gR gP gD gM gO lr ll lR lp lk wn sk : Nat → Nat), hs_J K A Q sz hp pl pr pc pn pb rF rI rN rU rC rX rP rD gF gC gL gR gP gD gM lr ll lR lp lk wn → P ((nI st), K, A, (hs_A sz), (hs_A hp), (hs_A pl), (hs_A pr), (hs_A pc), (hs_A pn), (hs_A pb), (hs_A rF), (hs_A rI), (hs_A rN), (hs_A rU), (hs_A rC), (hs_A rX), (hs_A rP), (hs_A rD), (hs_A gF), (hs_A gC), (hs_A gL), (hs_A gR), (hs_A gP), (hs_A gD), (hs_A gM), (hs_A gO), (hs_A lr), (hs_A ll), (hs_A lR), (hs_A lp), (hs_A lk), (hs_A wn), (hs_A sk)) (hs_A Q, K)) : P u v :=
  Exists.elim I fun st I => Exists.elim I fun K I => Exists.elim I fun A I => Exists.elim I fun Q I => Exists.elim I fun sz I => Exists.elim I fun hp I => Exists.elim I fun pl I => Exists.elim I fun pr I => Exists.elim I fun pc I => Exists.elim I fun pn I => Exists.elim I fun pb I => Exists.elim I fun rF I => Exists.elim I fun rI I => Exists.elim I fun rN I => Exists.elim I fun rU I => Exists.elim I fun rC I => Exists.elim I fun rX I => Exists.elim I fun rP I => Exists.elim I fun rD I => Exists.elim I fun gF I => Exists.elim I fun gC I => Exists.elim I fun gL I => Exists.elim I fun gR I => Exists.elim I fun gP I => Exists.elim I fun gD I => Exists.elim I fun gM I => Exists.elim I fun gO I => Exists.elim I fun lr I => Exists.elim I fun ll I => Exists.elim I fun lR I => Exists.elim I fun lp I => Exists.elim I fun lk I => Exists.elim I fun wn I => Exists.elim I fun sk I => by
    obtain ⟨e1, e2, hj⟩ := I
    rw [e1, e2]
    exact h st K A Q sz hp pl pr pc pn pb rF rI rN rU rC rX rP rD gF gC gL gR gP gD gM gO lr ll lR lp lk wn sk hj
theorem hs_mk {k st : Nat} {K A : Nat → Int32} {Q sz hp pl pr pc pn pb rF rI rN rU rC rX rP rD gF gC gL gR gP gD gM gO lr ll lR lp lk wn sk : Nat → Nat} (h : hs_J K A Q sz hp pl pr pc pn pb rF rI rN rU rC rX rP rD gF gC gL gR gP gD gM lr ll lR lp lk wn) : i_Rel k ((nI st), K, A, (hs_A sz), (hs_A hp), (hs_A pl), (hs_A pr), (hs_A pc), (hs_A pn), (hs_A pb), (hs_A rF), (hs_A rI), (hs_A rN), (hs_A rU), (hs_A rC), (hs_A rX), (hs_A rP), (hs_A rD), (hs_A gF), (hs_A gC), (hs_A gL), (hs_A gR), (hs_A gP), (hs_A gD), (hs_A gM), (hs_A gO), (hs_A lr), (hs_A ll), (hs_A lR), (hs_A lp), (hs_A lk), (hs_A wn), (hs_A sk)) (hs_A Q, K) :=
  ⟨st, K, A, Q, sz, hp, pl, pr, pc, pn, pb, rF, rI, rN, rU, rC, rX, rP, rD, gF, gC, gL, gR, gP, gD, gM, gO, lr, ll, lR, lp, lk, wn, sk, rfl, rfl, h⟩
end
section
/-! putIn, takeOut, lowerTo: the seven engines one behind another -/
theorem hs_wr {P : (Nat → Int32) → Prop} {f : Nat → Int32} {x y y' : Int32} {N : Nat} (i : Nat) (hi : i < N) (hy : y = y') (h : P (upd f i y')) (hx : x = nI i := by rfl) (hN : N < 2 ^ 31 := by decide) : vp_in x N ∧ ∀ a : Nat → Int32, a = upd f x.toNatClampNeg y → P a := by
  subst hx; subst hy
  refine ⟨vp_in_nI hi hN, fun a e => ?_⟩
  rw [e, nI_clamp (by omega)]; exact h
theorem hs_m1b : vp_nar .byte (-1) = -1 := by rw [vp_nar_byte]; decide
section
variable {st : Nat} {K A : Nat → Int32} {sz hp pl pr pc pn pb rF rI rN rU rC rX rP rD gF gC gL gR gP gD gM gO lr ll lR lp lk wn sk : Nat → Nat}
theorem hs_putIn {post : SX → Prop} {Q : Nat → Nat} {q' x' : Int32} (q x : Nat) (hq : q < 4) (hx : x < 24) (hE : hs_E K Q hp pl pr pc pn pb rF rI rN rU rC rX rP rD gF gC gL gR gP gD gM lr ll lR lp lk wn) (hQ4 : ∀ x, Q x ≤ 4) (hz : ∀ p, p < 4 → sz p = hs_ct Q p) (hQx : Q x = 0) (hpost : ∀ (st' : Nat) (sz' hp' pl' pr' pc' pn' pb' rF' rI' rN' rU' rC' rX' rP' rD' gF' gC' gL' gR' gP' gD' gM' gO' lr' ll' lR' lp' lk' wn' sk' : Nat → Nat), hs_E K (hs_s Q x (q + 1)) hp' pl' pr' pc' pn' pb' rF' rI' rN' rU' rC' rX' rP' rD' gF' gC' gL' gR' gP' gD' gM' lr' ll' lR' lp' lk' wn' → (∀ p, p < 4 → sz' p = hs_ct (hs_s Q x (q + 1)) p) → post ((nI (st')), K, (upd A x (nI q)), (hs_A sz'), (hs_A hp'), (hs_A pl'), (hs_A pr'), (hs_A pc'), (hs_A pn'), (hs_A pb'), (hs_A rF'), (hs_A rI'), (hs_A rN'), (hs_A rU'), (hs_A rC'), (hs_A rX'), (hs_A rP'), (hs_A rD'), (hs_A gF'), (hs_A gC'), (hs_A gL'), (hs_A gR'), (hs_A gP'), (hs_A gD'), (hs_A gM'), (hs_A gO'), (hs_A lr'), (hs_A ll'), (hs_A lR'), (hs_A lp'), (hs_A lk'), (hs_A wn'), (hs_A sk'))) (eq : q' = nI q := by rfl) (ex : x' = nI x := by rfl) : wpX_putIn post ((nI st), K, A, (hs_A sz), (hs_A hp), (hs_A pl), (hs_A pr), (hs_A pc), (hs_A pn), (hs_A pb), (hs_A rF), (hs_A rI), (hs_A rN), (hs_A rU), (hs_A rC), (hs_A rX), (hs_A rP), (hs_A rD), (hs_A gF), (hs_A gC), (hs_A gL), (hs_A gR), (hs_A gP), (hs_A gD), (hs_A gM), (hs_A gO), (hs_A lr), (hs_A ll), (hs_A lR), (hs_A lp), (hs_A lk), (hs_A wn), (hs_A sk)) q' x' := by
  subst eq; subst ex
  obtain ⟨i0, i1, i2, i3, i4, i5, i6⟩ := hE
  have hQ4' : ∀ z, hs_s Q x (q + 1) z ≤ 4 := fun z => by
    by_cases e : z = x
    · rw [hs_se e]; omega
    · rw [hs_sn e]; exact hQ4 z
  have c24 := hs_ct_lt (q := q) hx hQx
  unfold wpX_putIn
  dsimp only
  refine hs_in q hq ?_
  refine h0_add q x hq hx i0 hQx c24 (fun hp' pl' j0 => ?_) rfl rfl (by rw [hs_rd q (by omega), hz q hq])
  dsimp only
  refine h1_add q x hq hx i1 hQx (fun pr' pc' pn' pb' j1 => ?_)
  dsimp only
  refine h2_add q x hq hx i2 hQx (fun rF' rI' rN' rU' rC' rX' rP' rD' j2 => ?_)
  dsimp only
  refine h3_add q x hq hx i3 hQx (fun gF' gC' gL' gR' gP' gD' gM' j3 => ?_)
  dsimp only
  refine h4_add 0 0 q x (Or.inl ⟨rfl, rfl⟩) hq hx i4 hQx (fun st1 sk1 lr1 ll1 lR1 lp1 lk1 j4 f4 g4 => ?_)
  dsimp only
  have i5' : h4_I 25 K Q (fun p => lr1 (4 + p)) ll1 lR1 lp1 lk1 := h4_I_fr i5 (fun p _ => g4 _ (by omega)) hQ4 (fun j h1 h2 => f4 j (Or.inr (by omega)))
  refine h4_add 25 4 q x (Or.inr ⟨rfl, rfl⟩) hq hx i5' hQx (fun st2 sk2 lr2 ll2 lR2 lp2 lk2 j5 f5 g5 => ?_)
  dsimp only
  have j4' : h4_I 0 K (hs_s Q x (q + 1)) (fun p => lr2 (0 + p)) ll2 lR2 lp2 lk2 := h4_I_fr j4 (fun p hp => g5 _ (by omega)) hQ4' (fun j h1 h2 => f5 j (Or.inl (by omega)))
  refine h6_play (Q := hs_s Q x (q + 1)) (q := q) (x := x) (b := 1) hq hx (by omega) ⟨fun _ => hs_ss, fun _ => rfl⟩ (h6_pre (K := K) (Q := Q) i6 (fun _ _ => rfl) (fun j hj => hs_sn hj) (fun p hp hne => ⟨by omega, by rw [hs_ss]; omega⟩)) (fun wn' j6 => ?_)
  dsimp only
  refine hs_wr x hx (hs_nc (v := q) (by omega)) ?_
  refine hs_in q hq (hs_w q (sz q + 1) hq (by rw [hz q hq]; omega) ?_ rfl (by rw [hs_rd q (by omega), nI_1]))
  refine hpost st2 (hs_s sz q (sz q + 1)) hp' pl' pr' pc' pn' pb' rF' rI' rN' rU' rC' rX' rP' rD' gF' gC' gL' gR' gP' gD' gM' gO lr2 ll2 lR2 lp2 lk2 wn' sk2 ⟨h0_cg j0 (fun p _ => hs_ct_a hx hQx), j1, j2, j3, j4', j5, j6⟩ (fun p hp => ?_)
  rw [hs_ct_a hx hQx]
  by_cases e : p = q
  · rw [e, hs_ss, hs_ss, hz q hq]
  · rw [hs_sn e, hs_sn e, hz p hp]
theorem hs_takeOut {post : SX → Prop} {Q : Nat → Nat} {x' : Int32} (q x : Nat) (hq : q < 4) (hx : x < 24) (hE : hs_E K Q hp pl pr pc pn pb rF rI rN rU rC rX rP rD gF gC gL gR gP gD gM lr ll lR lp lk wn) (hA : A x = nI (Q x) - 1) (hQ4 : ∀ x, Q x ≤ 4) (hz : ∀ p, p < 4 → sz p = hs_ct Q p) (hQx : Q x = q + 1) (hpost : ∀ (st' : Nat) (sz' hp' pl' pr' pc' pn' pb' rF' rI' rN' rU' rC' rX' rP' rD' gF' gC' gL' gR' gP' gD' gM' gO' lr' ll' lR' lp' lk' wn' sk' : Nat → Nat), hs_E K (hs_s Q x 0) hp' pl' pr' pc' pn' pb' rF' rI' rN' rU' rC' rX' rP' rD' gF' gC' gL' gR' gP' gD' gM' lr' ll' lR' lp' lk' wn' → (∀ p, p < 4 → sz' p = hs_ct (hs_s Q x 0) p) → post ((nI (st')), K, (upd A x (-1)), (hs_A sz'), (hs_A hp'), (hs_A pl'), (hs_A pr'), (hs_A pc'), (hs_A pn'), (hs_A pb'), (hs_A rF'), (hs_A rI'), (hs_A rN'), (hs_A rU'), (hs_A rC'), (hs_A rX'), (hs_A rP'), (hs_A rD'), (hs_A gF'), (hs_A gC'), (hs_A gL'), (hs_A gR'), (hs_A gP'), (hs_A gD'), (hs_A gM'), (hs_A gO'), (hs_A lr'), (hs_A ll'), (hs_A lR'), (hs_A lp'), (hs_A lk'), (hs_A wn'), (hs_A sk'))) (ex : x' = nI x := by rfl) : wpX_takeOut post ((nI st), K, A, (hs_A sz), (hs_A hp), (hs_A pl), (hs_A pr), (hs_A pc), (hs_A pn), (hs_A pb), (hs_A rF), (hs_A rI), (hs_A rN), (hs_A rU), (hs_A rC), (hs_A rX), (hs_A rP), (hs_A rD), (hs_A gF), (hs_A gC), (hs_A gL), (hs_A gR), (hs_A gP), (hs_A gD), (hs_A gM), (hs_A gO), (hs_A lr), (hs_A ll), (hs_A lR), (hs_A lp), (hs_A lk), (hs_A wn), (hs_A sk)) x' := by
  subst ex
  obtain ⟨i0, i1, i2, i3, i4, i5, i6⟩ := hE
  have hQ4' : ∀ z, hs_s Q x 0 z ≤ 4 := fun z => by
    by_cases e : z = x
    · rw [hs_se e]; omega
    · rw [hs_sn e]; exact hQ4 z
  have cp := hs_ct_p hx hQx
  have c24 := hs_ct_24 (Q := Q) (q := q)
  unfold wpX_takeOut
  dsimp only
  refine ⟨vp_in_nI hx (by decide), nm_r (e' := nI q) (by rw [nI_clamp (by omega), hA, hQx, nI_pred]) ?_⟩
  refine hs_in q hq ?_
  refine h0_rem q x hq hx i0 hQx (fun hp' pl' j0 => ?_) rfl rfl (by rw [hs_rd q (by omega), hz q hq])
  dsimp only
  refine h1_rem q x hq hx i1 hQx (fun st1 sk1 pr' pc' pn' pb' j1 => ?_)
  dsimp only
  refine h2_rem q x hq hx i2 hQx (fun rF' rI' rN' rU' rC' rX' rP' rD' j2 => ?_)
  dsimp only
  refine h3_rem q x hq hx i3 hQx (fun st2 sk2 gF' gC' gL' gR' gP' gD' gM' gO' j3 => ?_)
  dsimp only
  refine h4_rem 0 0 q x (Or.inl ⟨rfl, rfl⟩) hq hx i4 hQx (fun st3 sk3 lr1 ll1 lR1 lp1 lk1 j4 f4 g4 => ?_)
  dsimp only
  have i5' : h4_I 25 K Q (fun p => lr1 (4 + p)) ll1 lR1 lp1 lk1 := h4_I_fr i5 (fun p _ => g4 _ (by omega)) hQ4 (fun j h1 h2 => f4 j (Or.inr (by omega)))
  refine h4_rem 25 4 q x (Or.inr ⟨rfl, rfl⟩) hq hx i5' hQx (fun st4 sk4 lr2 ll2 lR2 lp2 lk2 j5 f5 g5 => ?_)
  dsimp only
  have j4' : h4_I 0 K (hs_s Q x 0) (fun p => lr2 (0 + p)) ll2 lR2 lp2 lk2 := h4_I_fr j4 (fun p hp => g5 _ (by omega)) hQ4' (fun j h1 h2 => f5 j (Or.inl (by omega)))
  refine h6_play (Q := hs_s Q x 0) (q := q) (x := x) (b := 0) hq hx (by omega) ⟨fun h => by omega, fun h => by rw [hs_ss] at h; omega⟩ (h6_pre (K := K) (Q := Q) i6 (fun _ _ => rfl) (fun j hj => hs_sn hj) (fun p hp hne => ⟨by omega, by rw [hs_ss]; omega⟩)) (fun wn' j6 => ?_)
  dsimp only
  refine hs_wr x hx hs_m1b ?_
  have ez : nI (sz q) - 1 = nI (sz q - 1) := by
    obtain ⟨j, hj⟩ : ∃ j, sz q = j + 1 := ⟨sz q - 1, by rw [hz q hq]; omega⟩
    rw [hj, nI_pred]; rfl
  refine hs_in q hq (hs_w q (sz q - 1) hq (by rw [hz q hq]; omega) ?_ rfl (by rw [hs_rd q (by omega)]; exact ez))
  refine hpost st4 (hs_s sz q (sz q - 1)) hp' pl' pr' pc' pn' pb' rF' rI' rN' rU' rC' rX' rP' rD' gF' gC' gL' gR' gP' gD' gM' gO' lr2 ll2 lR2 lp2 lk2 wn' sk4 ⟨h0_cg j0 (fun p _ => hs_ct_r hx hQx), j1, j2, j3, j4', j5, j6⟩ (fun p hp => ?_)
  rw [hs_ct_r hx hQx]
  by_cases e : p = q
  · rw [e, hs_ss, hs_ss, hz q hq]
  · rw [hs_sn e, hs_sn e, hz p hp]
theorem hs_sh {k : Int32} (h1 : -999 ≤ k.toInt) (h2 : k.toInt ≤ 999) : vp_nar .short k.toInt16.toInt32 = k := by
  rw [pk_vs]
  exact lg_i2s_small (by omega) (by omega)
theorem hs_lowerTo {post : SX → Prop} {Q : Nat → Nat} {x' : Int32} (q x : Nat) (k : Int32) (hq : q < 4) (hx : x < 24) (hE : hs_E K Q hp pl pr pc pn pb rF rI rN rU rC rX rP rD gF gC gL gR gP gD gM lr ll lR lp lk wn) (hA : A x = nI (Q x) - 1) (hQ4 : ∀ x, Q x ≤ 4) (hQx : Q x = q + 1) (h1 : -999 ≤ k.toInt) (h2 : k.toInt ≤ 999) (hk : k ≤ K x) (hpost : ∀ (st' : Nat) (sz' hp' pl' pr' pc' pn' pb' rF' rI' rN' rU' rC' rX' rP' rD' gF' gC' gL' gR' gP' gD' gM' gO' lr' ll' lR' lp' lk' wn' sk' : Nat → Nat), sz' = sz → hs_E (upd K x k) Q hp' pl' pr' pc' pn' pb' rF' rI' rN' rU' rC' rX' rP' rD' gF' gC' gL' gR' gP' gD' gM' lr' ll' lR' lp' lk' wn' → post ((nI (st')), (upd K x k), A, (hs_A sz'), (hs_A hp'), (hs_A pl'), (hs_A pr'), (hs_A pc'), (hs_A pn'), (hs_A pb'), (hs_A rF'), (hs_A rI'), (hs_A rN'), (hs_A rU'), (hs_A rC'), (hs_A rX'), (hs_A rP'), (hs_A rD'), (hs_A gF'), (hs_A gC'), (hs_A gL'), (hs_A gR'), (hs_A gP'), (hs_A gD'), (hs_A gM'), (hs_A gO'), (hs_A lr'), (hs_A ll'), (hs_A lR'), (hs_A lp'), (hs_A lk'), (hs_A wn'), (hs_A sk'))) (ex : x' = nI x := by rfl) : wpX_lowerTo post ((nI st), K, A, (hs_A sz), (hs_A hp), (hs_A pl), (hs_A pr), (hs_A pc), (hs_A pn), (hs_A pb), (hs_A rF), (hs_A rI), (hs_A rN), (hs_A rU), (hs_A rC), (hs_A rX), (hs_A rP), (hs_A rD), (hs_A gF), (hs_A gC), (hs_A gL), (hs_A gR), (hs_A gP), (hs_A gD), (hs_A gM), (hs_A gO), (hs_A lr), (hs_A ll), (hs_A lR), (hs_A lp), (hs_A lk), (hs_A wn), (hs_A sk)) x' k := by
  subst ex
  obtain ⟨i0, i1, i2, i3, i4, i5, i6⟩ := hE
  have kn : ∀ j, j ≠ x → upd K x k j = K j := fun j hj => pk_un hj
  have kl : upd K x k x ≤ K x := by rw [pk_us]; exact hk
  have pl24 : pl x < 2 ^ 31 := by
    have := ((i0.1 q hq).2.2 x hx hQx).1
    have := hs_ct_24 (Q := Q) (q := q)
    omega
  unfold wpX_lowerTo
  dsimp only
  refine ⟨vp_in_nI hx (by decide), nm_r (e' := nI q) (by rw [nI_clamp (by omega), hA, hQx, nI_pred]) ?_⟩
  refine hs_wr x hx (hs_sh h1 h2) (hs_in x hx ?_)
  refine h0_low (K := upd K x k) (K0 := K) q x hq hx i0 hQx kn kl (fun hp' pl' j0 => ?_) rfl (hs_rd x (by omega))
  dsimp only
  refine h1_low (K := upd K x k) (K0 := K) q x hq hx i1 hQx kn kl (fun pr' pc' pn' pb' j1 => ?_)
  dsimp only
  refine h2_low (K := upd K x k) (K0 := K) x hx i2 (by omega) kn kl (fun r rI' rN' j2 => ?_)
  dsimp only
  refine h3_low (K := upd K x k) (K0 := K) q x hq hx i3 hQx kn kl (fun gF' gC' gL' gR' gP' gD' gM' j3 => ?_)
  dsimp only
  refine h4_low (K := upd K x k) (K0 := K) 0 0 q x (Or.inl ⟨rfl, rfl⟩) hq hx i4 hQx kn kl (fun st1 sk1 lr1 ll1 lR1 lp1 lk1 j4 f4 g4 => ?_)
  dsimp only
  have i5' : h4_I 25 K Q (fun p => lr1 (4 + p)) ll1 lR1 lp1 lk1 := h4_I_fr i5 (fun p _ => g4 _ (by omega)) hQ4 (fun j h1 h2 => f4 j (Or.inr (by omega)))
  refine h4_low (K := upd K x k) (K0 := K) 25 4 q x (Or.inr ⟨rfl, rfl⟩) hq hx i5' hQx kn kl (fun st2 sk2 lr2 ll2 lR2 lp2 lk2 j5 f5 g5 => ?_)
  dsimp only
  have j4' : h4_I 0 (upd K x k) Q (fun p => lr2 (0 + p)) ll2 lR2 lp2 lk2 := h4_I_fr j4 (fun p hp => g5 _ (by omega)) hQ4 (fun j h1 h2 => f5 j (Or.inl (by omega)))
  refine h6_play (Q := Q) (q := q) (x := x) (b := 1) hq hx (by omega) ⟨fun _ => hQx, fun _ => rfl⟩ (h6_pre (K := K) (Q := Q) i6 kn (fun _ _ => rfl) (fun p hp hne => ⟨by omega, by omega⟩)) (fun wn' j6 => ?_)
  dsimp only
  exact hpost st2 sz hp' pl' pr' pc' pn' pb' rF rI' rN' rU rC rX rP rD gF' gC' gL' gR' gP' gD' gM' gO lr2 ll2 lR2 lp2 lk2 wn' sk2 rfl ⟨j0, j1, j2, j3, j4', j5, j6⟩
end
end
section
/-! asking for the first; the reference's loops -/
def hs_en (r : Nat) : Int32 := if r = 24 then -3000 else nI r
theorem hs_min_24 {K : Nat → Int32} {Q : Nat → Nat} {q r : Nat} (h : hs_min K Q q r) : r ≤ 24 := by
  rcases h with ⟨h, _⟩ | ⟨h, _⟩ <;> omega
theorem hx_Q0 {post : Int32 → Prop} {x : Int32} (h : x < 0 ∨ nI 4 ≤ x) (hp : post 0) : wpX_isQueue post x := by
  unfold wpX_isQueue
  rcases h with h | h
  · exact br_t h hp
  · refine br_f ?_ (br_t h hp)
    rw [Int32.lt_iff_toInt_lt]; rw [Int32.le_iff_toInt_le, nI_toInt (by decide)] at h
    have : (0 : Int32).toInt = 0 := by decide
    omega
theorem hx_Q1 {post : Int32 → Prop} {q : Nat} (hq : q < 4) (hp : post 1) : wpX_isQueue post (nI q) := by
  unfold wpX_isQueue
  exact br_f (nI_pos (by omega)) (pk_le 4 q (fun h => by omega) (fun _ => hp))
theorem hx_I0 {post : Int32 → Prop} {x : Int32} (h : x < 0 ∨ nI 24 ≤ x) (hp : post 0) : wpX_isItem post x := by
  unfold wpX_isItem
  rcases h with h | h
  · exact br_t h hp
  · refine br_f ?_ (br_t h hp)
    rw [Int32.lt_iff_toInt_lt]; rw [Int32.le_iff_toInt_le, nI_toInt (by decide)] at h
    have : (0 : Int32).toInt = 0 := by decide
    omega
theorem hx_I1 {post : Int32 → Prop} {q : Nat} (hq : q < 24) (hp : post 1) : wpX_isItem post (nI q) := by
  unfold wpX_isItem
  exact br_f (nI_pos (by omega)) (pk_le 24 q (fun h => by omega) (fun _ => hp))
theorem hx_E0 {post : Int32 → Prop} {x : Int32} (h : x < 0 ∨ nI 7 ≤ x) (hp : post 0) : wpX_isEngine post x := by
  unfold wpX_isEngine
  rcases h with h | h
  · exact br_t h hp
  · refine br_f ?_ (br_t h hp)
    rw [Int32.lt_iff_toInt_lt]; rw [Int32.le_iff_toInt_le, nI_toInt (by decide)] at h
    have : (0 : Int32).toInt = 0 := by decide
    omega
theorem hx_E1 {post : Int32 → Prop} {q : Nat} (hq : q < 7) (hp : post 1) : wpX_isEngine post (nI q) := by
  unfold wpX_isEngine
  exact br_f (nI_pos (by omega)) (pk_le 7 q (fun h => by omega) (fun _ => hp))
def hs_key (k : Int32) : Prop := -999 ≤ k.toInt ∧ k.toInt ≤ 999
theorem hs_k1 (k : Int32) : k < (-999) ↔ k.toInt < -999 := by
  rw [Int32.lt_iff_toInt_lt]
  have : (-999 : Int32).toInt = -999 := by decide
  rw [this]
theorem hs_k2 (k : Int32) : 999 < k ↔ 999 < k.toInt := by
  rw [Int32.lt_iff_toInt_lt]
  have : (999 : Int32).toInt = 999 := by decide
  rw [this]
theorem hx_K0 {post : Int32 → Prop} {k : Int32} (h : ¬ hs_key k) (hp : post 0) : wpX_isKey post k := by
  unfold wpX_isKey
  refine br_c (fun _ => hp) (fun h1 => br_t ?_ hp)
  rw [hs_k1] at h1
  rw [hs_k2]
  unfold hs_key at h; omega
theorem hx_K1 {post : Int32 → Prop} {k : Int32} (h : hs_key k) (hp : post 1) : wpX_isKey post k := by
  unfold wpX_isKey
  unfold hs_key at h
  exact br_f (by rw [hs_k1]; omega) (br_f (by rw [hs_k2]; omega) hp)
/-! the same on the other side -/
theorem hs_lt_n {x : Int32} {n : Nat} (hn : n < 1000) (h : nI (n + 1) ≤ x) : ¬ x < 0 ∧ nI n < x := by
  rw [Int32.le_iff_toInt_le, nI_toInt (by omega)] at h
  rw [Int32.lt_iff_toInt_lt, Int32.lt_iff_toInt_lt, nI_toInt (by omega)]
  have : (0 : Int32).toInt = 0 := by decide
  omega
theorem hy_Q0 {post : Int32 → Prop} {v : SY} {x : Int32} (h : x < 0 ∨ nI 4 ≤ x) (hp : post 0) : wpY_isQueue post v x := by
  unfold wpY_isQueue
  rcases h with h | h
  · exact br_t h hp
  · have := hs_lt_n (n := 3) (by omega) h
    exact br_f this.1 (br_t this.2 hp)
theorem hy_Q1 {post : Int32 → Prop} {v : SY} {q : Nat} (hq : q < 4) (hp : post 1) : wpY_isQueue post v (nI q) := by
  unfold wpY_isQueue
  exact br_f (nI_pos (by omega)) (pk_lt 3 q (fun h => by omega) (fun _ => hp))
theorem hy_I0 {post : Int32 → Prop} {v : SY} {x : Int32} (h : x < 0 ∨ nI 24 ≤ x) (hp : post 0) : wpY_isItem post v x := by
  unfold wpY_isItem
  rcases h with h | h
  · exact br_t h hp
  · have := hs_lt_n (n := 23) (by omega) h
    exact br_f this.1 (br_t this.2 hp)
theorem hy_I1 {post : Int32 → Prop} {v : SY} {q : Nat} (hq : q < 24) (hp : post 1) : wpY_isItem post v (nI q) := by
  unfold wpY_isItem
  exact br_f (nI_pos (by omega)) (pk_lt 23 q (fun h => by omega) (fun _ => hp))
theorem hy_K0 {post : Int32 → Prop} {v : SY} {k : Int32} (h : ¬ hs_key k) (hp : post 0) : wpY_isKey post v k := by
  unfold wpY_isKey
  refine br_c (fun _ => hp) (fun h1 => br_t ?_ hp)
  rw [hs_k1] at h1
  rw [hs_k2]
  unfold hs_key at h; omega
theorem hy_K1 {post : Int32 → Prop} {v : SY} {k : Int32} (h : hs_key k) (hp : post 1) : wpY_isKey post v k := by
  unfold wpY_isKey
  unfold hs_key at h
  exact br_f (by rw [hs_k1]; omega) (br_f (by rw [hs_k2]; omega) hp)
/-- the first among the items below i, without o -/
def hs_mo (K : Nat → Int32) (Q : Nat → Nat) (q o i r : Nat) : Prop :=
  (r = 24 ∧ ∀ x, x < i → Q x = q + 1 → x = o) ∨ (r < i ∧ r < 24 ∧ Q r = q + 1 ∧ r ≠ o ∧ ∀ x, x < i → Q x = q + 1 → x ≠ o → x ≠ r → hs_bef K r x)
theorem hy_least {post : Int32 → Prop} {K : Nat → Int32} {Q : Nat → Nat} {q o : Nat} {q' w : Int32} (hQ4 : ∀ x, Q x ≤ 4) (hq : q < 4) (hw : ∀ i, i < 24 → (nI i = w ↔ i = o)) (hpost : ∀ r, hs_mo K Q q o 24 r → post (hs_en r)) (eq : q' = nI q := by rfl) : wpY_least post (hs_A Q, K) q' w := by
  subst eq
  unfold wpY_least
  dsimp only
  have key : ∀ d i r, i + d = 24 → hs_mo K Q q o i r → wY_least_7 post (nI q) w (hs_A Q) K (d + 1) (hs_en r) (nI i) := by
    intro d
    induction d with
    | zero =>
      intro i r hi hr
      have : i = 24 := by omega
      subst this
      rw [wY_least_7]
      exact br_t (by decide) (hpost r hr)
    | succ d ih =>
      intro i r hi hr
      have r24 : r ≤ 24 := by rcases hr with h | h <;> omega
      have keep : (Q i = q + 1 → i = o) → hs_mo K Q q o (i + 1) r := by
        intro h
        rcases hr with ⟨h1, h2⟩ | ⟨h1, h2, h3, h4, h5⟩
        · refine Or.inl ⟨h1, fun x hx e => ?_⟩
          by_cases ex : x = i
          · rw [ex] at e ⊢; exact h e
          · exact h2 x (by omega) e
        · refine Or.inr ⟨by omega, h2, h3, h4, fun x hx e n1 n2 => ?_⟩
          by_cases ex : x = i
          · rw [ex] at e n1; exact absurd (h e) n1
          · exact h5 x (by omega) e n1 n2
      have skip : (Q i = q + 1 → i = o) → wY_least_37 post (wY_least_7 post (nI q) w (hs_A Q) K (d + 1)) (nI q) w (hs_en r) (nI i) (hs_A Q) K := by
        intro h
        unfold wY_least_37 wY_least_38
        exact br_t rfl (nm_r (nI_1 _) (ih (i + 1) r (by omega) (keep h)))
      have qi := hQ4 i
      rw [wY_least_7]
      refine pk_le 24 i (fun h => by omega) (fun _ => hs_in i (by omega) ?_)
      refine pk_eq (Q i) (q + 1) (fun e => ?_) (fun e => skip (fun h => absurd h e)) (hs_rd i (by omega)) (nI_1 q)
      refine br_c (fun h => skip (fun _ => (hw i (by omega)).1 h)) (fun h => ?_)
      have io : i ≠ o := fun h' => h ((hw i (by omega)).2 h')
      unfold wY_least_38
      refine br_f (by decide) ?_
      have new : (r = 24 ∨ hs_bef K i r) → hs_mo K Q q o (i + 1) i := by
        intro hb
        refine Or.inr ⟨by omega, by omega, e, io, fun x hx ex n1 n2 => ?_⟩
        rcases hr with ⟨h1, h2⟩ | ⟨h1, h2, h3, h4, h5⟩
        · exact absurd (h2 x (by omega) ex) n1
        · have hb' := hb.resolve_left (by omega)
          by_cases xr : x = r
          · rw [xr]; exact hb'
          · exact hs_bef_tr hb' (h5 x (by omega) ex n1 xr)
      have ei : hs_en i = nI i := by unfold hs_en; rw [if_neg (by omega)]
      by_cases r0 : r = 24
      · have hneg : hs_en r < 0 := by unfold hs_en; rw [if_pos r0]; decide
        refine br_t hneg (nm_r (nI_1 _) ?_)
        have := ih (i + 1) i (by omega) (new (Or.inl r0))
        rw [ei] at this; exact this
      · have er : hs_en r = nI r := by unfold hs_en; rw [if_neg r0]
        have ri : r < i := by rcases hr with h | h <;> omega
        rw [er]
        refine br_f (nI_pos (by omega)) (hs_in i (by omega) (hs_in r (by omega) ?_))
        rw [nI_clamp (by omega), nI_clamp (by omega)]
        refine br_c (fun hle => nm_r (nI_1 _) ?_) (fun hle => nm_r (nI_1 _) ?_)
        · have hb : hs_bef K r i := by
            rw [hs_bef_i]
            rw [Int32.le_iff_toInt_le] at hle
            omega
          have : hs_mo K Q q o (i + 1) r := by
            rcases hr with ⟨h1, _⟩ | ⟨h1, h2, h3, h4, h5⟩
            · exact absurd h1 r0
            · refine Or.inr ⟨by omega, h2, h3, h4, fun x hx ex n1 n2 => ?_⟩
              by_cases xi : x = i
              · rw [xi]; exact hb
              · exact h5 x (by omega) ex n1 n2
          have := ih (i + 1) r (by omega) this
          rw [er] at this; exact this
        · have hb : hs_bef K i r := by
            rw [hs_bef_i]
            rw [Int32.le_iff_toInt_le] at hle
            omega
          have := ih (i + 1) i (by omega) (new (Or.inr hb))
          rw [ei] at this; exact this
  exact ⟨_, key 24 0 24 (by omega) (Or.inl ⟨rfl, fun x hx => by omega⟩)⟩
theorem hs_mo_min {K : Nat → Int32} {Q : Nat → Nat} {q r : Nat} (h : hs_mo K Q q 24 24 r) : hs_min K Q q r := by
  rcases h with ⟨h1, h2⟩ | ⟨h1, h2, h3, h4, h5⟩
  · refine Or.inl ⟨h1, fun x hx e => ?_⟩
    have := h2 x hx e; omega
  · exact Or.inr ⟨h2, h3, fun x hx e n => h5 x hx e (by omega) n⟩
theorem hs_w3 : ∀ i, i < 24 → (nI i = (-3000) ↔ i = 24) := by
  intro i hi
  constructor
  · intro h
    have := congrArg Int32.toInt h
    rw [nI_toInt (by omega)] at this
    have h3 : (-3000 : Int32).toInt = -3000 := by decide
    omega
  · intro h; omega
theorem hy_min {post : Int32 → Prop} {K : Nat → Int32} {Q : Nat → Nat} {q : Nat} {q' : Int32} (hQ4 : ∀ x, Q x ≤ 4) (hq : q < 4) (hpost : ∀ r, hs_min K Q q r → post (hs_en r)) (eq : q' = nI q := by rfl) : wpY_least post (hs_A Q, K) q' (-3000) :=
  hy_least (o := 24) hQ4 hq hs_w3 (fun r h => hpost r (hs_mo_min h)) eq
section
variable {st : Nat} {K A : Nat → Int32} {sz hp pl pr pc pn pb rF rI rN rU rC rX rP rD gF gC gL gR gP gD gM gO lr ll lR lp lk wn sk : Nat → Nat}
theorem hs_firstOf {post : Int32 → Prop} {Q : Nat → Nat} {e' q' : Int32} (e q : Nat) (he : e < 7) (hq : q < 4) (hE : hs_E K Q hp pl pr pc pn pb rF rI rN rU rC rX rP rD gF gC gL gR gP gD gM lr ll lR lp lk wn) (hz : ∀ p, p < 4 → sz p = hs_ct Q p) (hpost : ∀ r, hs_min K Q q r → post (nI r)) (ee : e' = nI e := by rfl) (eq : q' = nI q := by rfl) : wpX_firstOf post ((nI st), K, A, (hs_A sz), (hs_A hp), (hs_A pl), (hs_A pr), (hs_A pc), (hs_A pn), (hs_A pb), (hs_A rF), (hs_A rI), (hs_A rN), (hs_A rU), (hs_A rC), (hs_A rX), (hs_A rP), (hs_A rD), (hs_A gF), (hs_A gC), (hs_A gL), (hs_A gR), (hs_A gP), (hs_A gD), (hs_A gM), (hs_A gO), (hs_A lr), (hs_A ll), (hs_A lR), (hs_A lp), (hs_A lk), (hs_A wn), (hs_A sk)) e' q' := by
  subst ee; subst eq
  obtain ⟨i0, i1, i2, i3, i4, i5, i6⟩ := hE
  have c24 := hs_ct_24 (Q := Q) (q := q)
  have f0 := h0_first i0 hq
  unfold wpX_firstOf
  dsimp only
  refine br_f (nI_pos (by omega)) ?_
  refine pk_lt 5 e (fun h => ?_) (fun h => ?_)
  · have e1 : nI q * 64 + 1 = nI (q * 64 + 1) := hs_q64 q 1
    refine hs_in (q * 64 + 1) (by omega) ?_ e1
    rw [hs_rd (q * 64 + 1) (by omega) e1]
    exact hpost _ (h6_first i6 hq)
  · refine pk_eq e 0 (fun _ => hs_in q hq ?_) (fun n0 => ?_)
    · refine pk_le (hs_ct Q q) 0 (fun h => hpost 24 (f0.1 (by omega))) (fun h => ?_) (by rw [hs_rd q (by omega), hz q hq]) rfl
      have e1 : nI q * 24 = nI (q * 24) := pk_mul q 24
      refine hs_in (q * 24) (by omega) ?_ e1
      rw [hs_rd (q * 24) (by omega) e1]
      exact hpost _ (f0.2 h)
    · refine pk_eq e 1 (fun _ => hs_in q hq ?_) (fun n1 => ?_)
      · rw [hs_rd q (by omega)]
        exact hpost _ (h1_first i1 hq)
      · refine pk_eq e 2 (fun _ => h2_first q hq i2 hpost) (fun n2 => ?_)
        refine pk_eq e 3 (fun _ => hs_in q hq ?_) (fun n3 => ?_)
        · rw [hs_rd q (by omega)]
          exact hpost _ (h3_first i3 hq)
        · refine pk_eq e 4 (fun _ => hs_in q (by omega) ?_) (fun n4 => ?_)
          · rw [hs_rd q (by omega)]
            have := h4_first i4 hq
            rw [Nat.zero_add] at this
            exact hpost _ this
          · refine pk_eq e 5 (fun _ => ?_) (fun n5 => trivial)
            have e1 : 4 + nI q = nI (4 + q) := nI_add 4 q
            refine hs_in (4 + q) (by omega) ?_ e1
            rw [hs_rd (4 + q) (by omega) e1]
            exact hpost _ (h4_first i5 hq)
theorem hs_first {post : Int32 → Prop} {Q : Nat → Nat} {e' q' : Int32} (e q : Nat) (he : e < 7) (hq : q < 4) (hE : hs_E K Q hp pl pr pc pn pb rF rI rN rU rC rX rP rD gF gC gL gR gP gD gM lr ll lR lp lk wn) (hz : ∀ p, p < 4 → sz p = hs_ct Q p) (hpost : ∀ r, hs_min K Q q r → post (hs_en r)) (ee : e' = nI e := by rfl) (eq : q' = nI q := by rfl) : wpX_first post ((nI st), K, A, (hs_A sz), (hs_A hp), (hs_A pl), (hs_A pr), (hs_A pc), (hs_A pn), (hs_A pb), (hs_A rF), (hs_A rI), (hs_A rN), (hs_A rU), (hs_A rC), (hs_A rX), (hs_A rP), (hs_A rD), (hs_A gF), (hs_A gC), (hs_A gL), (hs_A gR), (hs_A gP), (hs_A gD), (hs_A gM), (hs_A gO), (hs_A lr), (hs_A ll), (hs_A lR), (hs_A lp), (hs_A lk), (hs_A wn), (hs_A sk)) e' q' := by
  subst ee; subst eq
  unfold wpX_first
  dsimp only
  refine hx_E1 he (br_f (by decide) (hx_Q1 hq (br_f (by decide) ?_)))
  refine hs_firstOf e q he hq hE hz (fun r hr => ?_)
  have r24 := hs_min_24 hr
  have := hpost r hr
  unfold hs_en at this
  refine pk_eq r 24 (fun h => ?_) (fun h => ?_)
  · rw [if_pos h] at this; exact this
  · rw [if_neg h] at this; exact this
end
end
section
/-! the constructors -/
section
variable {st : Nat} {K A : Nat → Int32} {sz hp pl pr pc pn pb rF rI rN rU rC rX rP rD gF gC gL gR gP gD gM gO lr ll lR lp lk wn sk : Nat → Nat}
theorem hi_3 {post : SX → Prop} (hpost : ∀ wn', (∀ j, j < 256 → wn' j = 24) → post ((nI st), K, A, (hs_A sz), (hs_A hp), (hs_A pl), (hs_A pr), (hs_A pc), (hs_A pn), (hs_A pb), (hs_A rF), (hs_A rI), (hs_A rN), (hs_A (hs_s rU 24 1)), (hs_A rC), (hs_A rX), (hs_A rP), (hs_A rD), (hs_A gF), (hs_A gC), (hs_A gL), (hs_A gR), (hs_A gP), (hs_A gD), (hs_A gM), (hs_A gO), (hs_A lr), (hs_A ll), (hs_A lR), (hs_A lp), (hs_A lk), (hs_A wn'), (hs_A sk))) : ∀ (d i : Nat) (wn : Nat → Nat), i + d = 256 → (∀ j, j < i → wn j = 24) → wX_init_335 post (nI st) (d + 1) (nI i) K A (hs_A sz) (hs_A hp) (hs_A pl) (hs_A pr) (hs_A pc) (hs_A pn) (hs_A pb) (hs_A rF) (hs_A rI) (hs_A rN) (hs_A rU) (hs_A rC) (hs_A rX) (hs_A rP) (hs_A rD) (hs_A gF) (hs_A gC) (hs_A gL) (hs_A gR) (hs_A gP) (hs_A gD) (hs_A gM) (hs_A gO) (hs_A lr) (hs_A ll) (hs_A lR) (hs_A lp) (hs_A lk) (hs_A wn) (hs_A sk) := by
  intro d
  induction d with
  | zero =>
    intro i wn hi h
    have : i = 256 := by omega
    subst this
    rw [wX_init_335]
    refine br_t (by decide) ?_
    refine nm_r (e' := hs_A (hs_s rU 24 1)) ?_ (hpost wn h)
    have : vp_nar .boolean 1 = nI 1 := rfl
    rw [this, hs_up]
  | succ d ih =>
    intro i wn hi h
    rw [wX_init_335]
    refine pk_le 256 i (fun h => by omega) (fun _ => ?_)
    refine hs_wn i 24 (by omega) (by omega) (nm_r (nI_1 _) (ih (i + 1) _ (by omega) (fun j hj => ?_)))
    by_cases e : j = i
    · rw [hs_se e]
    · rw [hs_sn e]; exact h j (by omega)
theorem hi_2 {post : SX → Prop} (hpost : ∀ pr' rF' gF' lr' wn', (∀ q, q < 4 → pr' q = 24 ∧ rF' q = 24 ∧ gF' q = 24 ∧ lr' q = 24 ∧ lr' (4 + q) = 24) → (∀ j, j < 256 → wn' j = 24) → post ((nI st), K, A, (hs_A sz), (hs_A hp), (hs_A pl), (hs_A pr'), (hs_A pc), (hs_A pn), (hs_A pb), (hs_A rF'), (hs_A rI), (hs_A rN), (hs_A (hs_s rU 24 1)), (hs_A rC), (hs_A rX), (hs_A rP), (hs_A rD), (hs_A gF'), (hs_A gC), (hs_A gL), (hs_A gR), (hs_A gP), (hs_A gD), (hs_A gM), (hs_A gO), (hs_A lr'), (hs_A ll), (hs_A lR), (hs_A lp), (hs_A lk), (hs_A wn'), (hs_A sk))) : ∀ (d i : Nat) (pr rF gF lr : Nat → Nat), i + d = 4 → (∀ q, q < i → pr q = 24 ∧ rF q = 24 ∧ gF q = 24 ∧ lr q = 24 ∧ lr (4 + q) = 24) → wX_init_280 post (nI st) (d + 1) (nI i) K A (hs_A sz) (hs_A hp) (hs_A pl) (hs_A pr) (hs_A pc) (hs_A pn) (hs_A pb) (hs_A rF) (hs_A rI) (hs_A rN) (hs_A rU) (hs_A rC) (hs_A rX) (hs_A rP) (hs_A rD) (hs_A gF) (hs_A gC) (hs_A gL) (hs_A gR) (hs_A gP) (hs_A gD) (hs_A gM) (hs_A gO) (hs_A lr) (hs_A ll) (hs_A lR) (hs_A lp) (hs_A lk) (hs_A wn) (hs_A sk) := by
  intro d
  induction d with
  | zero =>
    intro i pr rF gF lr hi h
    have : i = 4 := by omega
    subst this
    rw [wX_init_280]
    refine br_t (by decide) ⟨257, ?_⟩
    exact hi_3 (fun wn' hw => hpost pr rF gF lr wn' h hw) 256 0 wn (by omega) (fun j hj => by omega)
  | succ d ih =>
    intro i pr rF gF lr hi h
    rw [wX_init_280]
    refine pk_le 4 i (fun h => by omega) (fun _ => ?_)
    refine hs_wn i 24 (by omega) (by omega) (hs_wn i 24 (by omega) (by omega) (hs_wn i 24 (by omega) (by omega) (hs_wn i 24 (by omega) (by omega) (hs_wn (4 + i) 24 (by omega) (by omega) ?_ (nI_add 4 i)))))
    refine nm_r (nI_1 _) (ih (i + 1) _ _ _ _ (by omega) (fun j hj => ?_))
    by_cases e : j = i
    · rw [e, hs_ss, hs_ss, hs_ss, hs_sn (by omega), hs_ss, hs_ss]; exact ⟨rfl, rfl, rfl, rfl, rfl⟩
    · obtain ⟨a1, a2, a3, a4, a5⟩ := h j (by omega)
      rw [hs_sn e, hs_sn e, hs_sn e, hs_sn (by omega), hs_sn e, hs_sn (by omega), hs_sn (by omega)]
      exact ⟨a1, a2, a3, a4, a5⟩
theorem hi_1 {post : SX → Prop} (hpost : ∀ A' pr' rF' gF' lr' wn', (∀ x, x < 24 → A' x = -1) → (∀ q, q < 4 → pr' q = 24 ∧ rF' q = 24 ∧ gF' q = 24 ∧ lr' q = 24 ∧ lr' (4 + q) = 24) → (∀ j, j < 256 → wn' j = 24) → post ((nI st), K, A', (hs_A sz), (hs_A hp), (hs_A pl), (hs_A pr'), (hs_A pc), (hs_A pn), (hs_A pb), (hs_A rF'), (hs_A rI), (hs_A rN), (hs_A (hs_s rU 24 1)), (hs_A rC), (hs_A rX), (hs_A rP), (hs_A rD), (hs_A gF'), (hs_A gC), (hs_A gL), (hs_A gR), (hs_A gP), (hs_A gD), (hs_A gM), (hs_A gO), (hs_A lr'), (hs_A ll), (hs_A lR), (hs_A lp), (hs_A lk), (hs_A wn'), (hs_A sk))) : ∀ (d i : Nat) (A : Nat → Int32), i + d = 24 → (∀ x, x < i → A x = -1) → wX_init_259 post (nI st) (d + 1) (nI i) K A (hs_A sz) (hs_A hp) (hs_A pl) (hs_A pr) (hs_A pc) (hs_A pn) (hs_A pb) (hs_A rF) (hs_A rI) (hs_A rN) (hs_A rU) (hs_A rC) (hs_A rX) (hs_A rP) (hs_A rD) (hs_A gF) (hs_A gC) (hs_A gL) (hs_A gR) (hs_A gP) (hs_A gD) (hs_A gM) (hs_A gO) (hs_A lr) (hs_A ll) (hs_A lR) (hs_A lp) (hs_A lk) (hs_A wn) (hs_A sk) := by
  intro d
  induction d with
  | zero =>
    intro i A hi h
    have : i = 24 := by omega
    subst this
    rw [wX_init_259]
    refine br_t (by decide) ⟨5, ?_⟩
    exact hi_2 (fun pr' rF' gF' lr' wn' h1 h2 => hpost A pr' rF' gF' lr' wn' h h1 h2) 4 0 pr rF gF lr (by omega) (fun j hj => by omega)
  | succ d ih =>
    intro i A hi h
    rw [wX_init_259]
    refine pk_le 24 i (fun h => by omega) (fun _ => ?_)
    refine hs_wr i (by omega) hs_m1b (nm_r (nI_1 _) (ih (i + 1) _ (by omega) (fun j hj => ?_)))
    by_cases e : j = i
    · rw [e, pk_us]
    · rw [pk_un e]; exact h j (by omega)
end
theorem hs_J0 {K A : Nat → Int32} {pr rF gF lr wn : Nat → Nat} (hK : K = hs_A (fun _ => 0)) (hA : ∀ x, x < 24 → A x = -1) (h : ∀ q, q < 4 → pr q = 24 ∧ rF q = 24 ∧ gF q = 24 ∧ lr q = 24 ∧ lr (4 + q) = 24) (hw : ∀ j, j < 256 → wn j = 24) : hs_J K A (fun _ => 0) (fun _ => 0) (fun _ => 0) (fun _ => 0) pr (fun _ => 0) (fun _ => 0) (fun _ => 0) rF (fun _ => 0) (fun _ => 0) (hs_s (fun _ => 0) 24 1) (fun _ => 0) (fun _ => 0) (fun _ => 0) (fun _ => 0) gF (fun _ => 0) (fun _ => 0) (fun _ => 0) (fun _ => 0) (fun _ => 0) (fun _ => 0) lr (fun _ => 0) (fun _ => 0) (fun _ => 0) (fun _ => 0) wn := by
  have ct0 : ∀ q, hs_ct (fun _ => 0) q = 0 := fun q => hs_cn_0 (fun x _ => by simp)
  have nT : ∀ z, ¬ hs_T (fun _ => 0) z := fun z h => h.2 rfl
  have nU : ∀ z, ¬ h2_U (hs_s (fun _ => 0) 24 1) z := fun z h => by
    have h1 := h.1
    have h2 := h.2
    rw [hs_sn (by omega)] at h2
    exact absurd h2 (by decide)
  have hF : ∀ (R : Nat → Prop) (par : Nat → Nat), hs_F K (fun _ => 0) (hs_T (fun _ => 0)) R par := fun R par => ⟨fun z hz => absurd hz (nT z), fun c tc => absurd tc (nT c)⟩
  have h4 : ∀ (bs : Nat) (ro : Nat → Nat), (∀ q, q < 4 → ro q = 24) → h4_I bs K (fun _ => 0) ro (fun _ => 0) (fun _ => 0) (fun _ => 0) (fun _ => 0) := fun bs ro hr => ⟨fun q hq => Or.inl (hr q hq), ⟨fun _ => 0, fun _ => 0, fun _ => 0, hF _ _, fun x tx => absurd tx (nT x), fun x tx => absurd tx (nT x), fun _ => ⟨rfl, fun x tx => absurd tx (nT x)⟩⟩, fun x tx => absurd tx (nT x)⟩
  refine ⟨fun x hx => ?_, fun x => Nat.zero_le _, fun x => ⟨fun hx => ?_, fun _ => rfl⟩, fun q hq => (ct0 q).symm, ?_, ?_, ?_, ?_, ?_, ?_, ?_⟩
  · rw [hA x hx]
    show (-1 : Int32) = nI 0 - 1
    decide
  · rw [hK]
    have : (hs_A (fun _ => 0) x).toInt = 0 := by decide +revert
    omega
  · refine ⟨fun q hq => ⟨by rw [ct0]; omega, fun i hi => ?_, fun x hx e => ?_⟩, fun q hq j hj hjn => ?_⟩
    · rw [ct0] at hi; omega
    · have e' : 0 = q + 1 := e
      omega
    · rw [ct0] at hjn; omega
  · exact ⟨fun q hq => Or.inl (h q hq).1, fun _ => 0, fun _ => [], hF _ _, fun x tx => absurd tx (nT x)⟩
  · refine ⟨⟨fun n hn => ?_, hs_ss, fun n un => absurd un (nU n), fun x hx e => absurd rfl e⟩, ⟨fun n un => absurd un (nU n), fun c uc => absurd uc (nU c)⟩, fun c uc => absurd uc (nU c), fun q hq => ?_⟩
    · rw [hs_sn (by omega)]; omega
    · exact ⟨[], (h q hq).2.1, trivial, List.nodup_nil, fun c => ⟨fun hc => absurd hc (by simp), fun hc => absurd hc.1 (nU c)⟩, trivial⟩
  · exact ⟨⟨hF _ _, fun x tx => absurd tx (nT x), fun x tx => absurd tx (nT x), fun x tx => absurd tx (nT x), fun x tx => absurd tx (nT x)⟩, fun a ta => absurd ta (nT a), fun q hq => Or.inl ⟨(h q hq).2.2.1, fun c tc => absurd tc (nT c)⟩⟩
  · exact h4 0 _ (fun q hq => by rw [Nat.zero_add]; exact (h q hq).2.2.2.1)
  · exact h4 25 _ (fun q hq => (h q hq).2.2.2.2)
  · intro q hq i h1 h2
    exact Or.inl ⟨hw _ (by omega), fun x _ _ e => by
      have e' : 0 = q + 1 := e
      omega⟩
theorem i_vc0 : wpX_init (fun u => wpY_init (fun v => i_Rel 0 u v)) := by
  unfold wpX_init wpY_init
  refine ⟨25, ?_⟩
  have e0 : (fun _ => 0 : Nat → Int32) = hs_A (fun _ => 0) := rfl
  rw [e0]
  refine hi_1 (st := 0) (fun A' pr' rF' gF' lr' wn' h1 h2 h3 => ?_) 24 0 _ (by omega) (fun x hx => by omega)
  exact hs_mk (Q := fun _ => 0) (hs_J0 rfl h1 h2 h3)
end
section
/-! the calls that only read -/
theorem hs_rel {k st : Nat} {K A : Nat → Int32} {Q sz hp pl pr pc pn pb rF rI rN rU rC rX rP rD gF gC gL gR gP gD gM gO lr ll lR lp lk wn sk : Nat → Nat} (h : hs_J K A Q sz hp pl pr pc pn pb rF rI rN rU rC rX rP rD gF gC gL gR gP gD gM lr ll lR lp lk wn) : i_Rel k ((nI st), K, A, (hs_A sz), (hs_A hp), (hs_A pl), (hs_A pr), (hs_A pc), (hs_A pn), (hs_A pb), (hs_A rF), (hs_A rI), (hs_A rN), (hs_A rU), (hs_A rC), (hs_A rX), (hs_A rP), (hs_A rD), (hs_A gF), (hs_A gC), (hs_A gL), (hs_A gR), (hs_A gP), (hs_A gD), (hs_A gM), (hs_A gO), (hs_A lr), (hs_A ll), (hs_A lR), (hs_A lp), (hs_A lk), (hs_A wn), (hs_A sk)) (hs_A Q, K) := hs_mk h
theorem hs_A0 {A : Nat → Int32} {Q : Nat → Nat} {x : Nat} (h : A x = nI (Q x) - 1) (h4 : Q x ≤ 4) : 0 ≤ A x ↔ Q x ≠ 0 := by
  rw [h]
  have : ∀ j, j ≤ 4 → (0 ≤ nI j - 1 ↔ j ≠ 0) := by decide
  exact this _ h4
theorem i_vc_first {k : Nat} {u : SX} {v : SY} (I : i_Rel k u v) (hk : k + 3 ≤ 1536) (v1 : Int32) (v2 : Int32) : wpX_first (fun r => wpY_first (fun r' => r' = r ∧ i_Rel (k + 3) u v) v v1 v2) u v1 v2 := by
  refine hs_el (P := fun u v => wpX_first (fun r => wpY_first (fun r' => r' = r ∧ i_Rel (k + 3) u v) v v1 v2) u v1 v2) I ?_
  intro st K A Q sz hp pl pr pc pn pb rF rI rN rU rC rX rP rD gF gC gL gR gP gD gM gO lr ll lR lp lk wn sk hJ
  have R := hs_rel (k := k + 3) (st := st) (gO := gO) (sk := sk) hJ
  obtain ⟨hA, hQ4, hKk, hz, hE⟩ := hJ
  have bad : (v1 < 0 ∨ nI 7 ≤ v1) ∨ (v2 < 0 ∨ nI 4 ≤ v2) → wpY_first (fun r' => r' = -1000 ∧ i_Rel (k + 3) ((nI st), K, A, (hs_A sz), (hs_A hp), (hs_A pl), (hs_A pr), (hs_A pc), (hs_A pn), (hs_A pb), (hs_A rF), (hs_A rI), (hs_A rN), (hs_A rU), (hs_A rC), (hs_A rX), (hs_A rP), (hs_A rD), (hs_A gF), (hs_A gC), (hs_A gL), (hs_A gR), (hs_A gP), (hs_A gD), (hs_A gM), (hs_A gO), (hs_A lr), (hs_A ll), (hs_A lR), (hs_A lp), (hs_A lk), (hs_A wn), (hs_A sk)) (hs_A Q, K)) (hs_A Q, K) v1 v2 := by
    intro h
    unfold wpY_first
    dsimp only
    refine br_c (fun _ => ⟨rfl, R⟩) (fun h1 => br_c (fun _ => ⟨rfl, R⟩) (fun h2 => ?_))
    have h3 : v2 < 0 ∨ nI 4 ≤ v2 := by
      rcases h with (h | h) | h
      · exact absurd h h1
      · exact absurd (hs_lt_n (n := 6) (by omega) h).2 h2
      · exact h
    exact hy_Q0 h3 (br_t rfl ⟨rfl, R⟩)
  by_cases c1 : v1 < 0 ∨ nI 7 ≤ v1
  · unfold wpX_first
    dsimp only
    exact hx_E0 c1 (br_t rfl (bad (Or.inl c1)))
  · obtain ⟨e, he, rfl⟩ : ∃ j, j < 7 ∧ v1 = nI j := by
      rcases pk_ix v1 (n := 7) (by decide) with h | h | h
      · exact absurd (Or.inl h) c1
      · exact absurd (Or.inr h) c1
      · exact h
    by_cases c2 : v2 < 0 ∨ nI 4 ≤ v2
    · unfold wpX_first
      dsimp only
      exact hx_E1 he (br_f (by decide) (hx_Q0 c2 (br_t rfl (bad (Or.inr c2)))))
    · obtain ⟨q, hq, rfl⟩ : ∃ j, j < 4 ∧ v2 = nI j := by
        rcases pk_ix v2 (n := 4) (by decide) with h | h | h
        · exact absurd (Or.inl h) c2
        · exact absurd (Or.inr h) c2
        · exact h
      refine hs_first e q he hq hE hz (fun r hr => ?_)
      unfold wpY_first
      dsimp only
      refine br_f (nI_pos (by omega)) (pk_lt 6 e (fun h => by omega) (fun _ => ?_))
      refine hy_Q1 hq (br_f (by decide) ?_)
      refine hy_min hQ4 hq (fun r' hr' => ⟨?_, R⟩)
      rw [hs_min_u hr' hr]
/-! the reference's size -/
theorem hy_size0 {post : Int32 → Prop} {a b : Nat → Int32} {x : Int32} (h : x < 0 ∨ nI 4 ≤ x) (hp : post (-1000)) : wpY_size post (a, b) x := by
  unfold wpY_size
  dsimp only
  have key : ∀ d i c, i + d = 24 → wY_size_4 post x a b (d + 1) c (nI i) := by
    intro d
    induction d with
    | zero =>
      intro i c hi
      have : i = 24 := by omega
      subst this
      rw [wY_size_4]
      exact br_t (by decide) (hy_Q0 h (br_t rfl hp))
    | succ d ih =>
      intro i c hi
      rw [wY_size_4]
      refine pk_le 24 i (fun h => by omega) (fun _ => hs_in i (by omega) ?_)
      exact br_c (fun _ => nm_e (nm_r (nI_1 _) (ih (i + 1) _ (by omega)))) (fun _ => nm_r (nI_1 _) (ih (i + 1) _ (by omega)))
  exact ⟨_, key 24 0 0 (by omega)⟩
theorem hy_size1 {post : Int32 → Prop} {Q : Nat → Nat} {b : Nat → Int32} {q : Nat} {x : Int32} (hQ4 : ∀ x, Q x ≤ 4) (hq : q < 4) (hp : post (nI (hs_ct Q q))) (ex : x = nI q := by rfl) : wpY_size post (hs_A Q, b) x := by
  subst ex
  unfold wpY_size
  dsimp only
  have key : ∀ d i c, i + d = 24 → c = hs_cn (fun x => Q x == q + 1) i → wY_size_4 post (nI q) (hs_A Q) b (d + 1) (nI c) (nI i) := by
    intro d
    induction d with
    | zero =>
      intro i c hi hc
      have : i = 24 := by omega
      subst this
      rw [wY_size_4]
      refine br_t (by decide) (hy_Q1 hq (br_f (by decide) ?_))
      rw [hc]; exact hp
    | succ d ih =>
      intro i c hi hc
      have q4 := hQ4 i
      rw [wY_size_4]
      refine pk_le 24 i (fun h => by omega) (fun _ => hs_in i (by omega) ?_)
      refine pk_eq (Q i) (q + 1) (fun e => ?_) (fun e => ?_) (hs_rd i (by omega)) (nI_1 q)
      · refine nm_r (nI_1 _) (nm_r (nI_1 _) (ih (i + 1) _ (by omega) ?_))
        unfold hs_cn
        rw [if_pos (by simp [e]), hc]
      · refine nm_r (nI_1 _) (ih (i + 1) _ (by omega) ?_)
        unfold hs_cn
        rw [if_neg (by simp [e]), hc]; rfl
  exact ⟨_, key 24 0 0 (by omega) rfl⟩
theorem hs_qc (x : Int32) : (x < 0 ∨ nI 4 ≤ x) ∨ ∃ q, q < 4 ∧ x = nI q := by
  rcases pk_ix x (n := 4) (by decide) with h | h | h
  · exact Or.inl (Or.inl h)
  · exact Or.inl (Or.inr h)
  · exact Or.inr h
theorem hs_ic (x : Int32) : (x < 0 ∨ nI 24 ≤ x) ∨ ∃ q, q < 24 ∧ x = nI q := by
  rcases pk_ix x (n := 24) (by decide) with h | h | h
  · exact Or.inl (Or.inl h)
  · exact Or.inl (Or.inr h)
  · exact Or.inr h
theorem i_vc_size {k : Nat} {u : SX} {v : SY} (I : i_Rel k u v) (hk : k + 3 ≤ 1536) (v1 : Int32) : wpX_size (fun r => wpY_size (fun r' => r' = r ∧ i_Rel (k + 3) u v) v v1) u v1 := by
  refine hs_el (P := fun u v => wpX_size (fun r => wpY_size (fun r' => r' = r ∧ i_Rel (k + 3) u v) v v1) u v1) I ?_
  intro st K A Q sz hp pl pr pc pn pb rF rI rN rU rC rX rP rD gF gC gL gR gP gD gM gO lr ll lR lp lk wn sk hJ
  have R := hs_rel (k := k + 3) (st := st) (gO := gO) (sk := sk) hJ
  obtain ⟨hA, hQ4, hKk, hz, hE⟩ := hJ
  unfold wpX_size
  dsimp only
  rcases hs_qc v1 with h | ⟨q, hq, rfl⟩
  · exact hx_Q0 h (br_t rfl (hy_size0 h ⟨rfl, R⟩))
  · refine hx_Q1 hq (br_f (by decide) (hs_in q hq ?_))
    refine hy_size1 hQ4 hq ⟨?_, R⟩
    rw [hs_rd q (by omega), hz q hq]
theorem i_vc_keyOf {k : Nat} {u : SX} {v : SY} (I : i_Rel k u v) (hk : k + 3 ≤ 1536) (v1 : Int32) : wpX_keyOf (fun r => wpY_keyOf (fun r' => r' = r ∧ i_Rel (k + 3) u v) v v1) u v1 := by
  refine hs_el (P := fun u v => wpX_keyOf (fun r => wpY_keyOf (fun r' => r' = r ∧ i_Rel (k + 3) u v) v v1) u v1) I ?_
  intro st K A Q sz hp pl pr pc pn pb rF rI rN rU rC rX rP rD gF gC gL gR gP gD gM gO lr ll lR lp lk wn sk hJ
  have R := hs_rel (k := k + 3) (st := st) (gO := gO) (sk := sk) hJ
  obtain ⟨hA, hQ4, hKk, hz, hE⟩ := hJ
  unfold wpX_keyOf wpY_keyOf
  dsimp only
  rcases hs_ic v1 with h | ⟨x, hx, rfl⟩
  · exact hx_I0 h (br_t rfl (hy_I0 h (br_t rfl ⟨rfl, R⟩)))
  · have q4 := hQ4 x
    have cx : (nI x).toNatClampNeg = x := nI_clamp (by omega)
    refine hx_I1 hx (br_f (by decide) (hs_in x hx ?_))
    rw [cx]
    refine br_c (fun h => hs_in x hx ?_) (fun h => ?_)
    · have q0 := (hs_A0 (hA x hx) q4).1 h
      refine hy_I1 hx (br_f (by decide) (hs_in x hx ?_))
      exact pk_eq (Q x) 0 (fun e => absurd e q0) (fun _ => hs_in x hx ⟨rfl, R⟩)
    · have q0 : Q x = 0 := by
        apply Classical.byContradiction
        intro h'
        exact h ((hs_A0 (hA x hx) q4).2 h')
      refine hy_I1 hx (br_f (by decide) (hs_in x hx ?_))
      exact pk_eq (Q x) 0 (fun _ => ⟨rfl, R⟩) (fun e => absurd q0 e)
theorem i_vc_queueOf {k : Nat} {u : SX} {v : SY} (I : i_Rel k u v) (hk : k + 3 ≤ 1536) (v1 : Int32) : wpX_queueOf (fun r => wpY_queueOf (fun r' => r' = r ∧ i_Rel (k + 3) u v) v v1) u v1 := by
  refine hs_el (P := fun u v => wpX_queueOf (fun r => wpY_queueOf (fun r' => r' = r ∧ i_Rel (k + 3) u v) v v1) u v1) I ?_
  intro st K A Q sz hp pl pr pc pn pb rF rI rN rU rC rX rP rD gF gC gL gR gP gD gM gO lr ll lR lp lk wn sk hJ
  have R := hs_rel (k := k + 3) (st := st) (gO := gO) (sk := sk) hJ
  obtain ⟨hA, hQ4, hKk, hz, hE⟩ := hJ
  unfold wpX_queueOf wpY_queueOf
  dsimp only
  rcases hs_ic v1 with h | ⟨x, hx, rfl⟩
  · exact hx_I0 h (br_t rfl (hy_I0 h (br_t rfl ⟨rfl, R⟩)))
  · have q4 := hQ4 x
    have cx : (nI x).toNatClampNeg = x := nI_clamp (by omega)
    refine hx_I1 hx (br_f (by decide) (hs_in x hx ?_))
    rw [cx]
    refine br_c (fun h => hs_in x hx ?_) (fun h => ?_)
    · have q0 := (hs_A0 (hA x hx) q4).1 h
      refine hy_I1 hx (br_f (by decide) (hs_in x hx ?_))
      exact pk_eq (Q x) 0 (fun e => absurd e q0) (fun _ => hs_in x hx ⟨by rw [hA x hx]; rfl, R⟩)
    · have q0 : Q x = 0 := by
        apply Classical.byContradiction
        intro h'
        exact h ((hs_A0 (hA x hx) q4).2 h')
      refine hy_I1 hx (br_f (by decide) (hs_in x hx ?_))
      exact pk_eq (Q x) 0 (fun _ => ⟨rfl, R⟩) (fun e => absurd q0 e)
theorem hs_two {Q : Nat → Nat} {q x y : Nat} (hx : x < 24) (hy : y < 24) (xy : x ≠ y) (ex : Q x = q + 1) (ey : Q y = q + 1) : 2 ≤ hs_ct Q q := by
  have h1 := hs_ct_r (p := q) hx ex
  rw [hs_ss] at h1
  have h2 := hs_ct_p (Q := hs_s Q x 0) (q := q) hy (by rw [hs_sn (Ne.symm xy)]; exact ey)
  omega
theorem i_vc_second {k : Nat} {u : SX} {v : SY} (I : i_Rel k u v) (hk : k + 3 ≤ 1536) (v1 : Int32) : wpX_second (fun r => wpY_second (fun r' => r' = r ∧ i_Rel (k + 3) u v) v v1) u v1 := by
  refine hs_el (P := fun u v => wpX_second (fun r => wpY_second (fun r' => r' = r ∧ i_Rel (k + 3) u v) v v1) u v1) I ?_
  intro st K A Q sz hp pl pr pc pn pb rF rI rN rU rC rX rP rD gF gC gL gR gP gD gM gO lr ll lR lp lk wn sk hJ
  have R := hs_rel (k := k + 3) (st := st) (gO := gO) (sk := sk) hJ
  obtain ⟨hA, hQ4, hKk, hz, hE⟩ := hJ
  unfold wpX_second wpY_second
  dsimp only
  rcases hs_qc v1 with h | ⟨q, hq, rfl⟩
  · exact hx_Q0 h (br_t rfl (hy_Q0 h (br_t rfl ⟨rfl, R⟩)))
  · have c24 := hs_ct_24 (Q := Q) (q := q)
    have ez : hs_A sz (nI q).toNatClampNeg = nI (hs_ct Q q) := by rw [hs_rd q (by omega), hz q hq]
    have f0 := h0_first hE.1 hq
    obtain ⟨hC, hO⟩ := hE.1
    have y2 : ∀ X : Int32, (∀ r0, hs_min K Q q r0 → ∀ r, hs_mo K Q q r0 24 r → hs_en r = X) → wpY_least (fun r_5 => wpY_least (fun r_8 => r_8 = X ∧ i_Rel (k + 3) ((nI st), K, A, (hs_A sz), (hs_A hp), (hs_A pl), (hs_A pr), (hs_A pc), (hs_A pn), (hs_A pb), (hs_A rF), (hs_A rI), (hs_A rN), (hs_A rU), (hs_A rC), (hs_A rX), (hs_A rP), (hs_A rD), (hs_A gF), (hs_A gC), (hs_A gL), (hs_A gR), (hs_A gP), (hs_A gD), (hs_A gM), (hs_A gO), (hs_A lr), (hs_A ll), (hs_A lR), (hs_A lp), (hs_A lk), (hs_A wn), (hs_A sk)) (hs_A Q, K)) (hs_A Q, K) (nI q) r_5) (hs_A Q, K) (nI q) (-3000) := by
      intro X hX
      refine hy_min hQ4 hq (fun r0 h0 => ?_)
      have r24 := hs_min_24 h0
      refine hy_least (o := r0) hQ4 hq (fun i hi => ?_) (fun r hr => ⟨hX r0 h0 r hr, R⟩)
      unfold hs_en
      by_cases e : r0 = 24
      · rw [if_pos e, e]; exact hs_w3 i hi
      · rw [if_neg e, nI_eq (by omega) (by omega)]
    refine hx_Q1 hq (br_f (by decide) (hs_in q hq ?_))
    refine pk_le 2 (hs_ct Q q) (fun h2 => ?_) (fun h2 => ?_) rfl ez
    · obtain ⟨s1, s2, s3⟩ := h0_second hE.1 hq h2
      have m0 := f0.2 (by omega)
      obtain ⟨a1, a2, a3⟩ := (hC q hq).2.1 1 (by omega)
      have uq : ∀ r0, hs_min K Q q r0 → ∀ r, hs_mo K Q q r0 24 r → ∀ r1, hs_min2 K Q q (hp (q * 24)) r1 → hs_en r = nI r1 := by
        intro r0 h0 r hr r1 h1
        have e0 : r0 = hp (q * 24) := hs_min_u h0 m0
        subst e0
        obtain ⟨b1, b2, b3, b4⟩ := h1
        have er : r = r1 := by
          rcases hr with ⟨o1, o2⟩ | ⟨o1, o2, o3, o4, o5⟩
          · exact absurd (o2 r1 b1 b2) b3
          · by_cases e : r = r1
            · exact e
            · exact absurd (o5 r1 b1 b2 b3 (Ne.symm e)) (hs_bef_as (b4 r o2 o3 o4 e))
        rw [er]; unfold hs_en; rw [if_neg (by omega)]
      have e1 : nI q * 24 + 1 = nI (q * 24 + 1) := hs_q24 q 1
      have e2 : nI q * 24 + 2 = nI (q * 24 + 2) := hs_q24 q 2
      refine hs_r (q * 24 + 1) (by omega) ?_ e1
      refine hs_in q hq ?_
      refine pk_le (hs_ct Q q) 2 (fun h3 => ?_) (fun h3 => ?_) ez rfl
      · exact hy_Q1 hq (br_f (by decide) (y2 _ (fun r0 h0 r hr => uq r0 h0 r hr _ (s1 (by omega)))))
      · obtain ⟨b1, b2, b3⟩ := (hC q hq).2.1 2 (by omega)
        refine hs_in (q * 24 + 2) (by omega) ?_ e2
        refine hs_cbb (hp (q * 24 + 2)) (hp (q * 24 + 1)) b1 a1 (fun hb => ?_) (fun hb => ?_) (hs_rd _ (by omega) e2) rfl
        · refine hs_in (q * 24 + 2) (by omega) ?_ e2
          rw [hs_rd (q * 24 + 2) (by omega) e2]
          exact hy_Q1 hq (br_f (by decide) (y2 _ (fun r0 h0 r hr => uq r0 h0 r hr _ (s2 h3 hb))))
        · exact hy_Q1 hq (br_f (by decide) (y2 _ (fun r0 h0 r hr => uq r0 h0 r hr _ (s3 h3 hb))))
    · refine hy_Q1 hq (br_f (by decide) (y2 _ (fun r0 h0 r hr => ?_)))
      rcases hr with ⟨o1, o2⟩ | ⟨o1, o2, o3, o4, o5⟩
      · unfold hs_en; rw [if_pos o1]
      · exfalso
        rcases h0 with ⟨p1, p2⟩ | ⟨p1, p2, p3⟩
        · exact p2 r o2 o3
        · have := hs_two o2 p1 o4 o3 p2
          omega
theorem i_vc_agree {k : Nat} {u : SX} {v : SY} (I : i_Rel k u v) (hk : k + 3 ≤ 1536) (v1 : Int32) (v2 : Int32) : wpX_agree (fun r => wpY_agree (fun r' => r' = r ∧ i_Rel (k + 3) u v) v v1 v2) u v1 v2 := by
  refine hs_el (P := fun u v => wpX_agree (fun r => wpY_agree (fun r' => r' = r ∧ i_Rel (k + 3) u v) v v1 v2) u v1 v2) I ?_
  intro st K A Q sz hp pl pr pc pn pb rF rI rN rU rC rX rP rD gF gC gL gR gP gD gM gO lr ll lR lp lk wn sk hJ
  have R := hs_rel (k := k + 3) (st := st) (gO := gO) (sk := sk) hJ
  obtain ⟨hA, hQ4, hKk, hz, hE⟩ := hJ
  unfold wpX_agree
  dsimp only
  have ec : ∀ x : Int32, (x < 0 ∨ nI 7 ≤ x) ∨ ∃ q, q < 7 ∧ x = nI q := by
    intro x
    rcases pk_ix x (n := 7) (by decide) with h | h | h
    · exact Or.inl (Or.inl h)
    · exact Or.inl (Or.inr h)
    · exact Or.inr h
  have bad : (v1 < 0 ∨ nI 7 ≤ v1) ∨ (v2 < 0 ∨ nI 7 ≤ v2) → wpY_agree (fun r' => r' = 0 ∧ i_Rel (k + 3) ((nI st), K, A, (hs_A sz), (hs_A hp), (hs_A pl), (hs_A pr), (hs_A pc), (hs_A pn), (hs_A pb), (hs_A rF), (hs_A rI), (hs_A rN), (hs_A rU), (hs_A rC), (hs_A rX), (hs_A rP), (hs_A rD), (hs_A gF), (hs_A gC), (hs_A gL), (hs_A gR), (hs_A gP), (hs_A gD), (hs_A gM), (hs_A gO), (hs_A lr), (hs_A ll), (hs_A lR), (hs_A lp), (hs_A lk), (hs_A wn), (hs_A sk)) (hs_A Q, K)) (hs_A Q, K) v1 v2 := by
    intro h
    unfold wpY_agree
    dsimp only
    refine br_c (fun _ => ⟨rfl, R⟩) (fun h1 => br_c (fun _ => ⟨rfl, R⟩) (fun h2 => br_c (fun _ => ⟨rfl, R⟩) (fun h3 => br_c (fun _ => ⟨rfl, R⟩) (fun h4 => ?_))))
    exfalso
    rcases h with (h | h) | (h | h)
    · exact h1 h
    · exact h2 (hs_lt_n (n := 6) (by omega) h).2
    · exact h3 h
    · exact h4 (hs_lt_n (n := 6) (by omega) h).2
  rcases ec v1 with h | ⟨e, he, rfl⟩
  · exact hx_E0 h (br_t rfl (bad (Or.inl h)))
  · rcases ec v2 with h | ⟨o, ho, rfl⟩
    · exact hx_E1 he (br_f (by decide) (hx_E0 h (br_t rfl (bad (Or.inr h)))))
    · refine hx_E1 he (br_f (by decide) (hx_E1 ho (br_f (by decide) ⟨5, ?_⟩)))
      have key : ∀ d i, i + d = 4 → wX_agree_21 (fun r => wpY_agree (fun r' => r' = r ∧ i_Rel (k + 3) ((nI st), K, A, (hs_A sz), (hs_A hp), (hs_A pl), (hs_A pr), (hs_A pc), (hs_A pn), (hs_A pb), (hs_A rF), (hs_A rI), (hs_A rN), (hs_A rU), (hs_A rC), (hs_A rX), (hs_A rP), (hs_A rD), (hs_A gF), (hs_A gC), (hs_A gL), (hs_A gR), (hs_A gP), (hs_A gD), (hs_A gM), (hs_A gO), (hs_A lr), (hs_A ll), (hs_A lR), (hs_A lp), (hs_A lk), (hs_A wn), (hs_A sk)) (hs_A Q, K)) (hs_A Q, K) (nI e) (nI o)) (nI e) (nI o) (nI st) K A (hs_A sz) (hs_A hp) (hs_A pl) (hs_A pr) (hs_A pc) (hs_A pn) (hs_A pb) (hs_A rF) (hs_A rI) (hs_A rN) (hs_A rU) (hs_A rC) (hs_A rX) (hs_A rP) (hs_A rD) (hs_A gF) (hs_A gC) (hs_A gL) (hs_A gR) (hs_A gP) (hs_A gD) (hs_A gM) (hs_A gO) (hs_A lr) (hs_A ll) (hs_A lR) (hs_A lp) (hs_A lk) (hs_A wn) (hs_A sk) (d + 1) 1 (nI i) := by
        intro d
        induction d with
        | zero =>
          intro i hi
          have : i = 4 := by omega
          subst this
          rw [wX_agree_21]
          refine br_t (by decide) ⟨rfl, ?_⟩
          unfold wpY_agree
          dsimp only
          exact br_f (nI_pos (by omega)) (pk_lt 6 e (fun h => by omega) (fun _ => br_f (nI_pos (by omega)) (pk_lt 6 o (fun h => by omega) (fun _ => ⟨rfl, R⟩))))
        | succ d ih =>
          intro i hi
          rw [wX_agree_21]
          refine pk_le 4 i (fun h => by omega) (fun _ => ?_)
          refine hs_firstOf e i he (by omega) hE hz (fun r hr => br_f (by decide) ?_)
          refine hs_firstOf o i ho (by omega) hE hz (fun r' hr' => ?_)
          refine br_t (by rw [hs_min_u hr hr']) (nm_r (nI_1 _) (ih (i + 1) (by omega)))
      exact key 4 0 (by omega)
theorem i_vc_sound {k : Nat} {u : SX} {v : SY} (I : i_Rel k u v) (hk : k + 3 ≤ 1536) : wpX_sound (fun r u' => wpY_sound (fun r' => r' = r ∧ i_Rel (k + 3) u' v) v) u := by
  refine hs_el (P := fun u v => wpX_sound (fun r u' => wpY_sound (fun r' => r' = r ∧ i_Rel (k + 3) u' v) v) u) I ?_
  intro st K A Q sz hp pl pr pc pn pb rF rI rN rU rC rX rP rD gF gC gL gR gP gD gM gO lr ll lR lp lk wn sk hJ
  have R : ∀ st sk, i_Rel (k + 3) ((nI st), K, A, (hs_A sz), (hs_A hp), (hs_A pl), (hs_A pr), (hs_A pc), (hs_A pn), (hs_A pb), (hs_A rF), (hs_A rI), (hs_A rN), (hs_A rU), (hs_A rC), (hs_A rX), (hs_A rP), (hs_A rD), (hs_A gF), (hs_A gC), (hs_A gL), (hs_A gR), (hs_A gP), (hs_A gD), (hs_A gM), (hs_A gO), (hs_A lr), (hs_A ll), (hs_A lR), (hs_A lp), (hs_A lk), (hs_A wn), (hs_A sk)) (hs_A Q, K) := fun st sk => hs_rel (k := k + 3) (st := st) (gO := gO) (sk := sk) hJ
  obtain ⟨hA, hQ4, hKk, hz, i0, i1, i2, i3, i4, i5, i6⟩ := hJ
  unfold wpX_sound
  dsimp only
  have l0 : lk 24 = 0 := by
    obtain ⟨_, ⟨p, l, r, _, _, _, hk'⟩, _⟩ := i4
    exact (hk' rfl).1
  have e0 : hs_A lk 24 = 0 := by
    show nI (lk 24) = 0
    rw [l0]; rfl
  refine br_t e0 ⟨5, ?_⟩
  have key : ∀ d i st sk, i + d = 4 → wX_sound_18 (fun r u' => wpY_sound (fun r' => r' = r ∧ i_Rel (k + 3) u' (hs_A Q, K)) (hs_A Q, K)) (d + 1) 1 (nI i) (nI st) K A (hs_A sz) (hs_A hp) (hs_A pl) (hs_A pr) (hs_A pc) (hs_A pn) (hs_A pb) (hs_A rF) (hs_A rI) (hs_A rN) (hs_A rU) (hs_A rC) (hs_A rX) (hs_A rP) (hs_A rD) (hs_A gF) (hs_A gC) (hs_A gL) (hs_A gR) (hs_A gP) (hs_A gD) (hs_A gM) (hs_A gO) (hs_A lr) (hs_A ll) (hs_A lR) (hs_A lp) (hs_A lk) (hs_A wn) (hs_A sk) := by
    intro d
    induction d with
    | zero =>
      intro i st sk hi
      have : i = 4 := by omega
      subst this
      rw [wX_sound_18]
      exact br_t (by decide) ⟨rfl, rfl, R st sk⟩
    | succ d ih =>
      intro i st sk hi
      have hi4 : i < 4 := by omega
      rw [wX_sound_18]
      refine pk_le 4 i (fun h => by omega) (fun _ => br_f (by decide) ?_)
      refine h0_snd i hi4 i0 hA (hz i hi4) (br_f (by decide) ?_)
      refine h1_snd i hi4 i1 hA (hz i hi4) (fun st1 sk1 => ?_)
      dsimp only
      refine br_f (by decide) ?_
      refine h2_snd i hi4 i2 hA (hz i hi4) (fun st2 sk2 => ?_)
      dsimp only
      refine br_f (by decide) ?_
      unfold wX_sound_56
      refine br_f (by decide) ?_
      refine h3_snd i hi4 i3 hA (hz i hi4) (fun st3 sk3 => ?_)
      dsimp only
      refine br_f (by decide) ?_
      refine h4_snd 0 0 i (Or.inl ⟨rfl, rfl⟩) hi4 i4 hA (hz i hi4) (fun st4 sk4 => ?_)
      dsimp only
      refine br_f (by decide) ?_
      refine h4_snd 25 4 i (Or.inr ⟨rfl, rfl⟩) hi4 i5 hA (hz i hi4) (fun st5 sk5 => ?_)
      dsimp only
      exact br_f (by decide) (nm_r (nI_1 _) (ih (i + 1) st5 sk5 (by omega)))
  exact key 4 0 st sk (by omega)
end
section
/-! the calls that change one item -/
theorem hj_take {K A : Nat → Int32} {Q sz sz' hp pl pr pc pn pb rF rI rN rU rC rX rP rD gF gC gL gR gP gD gM lr ll lR lp lk wn hp' pl' pr' pc' pn' pb' rF' rI' rN' rU' rC' rX' rP' rD' gF' gC' gL' gR' gP' gD' gM' lr' ll' lR' lp' lk' wn' : Nat → Nat} {x : Nat} (h : hs_J K A Q sz hp pl pr pc pn pb rF rI rN rU rC rX rP rD gF gC gL gR gP gD gM lr ll lR lp lk wn) (hx : x < 24) (hE : hs_E K (hs_s Q x 0) hp' pl' pr' pc' pn' pb' rF' rI' rN' rU' rC' rX' rP' rD' gF' gC' gL' gR' gP' gD' gM' lr' ll' lR' lp' lk' wn') (hz : ∀ p, p < 4 → sz' p = hs_ct (hs_s Q x 0) p) : hs_J K (upd A x (-1)) (hs_s Q x 0) sz' hp' pl' pr' pc' pn' pb' rF' rI' rN' rU' rC' rX' rP' rD' gF' gC' gL' gR' gP' gD' gM' lr' ll' lR' lp' lk' wn' := by
  obtain ⟨hA, hQ4, hK, _, _⟩ := h
  refine ⟨fun z hz' => ?_, fun z => ?_, fun z => ⟨(hK z).1, fun h => ?_⟩, hz, hE⟩
  · by_cases e : z = x
    · rw [e, pk_us, hs_ss]; decide
    · rw [pk_un e, hs_sn e]; exact hA z hz'
  · by_cases e : z = x
    · rw [hs_se e]; omega
    · rw [hs_sn e]; exact hQ4 z
  · rw [hs_sn (by omega)]; exact (hK z).2 h
theorem hj_put {K A : Nat → Int32} {Q sz sz' hp' pl' pr' pc' pn' pb' rF' rI' rN' rU' rC' rX' rP' rD' gF' gC' gL' gR' gP' gD' gM' lr' ll' lR' lp' lk' wn' : Nat → Nat} {x q : Nat} (hA : ∀ z, z < 24 → z ≠ x → A z = nI (Q z) - 1) (hQ4 : ∀ z, z ≠ x → Q z ≤ 4) (hK : ∀ z, (z < 24 → -999 ≤ (K z).toInt ∧ (K z).toInt ≤ 999) ∧ (24 ≤ z → Q z = 0)) (hx : x < 24) (hq : q < 4) (hE : hs_E K (hs_s Q x (q + 1)) hp' pl' pr' pc' pn' pb' rF' rI' rN' rU' rC' rX' rP' rD' gF' gC' gL' gR' gP' gD' gM' lr' ll' lR' lp' lk' wn') (hz : ∀ p, p < 4 → sz' p = hs_ct (hs_s Q x (q + 1)) p) : hs_J K (upd A x (nI q)) (hs_s Q x (q + 1)) sz' hp' pl' pr' pc' pn' pb' rF' rI' rN' rU' rC' rX' rP' rD' gF' gC' gL' gR' gP' gD' gM' lr' ll' lR' lp' lk' wn' := by
  refine ⟨fun z hz' => ?_, fun z => ?_, fun z => ⟨(hK z).1, fun h => ?_⟩, hz, hE⟩
  · by_cases e : z = x
    · rw [e, pk_us, hs_ss, nI_pred]
    · rw [pk_un e, hs_sn e]; exact hA z hz' e
  · by_cases e : z = x
    · rw [hs_se e]; omega
    · rw [hs_sn e]; exact hQ4 z e
  · rw [hs_sn (by omega)]; exact (hK z).2 h
theorem hj_key {K : Nat → Int32} {Q : Nat → Nat} {x : Nat} {k : Int32} (hK : ∀ z, (z < 24 → -999 ≤ (K z).toInt ∧ (K z).toInt ≤ 999) ∧ (24 ≤ z → Q z = 0)) (h : hs_key k) : ∀ z, (z < 24 → -999 ≤ (upd K x k z).toInt ∧ (upd K x k z).toInt ≤ 999) ∧ (24 ≤ z → Q z = 0) := by
  intro z
  refine ⟨fun hz => ?_, (hK z).2⟩
  by_cases e : z = x
  · rw [e, pk_us]; exact h
  · rw [pk_un e]; exact (hK z).1 hz
/-- a queue's number by the item's entry -/
theorem hs_Aq {A : Nat → Int32} {Q : Nat → Nat} {x : Nat} (h : A x = nI (Q x) - 1) (h4 : Q x ≤ 4) (h0 : Q x ≠ 0) : ∃ q, q < 4 ∧ Q x = q + 1 ∧ A x = nI q := by
  refine ⟨Q x - 1, by omega, by omega, ?_⟩
  obtain ⟨j, hj⟩ : ∃ j, Q x = j + 1 := ⟨Q x - 1, by omega⟩
  rw [h, hj, nI_pred]; rfl
theorem i_vc_take {k : Nat} {u : SX} {v : SY} (I : i_Rel k u v) (hk : k + 3 ≤ 1536) (v1 : Int32) : wpX_take (fun r u' => wpY_take (fun r' v' => r' = r ∧ i_Rel (k + 3) u' v') v v1) u v1 := by
  refine hs_el (P := fun u v => wpX_take (fun r u' => wpY_take (fun r' v' => r' = r ∧ i_Rel (k + 3) u' v') v v1) u v1) I ?_
  intro st K A Q sz hp pl pr pc pn pb rF rI rN rU rC rX rP rD gF gC gL gR gP gD gM gO lr ll lR lp lk wn sk hJ
  have R := hs_rel (k := k + 3) (st := st) (gO := gO) (sk := sk) hJ
  have hJ0 := hJ
  obtain ⟨hA, hQ4, hKk, hz, hE⟩ := hJ
  unfold wpX_take
  dsimp only
  rcases hs_qc v1 with h | ⟨q, hq, rfl⟩
  · unfold wpX_first
    dsimp only
    refine hx_E1 (q := 3) (by omega) (br_f (by decide) (hx_Q0 h (br_t rfl (br_t (by decide) ?_))))
    unfold wpY_take
    dsimp only
    exact hy_Q0 h (br_t rfl ⟨rfl, R⟩)
  · refine hs_first 3 q (by omega) hq hE hz (fun r hr => ?_)
    have r24 := hs_min_24 hr
    rcases hr with ⟨h1, h2⟩ | ⟨h1, h2, h3⟩
    · have en : hs_en r = -3000 := by unfold hs_en; rw [if_pos h1]
      rw [en]
      refine br_t (by decide) ?_
      unfold wpY_take
      dsimp only
      refine hy_Q1 hq (br_f (by decide) (hy_min hQ4 hq (fun r' hr' => ?_)))
      have : r' = r := hs_min_u hr' (Or.inl ⟨h1, h2⟩)
      rw [this, en]
      exact br_t (by decide) ⟨rfl, R⟩
    · have en : hs_en r = nI r := by unfold hs_en; rw [if_neg (by omega)]
      rw [en]
      refine br_f (nI_pos (by omega)) ?_
      refine hs_takeOut q r hq h1 hE (hA r h1) hQ4 hz h2 (fun st' sz' hp' pl' pr' pc' pn' pb' rF' rI' rN' rU' rC' rX' rP' rD' gF' gC' gL' gR' gP' gD' gM' gO' lr' ll' lR' lp' lk' wn' sk' hE' hz' => ?_)
      dsimp only
      unfold wpY_take
      dsimp only
      refine hy_Q1 hq (br_f (by decide) (hy_min hQ4 hq (fun r' hr' => ?_)))
      have : r' = r := hs_min_u hr' (Or.inr ⟨h1, h2, h3⟩)
      rw [this, en]
      refine br_f (nI_pos (by omega)) ?_
      refine hs_wr r h1 (y' := nI 0) rfl ?_
      rw [hs_up]
      exact ⟨rfl, hs_rel (hj_take hJ0 h1 hE' hz')⟩
theorem i_vc_remove {k : Nat} {u : SX} {v : SY} (I : i_Rel k u v) (hk : k + 3 ≤ 1536) (v1 : Int32) : wpX_remove (fun r u' => wpY_remove (fun r' v' => r' = r ∧ i_Rel (k + 3) u' v') v v1) u v1 := by
  refine hs_el (P := fun u v => wpX_remove (fun r u' => wpY_remove (fun r' v' => r' = r ∧ i_Rel (k + 3) u' v') v v1) u v1) I ?_
  intro st K A Q sz hp pl pr pc pn pb rF rI rN rU rC rX rP rD gF gC gL gR gP gD gM gO lr ll lR lp lk wn sk hJ
  have R := hs_rel (k := k + 3) (st := st) (gO := gO) (sk := sk) hJ
  have hJ0 := hJ
  obtain ⟨hA, hQ4, hKk, hz, hE⟩ := hJ
  unfold wpX_remove
  dsimp only
  rcases hs_ic v1 with h | ⟨x, hx, rfl⟩
  · refine hx_I0 h (br_t rfl ?_)
    unfold wpY_remove wpY_queueOf
    dsimp only
    exact hy_I0 h (br_t rfl (br_t (by decide) ⟨rfl, R⟩))
  · have cx : (nI x).toNatClampNeg = x := nI_clamp (by omega)
    have q4 := hQ4 x
    refine hx_I1 hx (br_f (by decide) ⟨vp_in_nI hx (by decide), ?_⟩)
    by_cases h0 : Q x = 0
    · have e1 : A (nI x).toNatClampNeg = -1 := by rw [cx, hA x hx, h0]; decide
      refine nm_r e1 (br_f (by decide) ?_)
      unfold wpY_remove wpY_queueOf
      dsimp only
      refine hy_I1 hx (br_f (by decide) (hs_in x hx ?_))
      exact pk_eq (Q x) 0 (fun _ => br_t (by decide) ⟨rfl, R⟩) (fun e => absurd h0 e) (hs_rd x (by omega)) rfl
    · obtain ⟨q, hq, hQx, hAx⟩ := hs_Aq (hA x hx) q4 h0
      refine nm_r (by rw [cx]; exact hAx) (br_t (nI_pos' (by omega)) ?_)
      refine hs_takeOut q x hq hx hE (hA x hx) hQ4 hz hQx (fun st' sz' hp' pl' pr' pc' pn' pb' rF' rI' rN' rU' rC' rX' rP' rD' gF' gC' gL' gR' gP' gD' gM' gO' lr' ll' lR' lp' lk' wn' sk' hE' hz' => ?_)
      dsimp only
      unfold wpY_remove wpY_queueOf
      dsimp only
      refine hy_I1 hx (br_f (by decide) (hs_in x hx ?_))
      refine pk_eq (Q x) 0 (fun e => absurd e h0) (fun _ => hs_in x hx ?_) (hs_rd x (by omega)) rfl
      rw [hs_rd x (by omega), hQx, nI_pred]
      refine br_f (nI_pos (by omega)) ?_
      refine hs_wr x hx (y' := nI 0) rfl ?_
      rw [hs_up]
      exact ⟨rfl, hs_rel (hj_take hJ0 hx hE' hz')⟩
theorem hs_subI {a d : Int32} (ha : hs_key a) (hd : 0 ≤ d.toInt ∧ d.toInt ≤ 999) : (a - d).toInt = a.toInt - d.toInt := by
  rw [Int32.toInt_sub]
  unfold hs_key at ha
  exact Int.bmod_eq_of_le (by omega) (by omega)
theorem i_vc_lower {k : Nat} {u : SX} {v : SY} (I : i_Rel k u v) (hk : k + 3 ≤ 1536) (v1 : Int32) (v2 : Int32) : wpX_lower (fun r u' => wpY_lower (fun r' v' => r' = r ∧ i_Rel (k + 3) u' v') v v1 v2) u v1 v2 := by
  refine hs_el (P := fun u v => wpX_lower (fun r u' => wpY_lower (fun r' v' => r' = r ∧ i_Rel (k + 3) u' v') v v1 v2) u v1 v2) I ?_
  intro st K A Q sz hp pl pr pc pn pb rF rI rN rU rC rX rP rD gF gC gL gR gP gD gM gO lr ll lR lp lk wn sk hJ
  have R := hs_rel (k := k + 3) (st := st) (gO := gO) (sk := sk) hJ
  have hJ0 := hJ
  obtain ⟨hA, hQ4, hKk, hz, hE⟩ := hJ
  unfold wpX_lower
  dsimp only
  rcases hs_ic v1 with h | ⟨x, hx, rfl⟩
  · refine hx_I0 h (br_t rfl ?_)
    unfold wpY_lower
    dsimp only
    exact hy_I0 h (br_t rfl ⟨rfl, R⟩)
  · have cx : (nI x).toNatClampNeg = x := nI_clamp (by omega)
    have q4 := hQ4 x
    refine hx_I1 hx (br_f (by decide) ?_)
    refine br_c (fun hd => ?_) (fun hd => br_c (fun hd2 => ?_) (fun hd2 => ?_))
    · unfold wpY_lower
      dsimp only
      exact hy_I1 hx (br_f (by decide) (br_t hd ⟨rfl, R⟩))
    · have dd : 0 ≤ v2.toInt ∧ v2.toInt ≤ 999 := by
        rw [Int32.lt_iff_toInt_lt] at hd
        rw [Int32.le_iff_toInt_le] at hd2
        have e0 : (0 : Int32).toInt = 0 := by decide
        have e9 : (999 : Int32).toInt = 999 := by decide
        omega
      have kx : hs_key (K x) := (hKk x).1 hx
      have sb := hs_subI kx dd
      refine ⟨vp_in_nI hx (by decide), ?_⟩
      rw [cx]
      by_cases h0 : Q x = 0
      · refine br_f (fun h => (hs_A0 (hA x hx) q4).1 h h0) ?_
        unfold wpY_lower
        dsimp only
        refine hy_I1 hx (br_f (by decide) (br_f hd (br_t hd2 (hs_in x hx ?_))))
        exact pk_eq (Q x) 0 (fun _ => ⟨rfl, R⟩) (fun e => absurd h0 e) (hs_rd x (by omega)) rfl
      · obtain ⟨q, hq, hQx, hAx⟩ := hs_Aq (hA x hx) q4 h0
        refine br_t ((hs_A0 (hA x hx) q4).2 h0) ⟨vp_in_nI hx (by decide), nm_e ?_⟩
        by_cases hk2 : hs_key (K x - v2)
        · refine hx_K1 hk2 (br_f (by decide) ?_)
          have le : K x - v2 ≤ K x := by rw [Int32.le_iff_toInt_le, sb]; omega
          refine hs_lowerTo q x (K x - v2) hq hx hE (hA x hx) hQ4 hQx hk2.1 hk2.2 le (fun st' sz' hp' pl' pr' pc' pn' pb' rF' rI' rN' rU' rC' rX' rP' rD' gF' gC' gL' gR' gP' gD' gM' gO' lr' ll' lR' lp' lk' wn' sk' ez hE' => ?_)
          dsimp only
          unfold wpY_lower
          dsimp only
          refine hy_I1 hx (br_f (by decide) (br_f hd (br_t hd2 (hs_in x hx ?_))))
          refine pk_eq (Q x) 0 (fun e => absurd e h0) (fun _ => hs_in x hx ?_) (hs_rd x (by omega)) rfl
          rw [cx]
          refine hy_K1 hk2 (br_f (by decide) (hs_in x hx (hs_in x hx ?_)))
          refine nm_e (hs_in x hx ⟨pk_us, ?_⟩)
          subst ez
          exact hs_rel ⟨hA, hQ4, hj_key hKk hk2, hz, hE'⟩
        · refine hx_K0 hk2 (br_t rfl ?_)
          unfold wpY_lower
          dsimp only
          refine hy_I1 hx (br_f (by decide) (br_f hd (br_t hd2 (hs_in x hx ?_))))
          refine pk_eq (Q x) 0 (fun e => absurd e h0) (fun _ => hs_in x hx ?_) (hs_rd x (by omega)) rfl
          rw [cx]
          exact hy_K0 hk2 (br_t rfl ⟨rfl, R⟩)
    · unfold wpY_lower
      dsimp only
      exact hy_I1 hx (br_f (by decide) (br_f hd (br_f hd2 ⟨rfl, R⟩)))
theorem i_vc_change {k : Nat} {u : SX} {v : SY} (I : i_Rel k u v) (hk : k + 3 ≤ 1536) (v1 : Int32) (v2 : Int32) : wpX_change (fun r u' => wpY_change (fun r' v' => r' = r ∧ i_Rel (k + 3) u' v') v v1 v2) u v1 v2 := by
  refine hs_el (P := fun u v => wpX_change (fun r u' => wpY_change (fun r' v' => r' = r ∧ i_Rel (k + 3) u' v') v v1 v2) u v1 v2) I ?_
  intro st K A Q sz hp pl pr pc pn pb rF rI rN rU rC rX rP rD gF gC gL gR gP gD gM gO lr ll lR lp lk wn sk hJ
  have R := hs_rel (k := k + 3) (st := st) (gO := gO) (sk := sk) hJ
  have hJ0 := hJ
  obtain ⟨hA, hQ4, hKk, hz, hE⟩ := hJ
  unfold wpX_change
  dsimp only
  rcases hs_ic v1 with h | ⟨x, hx, rfl⟩
  · refine hx_I0 h (br_t rfl ?_)
    unfold wpY_change
    dsimp only
    exact hy_I0 h (br_t rfl ⟨rfl, R⟩)
  · have cx : (nI x).toNatClampNeg = x := nI_clamp (by omega)
    have q4 := hQ4 x
    refine hx_I1 hx (br_f (by decide) ?_)
    by_cases hk2 : hs_key v2
    · refine hx_K1 hk2 (br_f (by decide) ⟨vp_in_nI hx (by decide), ?_⟩)
      rw [cx]
      by_cases h0 : Q x = 0
      · refine br_f (fun h => (hs_A0 (hA x hx) q4).1 h h0) ?_
        unfold wpY_change
        dsimp only
        refine hy_I1 hx (br_f (by decide) (hy_K1 hk2 (br_f (by decide) (hs_in x hx ?_))))
        exact pk_eq (Q x) 0 (fun _ => ⟨rfl, R⟩) (fun e => absurd h0 e) (hs_rd x (by omega)) rfl
      · obtain ⟨q, hq, hQx, hAx⟩ := hs_Aq (hA x hx) q4 h0
        have yy : ∀ (u' : SX), i_Rel (k + 3) u' (hs_A Q, upd K x v2) → wpY_change (fun r' v' => r' = K x ∧ i_Rel (k + 3) u' v') (hs_A Q, K) (nI x) v2 := by
          intro u' hR
          unfold wpY_change
          dsimp only
          refine hy_I1 hx (br_f (by decide) (hy_K1 hk2 (br_f (by decide) (hs_in x hx ?_))))
          refine pk_eq (Q x) 0 (fun e => absurd e h0) (fun _ => hs_in x hx ?_) (hs_rd x (by omega)) rfl
          rw [cx]
          exact nm_e (hs_in x hx (nm_e ⟨rfl, hR⟩))
        refine br_t ((hs_A0 (hA x hx) q4).2 h0) ⟨vp_in_nI hx (by decide), nm_e ?_⟩
        refine br_c (fun hlt => ⟨vp_in_nI hx (by decide), nm_r hAx ?_⟩) (fun hlt => ?_)
        · refine hs_takeOut q x hq hx hE (hA x hx) hQ4 hz hQx (fun st' sz' hp' pl' pr' pc' pn' pb' rF' rI' rN' rU' rC' rX' rP' rD' gF' gC' gL' gR' gP' gD' gM' gO' lr' ll' lR' lp' lk' wn' sk' hE' hz' => ?_)
          dsimp only
          refine ⟨vp_in_nI hx (by decide), nm_r (e' := upd K x v2) (by rw [hs_sh hk2.1 hk2.2]) ?_⟩
          have hJ1 := hj_take hJ0 hx hE' hz'
          have nt : ∀ j, hs_T (hs_s Q x 0) j → upd K x v2 j = K j := fun j tj => pk_un (fun e => tj.2 (by rw [hs_se e]))
          have hE2 := hs_E_K (K' := upd K x v2) hE' nt
          refine hs_putIn q x hq hx hE2 hJ1.2.1 hz' hs_ss (fun st2 sz2 hp2 pl2 pr2 pc2 pn2 pb2 rF2 rI2 rN2 rU2 rC2 rX2 rP2 rD2 gF2 gC2 gL2 gR2 gP2 gD2 gM2 gO2 lr2 ll2 lR2 lp2 lk2 wn2 sk2 hE3 hz3 => ?_)
          dsimp only
          refine yy _ ?_
          have hj := hj_put (K := upd K x v2) (A := upd A x (-1)) (Q := hs_s Q x 0) (sz := sz') (x := x) (q := q) (fun z hz' hn => by rw [pk_un hn, hs_sn hn]; exact hA z hz') (fun z hn => by rw [hs_sn hn]; exact hQ4 z) (hj_key hJ1.2.2.1 hk2) hx hq hE3 hz3
          have eQ : hs_s (hs_s Q x 0) x (q + 1) = Q := by rw [h0_s2, ← hQx, hs_self]
          rw [eQ] at hj
          exact hs_rel hj
        · have le : v2 ≤ K x := Int32.not_lt.mp hlt
          refine hs_lowerTo q x v2 hq hx hE (hA x hx) hQ4 hQx hk2.1 hk2.2 le (fun st' sz' hp' pl' pr' pc' pn' pb' rF' rI' rN' rU' rC' rX' rP' rD' gF' gC' gL' gR' gP' gD' gM' gO' lr' ll' lR' lp' lk' wn' sk' ez hE' => ?_)
          dsimp only
          subst ez
          exact yy _ (hs_rel ⟨hA, hQ4, hj_key hKk hk2, hz, hE'⟩)
    · refine hx_K0 hk2 (br_t rfl ?_)
      unfold wpY_change
      dsimp only
      exact hy_I1 hx (br_f (by decide) (hy_K0 hk2 (br_t rfl ⟨rfl, R⟩)))
end
section
/-! insert, takeUpTo -/
theorem hy_ins {post : Int32 → SY → Prop} {Q : Nat → Nat} {K : Nat → Int32} {x : Nat} {a b : Int32} (hQ4 : ∀ z, Q z ≤ 4) (hx : x ≤ 24) (hn : ∀ j, j < x → Q j ≠ 0) (h24 : x = 24 → post (-2000) (hs_A Q, K)) (h0 : x < 24 → Q x = 0 ∧ post (nI x) (upd (hs_A Q) x (a + 1), upd K x b)) : ∃ n, wY_insert_22 post a b (hs_A Q) K n 0 := by
  have key : ∀ d i, i + d = x → wY_insert_22 post a b (hs_A Q) K (d + 1) (nI i) := by
    intro d
    induction d with
    | zero =>
      intro i hi
      have : i = x := by omega
      subst this
      rw [wY_insert_22]
      refine pk_le 24 i (fun h => h24 (by omega)) (fun h => ?_)
      obtain ⟨q0, hp⟩ := h0 h
      have ci : (nI i).toNatClampNeg = i := nI_clamp (by omega)
      refine hs_in i h ?_
      refine pk_eq (Q i) 0 (fun _ => hs_in i h ?_) (fun e => absurd q0 e) (hs_rd i (by omega)) rfl (by rw [q0]; decide)
      rw [ci]
      exact nm_e (hs_in i h (nm_e hp))
    | succ d ih =>
      intro i hi
      have q0 := hn i (by omega)
      have q4 := hQ4 i
      rw [wY_insert_22]
      refine pk_le 24 i (fun h => by omega) (fun h => hs_in i h ?_)
      exact pk_eq (Q i) 0 (fun e => absurd e q0) (fun _ => nm_r (nI_1 _) (ih (i + 1) (by omega))) (hs_rd i (by omega)) rfl
  exact ⟨_, key x 0 (by omega)⟩
theorem i_vc_insert {k : Nat} {u : SX} {v : SY} (I : i_Rel k u v) (hk : k + 3 ≤ 1536) (v1 : Int32) (v2 : Int32) : wpX_insert (fun r u' => wpY_insert (fun r' v' => r' = r ∧ i_Rel (k + 3) u' v') v v1 v2) u v1 v2 := by
  refine hs_el (P := fun u v => wpX_insert (fun r u' => wpY_insert (fun r' v' => r' = r ∧ i_Rel (k + 3) u' v') v v1 v2) u v1 v2) I ?_
  intro st K A Q sz hp pl pr pc pn pb rF rI rN rU rC rX rP rD gF gC gL gR gP gD gM gO lr ll lR lp lk wn sk hJ
  have R := hs_rel (k := k + 3) (st := st) (gO := gO) (sk := sk) hJ
  have hJ0 := hJ
  obtain ⟨hA, hQ4, hKk, hz, hE⟩ := hJ
  unfold wpX_insert
  dsimp only
  rcases hs_qc v1 with h | ⟨q, hq, rfl⟩
  · refine hx_Q0 h (br_t rfl ?_)
    unfold wpY_insert
    dsimp only
    exact hy_Q0 h (br_t rfl ⟨rfl, R⟩)
  · by_cases hk2 : hs_key v2
    · refine hx_Q1 hq (br_f (by decide) (hx_K1 hk2 (br_f (by decide) ⟨25, ?_⟩)))
      have key : ∀ d i, i + d = 24 → (∀ j, j < i → Q j ≠ 0) → wX_insert_20 (fun r u' => wpY_insert (fun r' v' => r' = r ∧ i_Rel (k + 3) u' v') (hs_A Q, K) (nI q) v2) (nI q) v2 (nI st) K A (hs_A sz) (hs_A hp) (hs_A pl) (hs_A pr) (hs_A pc) (hs_A pn) (hs_A pb) (hs_A rF) (hs_A rI) (hs_A rN) (hs_A rU) (hs_A rC) (hs_A rX) (hs_A rP) (hs_A rD) (hs_A gF) (hs_A gC) (hs_A gL) (hs_A gR) (hs_A gP) (hs_A gD) (hs_A gM) (hs_A gO) (hs_A lr) (hs_A ll) (hs_A lR) (hs_A lp) (hs_A lk) (hs_A wn) (hs_A sk) (d + 1) (nI i) := by
        intro d
        induction d with
        | zero =>
          intro i hi hn
          have : i = 24 := by omega
          subst this
          rw [wX_insert_20]
          refine br_t (by decide) ?_
          unfold wpY_insert
          dsimp only
          exact hy_Q1 hq (br_f (by decide) (hy_K1 hk2 (br_f (by decide) (hy_ins hQ4 (Nat.le_refl _) hn (fun _ => ⟨rfl, R⟩) (fun h => by omega)))))
        | succ d ih =>
          intro i hi hn
          have i24 : i < 24 := by omega
          have ci : (nI i).toNatClampNeg = i := nI_clamp (by omega)
          have q4 := hQ4 i
          rw [wX_insert_20]
          refine pk_le 24 i (fun h => by omega) (fun _ => ⟨vp_in_nI i24 (by decide), ?_⟩)
          by_cases q0 : Q i = 0
          · refine br_f (fun h => ?_) ?_
            · rw [ci] at h
              exact (hs_A0 (hA i i24) q4).1 h q0
            · refine hs_wr i i24 (hs_sh hk2.1 hk2.2) ?_
              have hE2 := hs_E_K (K' := upd K i v2) hE (fun j tj => pk_un (fun e => tj.2 (by rw [e]; exact q0)))
              refine hs_putIn q i hq i24 hE2 hQ4 hz q0 (fun st' sz' hp' pl' pr' pc' pn' pb' rF' rI' rN' rU' rC' rX' rP' rD' gF' gC' gL' gR' gP' gD' gM' gO' lr' ll' lR' lp' lk' wn' sk' hE3 hz3 => ?_)
              dsimp only
              unfold wpY_insert
              dsimp only
              refine hy_Q1 hq (br_f (by decide) (hy_K1 hk2 (br_f (by decide) (hy_ins hQ4 (x := i) (by omega) hn (fun h => by omega) (fun _ => ⟨q0, rfl, ?_⟩)))))
              rw [nI_1, hs_up]
              exact hs_rel (hj_put (sz := sz) (fun z hz' _ => hA z hz') (fun z _ => hQ4 z) (hj_key hKk hk2) i24 hq hE3 hz3)
          · refine br_t ?_ (nm_r (nI_1 _) (ih (i + 1) (by omega) (fun j hj => ?_)))
            · rw [ci]; exact (hs_A0 (hA i i24) q4).2 q0
            · by_cases e : j = i
              · rw [e]; exact q0
              · exact hn j (by omega)
      exact key 24 0 (by omega) (fun j hj => by omega)
    · refine hx_Q1 hq (br_f (by decide) (hx_K0 hk2 (br_t rfl ?_)))
      unfold wpY_insert
      dsimp only
      exact hy_Q1 hq (br_f (by decide) (hy_K0 hk2 (br_t rfl ⟨rfl, R⟩)))
/-! takeUpTo: what both sides take -/
noncomputable def hs_P (K : Nat → Int32) (Q : Nat → Nat) (q : Nat) (m : Int32) (z : Nat) : Bool := hs_dc (Q z = q + 1 ∧ K z ≤ m)
noncomputable def hs_tk (K : Nat → Int32) (Q : Nat → Nat) (q : Nat) (m : Int32) (i z : Nat) : Nat := if z < i ∧ hs_P K Q q m z = true then 0 else Q z
theorem hy_tk {post : Int32 → SY → Prop} {Q : Nat → Nat} {K : Nat → Int32} {q : Nat} {m : Int32} (hQ4 : ∀ z, Q z ≤ 4) (hq : q < 4) (hp : post (nI (hs_cn (hs_P K Q q m) 24)) (hs_A (hs_tk K Q q m 24), K)) : wpY_takeUpTo post (hs_A Q, K) (nI q) m := by
  unfold wpY_takeUpTo
  dsimp only
  have key : ∀ d i c, i + d = 24 → c = hs_cn (hs_P K Q q m) i → wY_takeUpTo_5 post (nI q) m (d + 1) (nI c) (nI i) (hs_A (hs_tk K Q q m i)) K := by
    intro d
    induction d with
    | zero =>
      intro i c hi hc
      have : i = 24 := by omega
      subst this
      rw [wY_takeUpTo_5]
      refine br_t (by decide) ?_
      unfold wY_takeUpTo_61
      refine hy_Q1 hq (br_f (by decide) ?_)
      rw [hc]; exact hp
    | succ d ih =>
      intro i c hi hc
      have i24 : i < 24 := by omega
      have ci : (nI i).toNatClampNeg = i := nI_clamp (by omega)
      have q4 := hQ4 i
      have ti : hs_tk K Q q m i i = Q i := by unfold hs_tk; rw [if_neg (by omega)]
      have same : hs_P K Q q m i = false → hs_tk K Q q m (i + 1) = hs_tk K Q q m i := by
        intro h
        funext z; unfold hs_tk
        by_cases e : z < i ∧ hs_P K Q q m z = true
        · rw [if_pos e, if_pos ⟨by omega, e.2⟩]
        · rw [if_neg e, if_neg (fun h' => ?_)]
          by_cases ez : z = i
          · rw [ez, h] at h'; exact absurd h'.2 (by decide)
          · exact e ⟨by omega, h'.2⟩
      have skip : hs_P K Q q m i = false → wY_takeUpTo_5 post (nI q) m (d + 1) (nI c) (nI (i + 1)) (hs_A (hs_tk K Q q m i)) K := by
        intro h
        have := ih (i + 1) c (by omega) (by unfold hs_cn; rw [if_neg (by rw [h]; decide), hc]; rfl)
        rw [same h] at this
        exact this
      rw [wY_takeUpTo_5]
      refine pk_le 24 i (fun h => by omega) (fun _ => ?_)
      refine hy_Q1 hq (br_f (by decide) (hs_in i i24 ?_))
      refine pk_eq (Q i) (q + 1) (fun e => hs_in i i24 ?_) (fun e => nm_r (nI_1 _) (skip (hs_dc_f.2 (fun h => e h.1)))) (by rw [hs_rd i (by omega), ti]) (nI_1 q)
      rw [ci]
      refine br_c (fun hlt => nm_r (nI_1 _) (skip (hs_dc_f.2 (fun h => ?_)))) (fun hlt => ?_)
      · rw [Int32.lt_iff_toInt_lt] at hlt
        have := h.2
        rw [Int32.le_iff_toInt_le] at this
        omega
      · have hP : hs_P K Q q m i = true := hs_dc_t.2 ⟨e, Int32.not_lt.mp hlt⟩
        refine hs_in i i24 ?_
        refine nm_r (e' := hs_A (hs_tk K Q q m (i + 1))) ?_ (nm_r (nI_1 _) (nm_r (nI_1 _) (ih (i + 1) (c + 1) (by omega) (by unfold hs_cn; rw [if_pos hP, hc]))))
        rw [show (0 : Int32) = nI 0 from rfl, hs_up]
        refine congrArg hs_A ?_
        funext z
        by_cases ez : z = i
        · rw [ez, hs_ss]; unfold hs_tk; rw [if_pos ⟨by omega, hP⟩]
        · rw [hs_sn ez]; unfold hs_tk
          by_cases e' : z < i ∧ hs_P K Q q m z = true
          · rw [if_pos e', if_pos ⟨by omega, e'.2⟩]
          · rw [if_neg e', if_neg (fun h => e' ⟨by omega, h.2⟩)]
  have t0 : hs_tk K Q q m 0 = Q := by
    funext z; unfold hs_tk; rw [if_neg (by omega)]
  have := key 24 0 0 (by omega) rfl
  rw [t0] at this
  exact ⟨_, this⟩
theorem hy_tk0 {post : Int32 → SY → Prop} {v : SY} {x m : Int32} (h : x < 0 ∨ nI 4 ≤ x) (hp : post (-1000) v) : wpY_takeUpTo post v x m := by
  obtain ⟨a, b⟩ := v
  unfold wpY_takeUpTo
  dsimp only
  refine ⟨1, ?_⟩
  rw [wY_takeUpTo_5]
  refine br_f (by decide) (hy_Q0 h (br_t rfl ?_))
  unfold wY_takeUpTo_61
  exact hy_Q0 h (br_t rfl hp)
theorem i_vc_takeUpTo {k : Nat} {u : SX} {v : SY} (I : i_Rel k u v) (hk : k + 3 ≤ 1536) (v1 : Int32) (v2 : Int32) : wpX_takeUpTo (fun r u' => wpY_takeUpTo (fun r' v' => r' = r ∧ i_Rel (k + 3) u' v') v v1 v2) u v1 v2 := by
  refine hs_el (P := fun u v => wpX_takeUpTo (fun r u' => wpY_takeUpTo (fun r' v' => r' = r ∧ i_Rel (k + 3) u' v') v v1 v2) u v1 v2) I ?_
  intro st K A Q sz hp pl pr pc pn pb rF rI rN rU rC rX rP rD gF gC gL gR gP gD gM gO lr ll lR lp lk wn sk hJ
  have R := hs_rel (k := k + 3) (st := st) (gO := gO) (sk := sk) hJ
  unfold wpX_takeUpTo
  dsimp only
  rcases hs_qc v1 with h | ⟨q, hq, rfl⟩
  · exact hx_Q0 h (br_t rfl (hy_tk0 h ⟨rfl, R⟩))
  · refine hx_Q1 hq (br_f (by decide) ?_)
    have hQ4 := hJ.2.1
    have loop : ∀ (n c r st : Nat) (A : Nat → Int32) (Q' sz hp pl pr pc pn pb rF rI rN rU rC rX rP rD gF gC gL gR gP gD gM gO lr ll lR lp lk wn sk : Nat → Nat), hs_ct Q' q < n → hs_J K A Q' sz hp pl pr pc pn pb rF rI rN rU rC rX rP rD gF gC gL gR gP gD gM lr ll lR lp lk wn → hs_min K Q' q r → (∀ z, Q' z = Q z ∨ (Q' z = 0 ∧ z < 24 ∧ hs_P K Q q v2 z = true)) → c + hs_cn (hs_P K Q' q v2) 24 = hs_cn (hs_P K Q q v2) 24 → wX_takeUpTo_21 (fun r u' => wpY_takeUpTo (fun r' v' => r' = r ∧ i_Rel (k + 3) u' v') (hs_A Q, K) (nI q) v2) (nI q) v2 n (nI c) (hs_en r) (nI st) K A (hs_A sz) (hs_A hp) (hs_A pl) (hs_A pr) (hs_A pc) (hs_A pn) (hs_A pb) (hs_A rF) (hs_A rI) (hs_A rN) (hs_A rU) (hs_A rC) (hs_A rX) (hs_A rP) (hs_A rD) (hs_A gF) (hs_A gC) (hs_A gL) (hs_A gR) (hs_A gP) (hs_A gD) (hs_A gM) (hs_A gO) (hs_A lr) (hs_A ll) (hs_A lR) (hs_A lp) (hs_A lk) (hs_A wn) (hs_A sk) := by
      intro n
      induction n with
      | zero => intro c r st A Q' sz hp pl pr pc pn pb rF rI rN rU rC rX rP rD gF gC gL gR gP gD gM gO lr ll lR lp lk wn sk h; omega
      | succ n ih =>
        intro c r st A Q' sz hp pl pr pc pn pb rF rI rN rU rC rX rP rD gF gC gL gR gP gD gM gO lr ll lR lp lk wn sk hn hJ' hr hQ hc
        have hJ0 := hJ'
        obtain ⟨hA', hQ4', hKk', hz', hE'⟩ := hJ'
        have fin : (∀ z, z < 24 → Q' z = q + 1 → ¬ K z ≤ v2) → wpY_takeUpTo (fun r' v' => r' = nI c ∧ i_Rel (k + 3) ((nI st), K, A, (hs_A sz), (hs_A hp), (hs_A pl), (hs_A pr), (hs_A pc), (hs_A pn), (hs_A pb), (hs_A rF), (hs_A rI), (hs_A rN), (hs_A rU), (hs_A rC), (hs_A rX), (hs_A rP), (hs_A rD), (hs_A gF), (hs_A gC), (hs_A gL), (hs_A gR), (hs_A gP), (hs_A gD), (hs_A gM), (hs_A gO), (hs_A lr), (hs_A ll), (hs_A lR), (hs_A lp), (hs_A lk), (hs_A wn), (hs_A sk)) v') (hs_A Q, K) (nI q) v2 := by
          intro hno
          have c0 : hs_cn (hs_P K Q' q v2) 24 = 0 := hs_cn_0 (fun z hz => hs_dc_f.2 (fun h => hno z hz h.1 h.2))
          have eq : hs_tk K Q q v2 24 = Q' := by
            funext z; unfold hs_tk
            by_cases e : z < 24 ∧ hs_P K Q q v2 z = true
            · rw [if_pos e]
              rcases hQ z with h | h
              · have hp := hs_dc_t.1 e.2
                exact absurd hp.2 (hno z e.1 (by rw [h]; exact hp.1))
              · exact h.1.symm
            · rw [if_neg e]
              rcases hQ z with h | h
              · exact h.symm
              · exact absurd ⟨h.2.1, h.2.2⟩ e
          refine hy_tk hQ4 hq ⟨?_, ?_⟩
          · rw [← hc, c0]; rfl
          · rw [eq]; exact hs_rel hJ0
        rw [wX_takeUpTo_21]
        rcases hr with ⟨h1, h2⟩ | ⟨h1, h2, h3⟩
        · have en : hs_en r = -3000 := by unfold hs_en; rw [if_pos h1]
          rw [en]
          exact br_t (by decide) (fin (fun z hz e => absurd e (h2 z hz)))
        · have en : hs_en r = nI r := by unfold hs_en; rw [if_neg (by omega)]
          have cr : (nI r).toNatClampNeg = r := nI_clamp (by omega)
          rw [en]
          refine br_f (nI_pos (by omega)) (hs_in r h1 ?_)
          rw [cr]
          refine br_c (fun hlt => fin (fun z hz e hle => ?_)) (fun hlt => ?_)
          · rw [Int32.lt_iff_toInt_lt] at hlt
            rw [Int32.le_iff_toInt_le] at hle
            by_cases ez : z = r
            · rw [ez] at hle; omega
            · have b := h3 z hz e ez
              rw [hs_bef_i] at b; omega
          · refine hs_takeOut q r hq h1 hE' (hA' r h1) hQ4' hz' h2 (fun st' sz' hp' pl' pr' pc' pn' pb' rF' rI' rN' rU' rC' rX' rP' rD' gF' gC' gL' gR' gP' gD' gM' gO' lr' ll' lR' lp' lk' wn' sk' hE2 hz2 => ?_)
            dsimp only
            have hJ1 := hj_take hJ0 h1 hE2 hz2
            refine nm_r (nI_1 _) ?_
            refine hs_first 2 q (by omega) hq hE2 hz2 (fun r' hr' => ?_)
            have hPr : hs_P K Q' q v2 r = true := hs_dc_t.2 ⟨h2, Int32.not_lt.mp hlt⟩
            refine ih (c + 1) r' st' _ (hs_s Q' r 0) sz' hp' pl' pr' pc' pn' pb' rF' rI' rN' rU' rC' rX' rP' rD' gF' gC' gL' gR' gP' gD' gM' gO' lr' ll' lR' lp' lk' wn' sk' ?_ hJ1 hr' (fun z => ?_) ?_
            · have := hs_ct_r (p := q) h1 h2
              rw [hs_ss] at this
              have := hs_ct_p h1 h2
              omega
            · by_cases ez : z = r
              · refine Or.inr ⟨by rw [hs_se ez], by omega, ?_⟩
                rcases hQ r with h | h
                · rw [ez]
                  have := hs_dc_t.1 hPr
                  exact hs_dc_t.2 ⟨by rw [← h]; exact this.1, this.2⟩
                · rw [h.1] at h2; omega
              · rw [hs_sn ez]; exact hQ z
            · have := hs_cn_1 (P := hs_P K (hs_s Q' r 0) q v2) (P' := hs_P K Q' q v2) (y := r) (n := 24) (hs_dc_f.2 (fun h => by rw [hs_ss] at h; exact absurd h.1 (by omega))) hPr (fun z _ hz => by unfold hs_P; rw [hs_sn hz]) h1
              omega
    obtain ⟨hA, _, hKk, hz, hE⟩ := hJ
    refine hs_first 2 q (by omega) hq hE hz (fun r hr => ?_)
    have := loop 25 0 r st A Q sz hp pl pr pc pn pb rF rI rN rU rC rX rP rD gF gC gL gR gP gD gM gO lr ll lR lp lk wn sk (by have := hs_ct_24 (Q := Q) (q := q); omega) ⟨hA, hQ4, hKk, hz, hE⟩ hr (fun z => Or.inl rfl) (by omega)
    exact ⟨25, this⟩
end
section
/-! join -/
def hs_pj (Q : Nat → Nat) (a b i : Nat) : Nat → Nat := fun z => if z < i ∧ Q z = b + 1 then a + 1 else Q z
theorem hs_pj0 {Q : Nat → Nat} {a b : Nat} : hs_pj Q a b 0 = Q := by
  funext z; unfold hs_pj; rw [if_neg (by omega)]
theorem hs_pj24 {Q : Nat → Nat} {a b : Nat} (h : ∀ z, 24 ≤ z → Q z = 0) : hs_pj Q a b 24 = hs_jQ Q a b := by
  funext z; unfold hs_pj hs_jQ
  by_cases e : Q z = b + 1
  · have : z < 24 := by
      apply Classical.byContradiction
      intro h'
      have := h z (by omega); omega
    rw [if_pos ⟨this, e⟩, if_pos e]
  · rw [if_neg (fun h => e h.2), if_neg e]
theorem hs_pj_y {Q : Nat → Nat} {a b i : Nat} (h : Q i = b + 1) : hs_pj Q a b (i + 1) = hs_s (hs_pj Q a b i) i (a + 1) := by
  funext z
  by_cases e : z = i
  · rw [e, hs_ss]; unfold hs_pj; rw [if_pos ⟨by omega, h⟩]
  · rw [hs_sn e]; unfold hs_pj
    by_cases e' : z < i ∧ Q z = b + 1
    · rw [if_pos e', if_pos ⟨by omega, e'.2⟩]
    · rw [if_neg e', if_neg (fun h' => e' ⟨by omega, h'.2⟩)]
theorem hs_pj_n {Q : Nat → Nat} {a b i : Nat} (h : Q i ≠ b + 1) : hs_pj Q a b (i + 1) = hs_pj Q a b i := by
  funext z; unfold hs_pj
  by_cases e' : z < i ∧ Q z = b + 1
  · rw [if_pos e', if_pos ⟨by omega, e'.2⟩]
  · rw [if_neg e', if_neg (fun h' => ?_)]
    by_cases e : z = i
    · rw [e] at h'; exact h h'.2
    · exact e' ⟨by omega, h'.2⟩
theorem hy_join {post : Int32 → SY → Prop} {Q : Nat → Nat} {K : Nat → Int32} {a b : Nat} (hQ4 : ∀ z, Q z ≤ 4) (h24 : ∀ z, 24 ≤ z → Q z = 0) (ha : a < 4) (hb : b < 4) (hab : a ≠ b) (hp : post (nI (hs_ct (hs_jQ Q a b) a)) (hs_A (hs_jQ Q a b), K)) : wpY_join post (hs_A Q, K) (nI a) (nI b) := by
  unfold wpY_join
  dsimp only
  refine hy_Q1 ha (br_f (by decide) (hy_Q1 hb (br_f (by decide) ?_)))
  refine pk_eq a b (fun e => absurd e hab) (fun _ => ⟨25, ?_⟩)
  have key : ∀ d i, i + d = 24 → wY_join_27 post (nI a) (nI b) (d + 1) (nI i) (hs_A (hs_pj Q a b i)) K := by
    intro d
    induction d with
    | zero =>
      intro i hi
      have : i = 24 := by omega
      subst this
      rw [wY_join_27]
      refine br_t (by decide) ?_
      rw [hs_pj24 h24]
      refine hy_size1 (fun z => ?_) ha hp
      unfold hs_jQ
      have := hQ4 z
      split <;> omega
    | succ d ih =>
      intro i hi
      have i24 : i < 24 := by omega
      have ci : (nI i).toNatClampNeg = i := nI_clamp (by omega)
      have q4 := hQ4 i
      have pi : hs_pj Q a b i i = Q i := by unfold hs_pj; rw [if_neg (by omega)]
      rw [wY_join_27]
      refine pk_le 24 i (fun h => by omega) (fun _ => hs_in i i24 ?_)
      refine pk_eq (Q i) (b + 1) (fun e => ?_) (fun e => ?_) (by rw [hs_rd i (by omega), pi]) (nI_1 b)
      · refine hs_wr i i24 (nI_1 a) (nm_r (nI_1 _) ?_)
        rw [hs_up, ← hs_pj_y e]
        exact ih (i + 1) (by omega)
      · refine hs_in i i24 (hs_wr i i24 (hs_rd i (by omega)) (nm_r (nI_1 _) ?_))
        rw [hs_up, hs_self, ← hs_pj_n e]
        exact ih (i + 1) (by omega)
  have := key 24 0 (by omega)
  rw [hs_pj0] at this
  exact this
theorem hy_join0 {post : Int32 → SY → Prop} {v : SY} {x y : Int32} (h : (x < 0 ∨ nI 4 ≤ x) ∨ (∃ a, a < 4 ∧ x = nI a ∧ ((y < 0 ∨ nI 4 ≤ y) ∨ (∃ b, b < 4 ∧ y = nI b ∧ a = b)))) (hp : post (-1000) v) : wpY_join post v x y := by
  obtain ⟨p, q⟩ := v
  unfold wpY_join
  dsimp only
  rcases h with h | ⟨a, ha, rfl, h | ⟨b, hb, rfl, rfl⟩⟩
  · exact hy_Q0 h (br_t rfl hp)
  · exact hy_Q1 ha (br_f (by decide) (hy_Q0 h (br_t rfl hp)))
  · exact hy_Q1 ha (br_f (by decide) (hy_Q1 ha (br_f (by decide) (br_t rfl hp))))
section
variable {st : Nat} {K A : Nat → Int32} {sz hp pl pr pc pn pb rF rI rN rU rC rX rP rD gF gC gL gR gP gD gM gO lr ll lR lp lk wn sk : Nat → Nat}
theorem hx_jL {post : Int32 → SX → Prop} {Q : Nat → Nat} {a b : Nat} (hQ4 : ∀ z, Q z ≤ 4) (h24 : ∀ z, 24 ≤ z → Q z = 0) (ha : a < 4) (hb : b < 4) (hab : a ≠ b) (hz : ∀ p, p < 4 → sz p = hs_ct Q p) (hpost : ∀ A' sz' wn', (∀ x, x < 24 → A' x = nI (hs_jQ Q a b x) - 1) → (∀ p, p < 4 → sz' p = hs_ct (hs_jQ Q a b) p) → h6_I K (hs_jQ Q a b) wn' → post (nI (hs_ct (hs_jQ Q a b) a)) ((nI st), K, A', (hs_A sz'), (hs_A hp), (hs_A pl), (hs_A pr), (hs_A pc), (hs_A pn), (hs_A pb), (hs_A rF), (hs_A rI), (hs_A rN), (hs_A rU), (hs_A rC), (hs_A rX), (hs_A rP), (hs_A rD), (hs_A gF), (hs_A gC), (hs_A gL), (hs_A gR), (hs_A gP), (hs_A gD), (hs_A gM), (hs_A gO), (hs_A lr), (hs_A ll), (hs_A lR), (hs_A lp), (hs_A lk), (hs_A wn'), (hs_A sk))) : ∀ (d i : Nat) (A : Nat → Int32) (wn : Nat → Nat), i + d = 24 → (∀ x, x < 24 → A x = nI (hs_pj Q a b i x) - 1) → h6_I K (hs_pj Q a b i) wn → wX_join_121 post (nI a) (nI b) (d + 1) (nI i) (nI st) K A (hs_A sz) (hs_A hp) (hs_A pl) (hs_A pr) (hs_A pc) (hs_A pn) (hs_A pb) (hs_A rF) (hs_A rI) (hs_A rN) (hs_A rU) (hs_A rC) (hs_A rX) (hs_A rP) (hs_A rD) (hs_A gF) (hs_A gC) (hs_A gL) (hs_A gR) (hs_A gP) (hs_A gD) (hs_A gM) (hs_A gO) (hs_A lr) (hs_A ll) (hs_A lR) (hs_A lp) (hs_A lk) (hs_A wn) (hs_A sk) := by
  intro d
  induction d with
  | zero =>
    intro i A wn hi hA h6
    have : i = 24 := by omega
    subst this
    rw [hs_pj24 h24] at hA h6
    have s1 := hz a ha
    have s2 := hz b hb
    have c2 := hs_ct_2 (Q := Q) hab
    have cj := hs_ct_j (Q := Q) (p := a) hab
    rw [hs_sn hab, hs_ss] at cj
    rw [wX_join_121]
    refine br_t (by decide) ?_
    refine hs_in a ha (hs_in b hb (hs_w a (sz a + sz b) ha (by omega) ?_ rfl (by rw [hs_rd a (by omega), hs_rd b (by omega), nI_add])))
    refine hs_wn b 0 hb (by omega) (hs_in a ha ?_)
    have er : hs_A (hs_s (hs_s sz a (sz a + sz b)) b 0) (nI a).toNatClampNeg = nI (hs_ct (hs_jQ Q a b) a) := by
      rw [hs_rd a (by omega), hs_sn hab, hs_ss, cj, s1, s2]
    rw [er]
    refine hpost A _ wn hA (fun p hp => ?_) h6
    rw [hs_ct_j hab]
    by_cases eb : p = b
    · rw [hs_se eb, hs_se eb]
    · rw [hs_sn eb, hs_sn eb]
      by_cases ea : p = a
      · rw [hs_se ea, hs_se ea, s1, s2]
      · rw [hs_sn ea, hs_sn ea]; exact hz p hp
  | succ d ih =>
    intro i A wn hi hA h6
    have i24 : i < 24 := by omega
    have ci : (nI i).toNatClampNeg = i := nI_clamp (by omega)
    have q4 := hQ4 i
    have pi : hs_pj Q a b i i = Q i := by unfold hs_pj; rw [if_neg (by omega)]
    have Ai : A i = nI (Q i) - 1 := by rw [hA i i24, pi]
    have eqb : ∀ j, j ≤ 4 → ∀ c, c < 4 → (nI j - 1 = nI c ↔ j = c + 1) := by decide
    rw [wX_join_121]
    refine pk_le 24 i (fun h => by omega) (fun _ => ⟨vp_in_nI i24 (by decide), ?_⟩)
    rw [ci, Ai]
    by_cases e : Q i = b + 1
    · refine br_t ((eqb _ q4 b hb).2 e) ?_
      have pb : hs_pj Q a b i i = b + 1 := by rw [pi]; exact e
      refine h6_play (Q := hs_s (hs_pj Q a b i) i 0) (q := b) (x := i) (b := 0) hb i24 (by omega) ⟨fun h => by omega, fun h => by rw [hs_ss] at h; omega⟩ (h6_pre (K := K) (Q := hs_pj Q a b i) h6 (fun _ _ => rfl) (fun j hj => hs_sn hj) (fun p hp hne => ⟨by omega, by rw [hs_ss]; omega⟩)) (fun wn1 j1 => ?_)
      dsimp only
      refine h6_play (Q := hs_s (hs_pj Q a b i) i (a + 1)) (q := a) (x := i) (b := 1) ha i24 (by omega) ⟨fun _ => hs_ss, fun _ => rfl⟩ (h6_pre (K := K) (Q := hs_s (hs_pj Q a b i) i 0) j1 (fun _ _ => rfl) (fun j hj => by rw [hs_sn hj, hs_sn hj]) (fun p hp hne => ⟨by rw [hs_ss]; omega, by rw [hs_ss]; omega⟩)) (fun wn2 j2 => ?_)
      dsimp only
      refine ⟨vp_in_nI i24 (by decide), nm_r (e' := upd A i (nI a)) (by rw [hs_nc (v := a) (by omega)]) (nm_r (nI_1 _) ?_)⟩
      rw [← hs_pj_y e] at j2
      refine ih (i + 1) _ wn2 (by omega) (fun x hx => ?_) j2
      rw [hs_pj_y e]
      by_cases ex : x = i
      · rw [ex, pk_us, hs_ss, nI_pred]
      · rw [pk_un ex, hs_sn ex]; exact hA x hx
    · refine br_f (fun h => e ((eqb _ q4 b hb).1 h)) (nm_r (nI_1 _) ?_)
      rw [← hs_pj_n e] at h6
      refine ih (i + 1) A wn (by omega) (fun x hx => ?_) h6
      rw [hs_pj_n e]; exact hA x hx
end
theorem i_vc_join {k : Nat} {u : SX} {v : SY} (I : i_Rel k u v) (hk : k + 3 ≤ 1536) (v1 : Int32) (v2 : Int32) : wpX_join (fun r u' => wpY_join (fun r' v' => r' = r ∧ i_Rel (k + 3) u' v') v v1 v2) u v1 v2 := by
  refine hs_el (P := fun u v => wpX_join (fun r u' => wpY_join (fun r' v' => r' = r ∧ i_Rel (k + 3) u' v') v v1 v2) u v1 v2) I ?_
  intro st K A Q sz hp pl pr pc pn pb rF rI rN rU rC rX rP rD gF gC gL gR gP gD gM gO lr ll lR lp lk wn sk hJ
  have R := hs_rel (k := k + 3) (st := st) (gO := gO) (sk := sk) hJ
  obtain ⟨hA, hQ4, hKk, hz, i0, i1, i2, i3, i4, i5, i6⟩ := hJ
  have h24 : ∀ z, 24 ≤ z → Q z = 0 := fun z hz => (hKk z).2 hz
  unfold wpX_join
  dsimp only
  rcases hs_qc v1 with h | ⟨a, ha, rfl⟩
  · exact hx_Q0 h (br_t rfl (hy_join0 (Or.inl h) ⟨rfl, R⟩))
  · rcases hs_qc v2 with h | ⟨b, hb, rfl⟩
    · exact hx_Q1 ha (br_f (by decide) (hx_Q0 h (br_t rfl (hy_join0 (Or.inr ⟨a, ha, rfl, Or.inl h⟩) ⟨rfl, R⟩))))
    · refine hx_Q1 ha (br_f (by decide) (hx_Q1 hb (br_f (by decide) ?_)))
      refine pk_eq a b (fun e => hy_join0 (Or.inr ⟨a, ha, rfl, Or.inr ⟨b, hb, rfl, e⟩⟩) ⟨rfl, R⟩) (fun hab => ?_)
      have c2 := hs_ct_2 (Q := Q) hab
      have hQ4' : ∀ z, hs_jQ Q a b z ≤ 4 := fun z => by
        unfold hs_jQ
        have := hQ4 z
        split <;> omega
      refine h0_join a b ha hb hab i0 c2 (hz a ha) (hz b hb) (fun hp' pl' j0 => ?_)
      dsimp only
      refine hs_in a ha (hs_in b hb ?_)
      refine h1_join a b ha hb hab i1 (fun r pc' pn' pb' r24 j1 => ?_) (hs_rd a (by omega)) (hs_rd b (by omega))
      dsimp only
      refine hs_w a r ha (by omega) (hs_wn b 24 hb (by omega) ?_)
      refine hs_in a ha (hs_in b hb ?_)
      refine h2_join a b ha hb hab i2 (fun r2 rC' rX' rP' rD' r24' j2 => ?_) (hs_rd a (by omega)) (hs_rd b (by omega))
      dsimp only
      refine hs_w a r2 ha (by omega) (hs_wn b 24 hb (by omega) ?_)
      refine h3_join a b ha hb hab i3 (fun gF' gL' gR' j3 => ?_)
      dsimp only
      refine h4_join 0 0 a b (Or.inl ⟨rfl, rfl⟩) ha hb hab i4 (fun st1 sk1 lr1 ll1 lR1 lp1 lk1 j4 f4 g4 => ?_)
      dsimp only
      have i5' : h4_I 25 K Q (fun p => lr1 (4 + p)) ll1 lR1 lp1 lk1 := h4_I_fr i5 (fun p _ => g4 _ (by omega)) hQ4 (fun j h1 h2 => f4 j (Or.inr (by omega)))
      refine h4_join 25 4 a b (Or.inr ⟨rfl, rfl⟩) ha hb hab i5' (fun st2 sk2 lr2 ll2 lR2 lp2 lk2 j5 f5 g5 => ?_)
      dsimp only
      have j4' : h4_I 0 K (hs_jQ Q a b) (fun p => lr2 (0 + p)) ll2 lR2 lp2 lk2 := h4_I_fr j4 (fun p hp => g5 _ (by omega)) hQ4' (fun j h1 h2 => f5 j (Or.inl (by omega)))
      refine ⟨25, hx_jL (K := K) (Q := Q) hQ4 h24 ha hb hab hz (fun A' sz' wn' hA' hz' j6 => ?_) 24 0 A wn (by omega) (fun x hx => by rw [hs_pj0]; exact hA x hx) (by rw [hs_pj0]; exact i6)⟩
      refine hy_join hQ4 h24 ha hb hab ⟨rfl, ?_⟩
      refine hs_rel ⟨hA', hQ4', fun z => ⟨(hKk z).1, fun h => ?_⟩, hz', h0_cg j0 (fun p _ => hs_ct_j hab), j1, j2, j3, j4', j5, j6⟩
      unfold hs_jQ
      rw [if_neg (by rw [h24 z h]; omega)]; exact h24 z h
end
