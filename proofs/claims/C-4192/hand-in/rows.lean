section
/-! numbers: rows of the kit (pk_, pasted) and small ones of my own -/
theorem pk_us {f : Nat → Int32} {k : Nat} {x : Int32} : upd f k x k = x := if_pos rfl
theorem pk_un {f : Nat → Int32} {k j : Nat} {x : Int32} (h : j ≠ k) : upd f k x j = f j := if_neg h
theorem pk_sub {a b : Nat} (h : b ≤ a) : nI a - nI b = nI (a - b) := by
  obtain ⟨c, rfl⟩ : ∃ c, a = c + b := ⟨a - b, by omega⟩
  rw [← nI_add, Int32.add_sub_cancel, Nat.add_sub_cancel]
theorem pk_m1 (n : Nat) : nI (n + 1) + (-1) = nI n := by
  rw [← nI_1, Int32.add_assoc, show (1 : Int32) + (-1) = 0 from rfl, Int32.add_zero]
theorem pk_mul (a b : Nat) : nI a * nI b = nI (a * b) := (Int32.ofNat_mul a b).symm
theorem pk_div {a d : Nat} (ha : a < 2 ^ 31) (h0 : 0 < d) (hd : d < 2 ^ 31) : nI a / nI d = nI (a / d) := by
  apply Int32.toInt_inj.mp
  rw [lg_idiv_nonneg (by rw [nI_toInt ha]; omega) (by rw [nI_toInt hd]; omega), nI_toInt ha, nI_toInt hd, nI_toInt (Nat.lt_of_le_of_lt (Nat.div_le_self a d) ha)]
  first | rfl | exact (Int.natCast_ediv _ _).symm
theorem pk_ix (x : Int32) {n : Nat} (hn : n < 2 ^ 31) : x < 0 ∨ nI n ≤ x ∨ ∃ j : Nat, j < n ∧ x = nI j := by
  by_cases h : x < 0
  · exact Or.inl h
  · obtain ⟨j, hj, rfl⟩ := nI_of h
    by_cases h2 : j < n
    · exact Or.inr (Or.inr ⟨j, h2, rfl⟩)
    · exact Or.inr (Or.inl (nI_le (by omega) hj))
theorem pk_le {x y : Int32} {A B : Prop} (a b : Nat) (f : a ≤ b → A) (g : b < a → B) (hx : x = nI a := by rfl) (hy : y = nI b := by rfl) (ha : a < 2 ^ 31 := by omega) (hb : b < 2 ^ 31 := by omega) : (x ≤ y → A) ∧ (¬ x ≤ y → B) := by
  subst hx hy
  rw [nI_leI ha hb]
  exact ⟨f, fun z => g (by omega)⟩
theorem pk_lt {x y : Int32} {A B : Prop} (a b : Nat) (f : a < b → A) (g : b ≤ a → B) (hx : x = nI a := by rfl) (hy : y = nI b := by rfl) (ha : a < 2 ^ 31 := by omega) (hb : b < 2 ^ 31 := by omega) : (x < y → A) ∧ (¬ x < y → B) := by
  subst hx hy
  rw [nI_ltI ha hb]
  exact ⟨f, fun z => g (by omega)⟩
theorem pk_eq {x y : Int32} {A B : Prop} (a b : Nat) (f : a = b → A) (g : a ≠ b → B) (hx : x = nI a := by rfl) (hy : y = nI b := by rfl) (ha : a < 2 ^ 31 := by omega) (hb : b < 2 ^ 31 := by omega) : (x = y → A) ∧ (¬ x = y → B) := by
  subst hx hy
  rw [nI_eq ha hb]
  exact ⟨f, g⟩
theorem pk_in {x : Int32} (n N : Nat) (h : n < N) (hx : x = nI n := by rfl) (hN : N < 2 ^ 31 := by omega) : vp_in x N := by
  subst hx
  exact vp_in_nI h hN
theorem pk_cl {x : Int32} (n : Nat) (hx : x = nI n := by rfl) (h : n < 2 ^ 31 := by omega) : x.toNatClampNeg = n := by
  subst hx
  exact nI_clamp h
theorem dt_m1lt : (-1 : Int32) < 0 := by decide
theorem dt_m1n : ¬ (0 : Int32) ≤ -1 := by decide
theorem dt_ne1 {a : Nat} (h : a < 2 ^ 31) : ¬ nI a = -1 := by
  intro e
  have := nI_pos (n := a) h
  rw [e] at this
  exact this dt_m1lt
theorem dt_m {n : Nat} (h : 0 < n) : nI n + (-1) = nI (n - 1) := by
  obtain ⟨m, rfl⟩ : ∃ m, n = m + 1 := ⟨n - 1, by omega⟩
  exact pk_m1 m
theorem dt_s {n : Nat} (h : 0 < n) : nI n - 1 = nI (n - 1) := by
  obtain ⟨m, rfl⟩ : ∃ m, n = m + 1 := ⟨n - 1, by omega⟩
  exact nI_pred m
theorem dt_0m1 : (nI 0 : Int32) - 1 = -1 := by decide
theorem dt_im {a b : Nat} (h : nI a = nI b) (ha : a < 2 ^ 31) (hb : b < 2 ^ 31) : a = b := (nI_eq ha hb).mp h
theorem dt_vb0 : vp_nar .boolean 0 = 0 := by decide
theorem dt_vb1 : vp_nar .boolean 1 = 1 := by decide
theorem dt_lt0 {a : Nat} (h : a < 2 ^ 31) : ¬ nI a < 0 := nI_pos h
theorem dt_12 (p : Nat) : 12 * nI p = nI (12 * p) := pk_mul 12 p
theorem dt_6 (p : Nat) : 6 * nI p = nI (6 * p) := pk_mul 6 p
theorem dt_a6 (p : Nat) : nI p + 6 = nI (p + 6) := nI_add p 6
theorem dt_a12 (p : Nat) : nI p + 12 = nI (p + 12) := nI_add p 12
theorem dt_d2 {a : Nat} (h : a < 2 ^ 31) : nI a / 2 = nI (a / 2) := pk_div h (by decide) (by decide)
theorem dt_22 : ¬ (2 : Int32) = 0 := by decide
/-! a natural number in an array -/
def dt_n (a : Nat → Int32) (j : Nat) : Nat := (a j).toNatClampNeg
theorem dt_n_of {a : Nat → Int32} {j x : Nat} (h : a j = nI x) (hx : x < 2 ^ 31) : dt_n a j = x := by
  rw [dt_n, h, nI_clamp hx]
theorem dt_n_eq {a b : Nat → Int32} {i j : Nat} (h : a i = b j) : dt_n a i = dt_n b j := by
  rw [dt_n, dt_n, h]
theorem dt_n_us {a : Nat → Int32} {i x : Nat} (hx : x < 2 ^ 31) : dt_n (upd a i (nI x)) i = x := dt_n_of pk_us hx
theorem dt_n_un {a : Nat → Int32} {i j : Nat} {v : Int32} (h : j ≠ i) : dt_n (upd a i v) j = dt_n a j := dt_n_eq (pk_un h)
/-! an update of any function -/
def dt_up {α : Type} (f : Nat → α) (i : Nat) (x : α) : Nat → α := fun j => if j = i then x else f j
theorem dt_up_s {α : Type} {f : Nat → α} {i : Nat} {x : α} : dt_up f i x i = x := if_pos rfl
theorem dt_up_n {α : Type} {f : Nat → α} {i j : Nat} {x : α} (h : j ≠ i) : dt_up f i x j = f j := if_neg h
/-! counting -/
def dt_cn (f : Nat → Bool) : Nat → Nat
  | 0 => 0
  | n + 1 => dt_cn f n + (if f n = true then 1 else 0)
theorem dt_cn_s {f : Nat → Bool} {n : Nat} : dt_cn f (n + 1) = dt_cn f n + (if f n = true then 1 else 0) := rfl
theorem dt_cn_t {f : Nat → Bool} {n : Nat} (h : f n = true) : dt_cn f (n + 1) = dt_cn f n + 1 := by
  rw [dt_cn_s, if_pos h]
theorem dt_cn_f {f : Nat → Bool} {n : Nat} (h : f n = false) : dt_cn f (n + 1) = dt_cn f n := by
  rw [dt_cn_s, if_neg (by rw [h]; decide)]; rfl
theorem dt_cn_le (f : Nat → Bool) : ∀ n, dt_cn f n ≤ n
  | 0 => Nat.le_refl 0
  | n + 1 => by
    have := dt_cn_le f n
    rw [dt_cn_s]
    split <;> omega
theorem dt_cn_congr {f g : Nat → Bool} : ∀ {n : Nat}, (∀ i, i < n → f i = g i) → dt_cn f n = dt_cn g n
  | 0, _ => rfl
  | n + 1, h => by
    rw [dt_cn_s, dt_cn_s, h n (by omega), dt_cn_congr (fun i hi => h i (by omega))]
theorem dt_cn_mono {f g : Nat → Bool} : ∀ {n : Nat}, (∀ i, i < n → f i = true → g i = true) → dt_cn f n ≤ dt_cn g n
  | 0, _ => Nat.le_refl 0
  | n + 1, h => by
    have := dt_cn_mono (f := f) (g := g) (n := n) (fun i hi => h i (by omega))
    have h2 := h n (by omega)
    rw [dt_cn_s, dt_cn_s]
    by_cases e : f n = true
    · rw [if_pos e, if_pos (h2 e)]; omega
    · rw [if_neg e]; omega
theorem dt_cn_lt {f g : Nat → Bool} {j : Nat} : ∀ {n : Nat}, (∀ i, i < n → f i = true → g i = true) → j < n → f j = false → g j = true → dt_cn f n < dt_cn g n
  | 0, _, hj, _, _ => absurd hj (Nat.not_lt_zero j)
  | n + 1, h, hj, hf, hg => by
    by_cases e : j = n
    · subst e
      have := dt_cn_mono (f := f) (g := g) (n := j) (fun i hi => h i (by omega))
      rw [dt_cn_f hf, dt_cn_t hg]; omega
    · have := dt_cn_lt (f := f) (g := g) (n := n) (fun i hi => h i (by omega)) (by omega) hf hg
      have h2 := h n (by omega)
      rw [dt_cn_s, dt_cn_s]
      by_cases e : f n = true
      · rw [if_pos e, if_pos (h2 e)]; omega
      · rw [if_neg e]; omega
theorem dt_cn_set {f g : Nat → Bool} {j : Nat} : ∀ {n : Nat}, (∀ i, i < n → i ≠ j → f i = g i) → j < n → f j = false → g j = true → dt_cn g n = dt_cn f n + 1
  | 0, _, hj, _, _ => absurd hj (Nat.not_lt_zero j)
  | n + 1, h, hj, hf, hg => by
    by_cases e : j = n
    · subst e
      rw [dt_cn_f hf, dt_cn_t hg, dt_cn_congr (f := f) (g := g) (n := j) (fun i hi => h i (by omega) (by omega))]
    · have := dt_cn_set (f := f) (g := g) (n := n) (fun i hi => h i (by omega)) (by omega) hf hg
      rw [dt_cn_s, dt_cn_s, h n (by omega) (by omega), this]
      omega
theorem dt_cn_gap {f : Nat → Bool} {a : Nat} : ∀ {b : Nat}, a ≤ b → (∀ k, a ≤ k → k < b → f k = false) → dt_cn f b = dt_cn f a
  | 0, h, _ => by rw [show a = 0 by omega]
  | b + 1, h, hf => by
    by_cases e : a = b + 1
    · rw [e]
    · rw [dt_cn_f (hf b (by omega) (by omega)), dt_cn_gap (by omega) (fun k h1 h2 => hf k h1 (by omega))]
theorem dt_cn_up {f : Nat → Bool} {a : Nat} : ∀ {b : Nat}, a ≤ b → dt_cn f a ≤ dt_cn f b
  | 0, h => by rw [show a = 0 by omega]; exact Nat.le_refl _
  | b + 1, h => by
    by_cases e : a = b + 1
    · rw [e]; exact Nat.le_refl _
    · have := dt_cn_up (f := f) (a := a) (b := b) (by omega)
      rw [dt_cn_s]; omega
theorem dt_cn_upt {f : Nat → Bool} {a b k : Nat} (h : a ≤ k) (hk : k < b) (hf : f k = true) : dt_cn f a < dt_cn f b := by
  have h1 := dt_cn_up (f := f) h
  have h2 := dt_cn_t hf
  have h3 := dt_cn_up (f := f) (show k + 1 ≤ b by omega)
  omega
end
section
/-! chains in the pool of notes -/
def dt_ch (od : Nat → Int32) : List Nat → Int32 → Prop
  | [], x => x = -1
  | n :: l, x => x = nI n ∧ dt_ch od l (od n)
theorem dt_ch_congr {od od' : Nat → Int32} : ∀ {l : List Nat} {x : Int32}, (∀ n, n ∈ l → od' n = od n) → dt_ch od l x → dt_ch od' l x
  | [], _, _, h => h
  | n :: l, _, hh, h => by
    refine ⟨h.1, ?_⟩
    rw [hh n (List.mem_cons_self ..)]
    exact dt_ch_congr (fun m hm => hh m (List.mem_cons_of_mem _ hm)) h.2
/-- 0 .. 23: the pages' chains, 24: the index's, 25: the free ones -/
def dt_pool (C : Nat → List Nat) (H : Nat → Int32) (od : Nat → Int32) : Prop :=
  (∀ q, q < 26 → dt_ch od (C q) (H q)) ∧ (∀ q, q < 26 → (C q).Nodup) ∧ (∀ q, q < 26 → ∀ n, n ∈ C q → n < 160) ∧
  (∀ q r n, q < 26 → r < 26 → n ∈ C q → n ∈ C r → q = r) ∧ (∀ n, n < 160 → ∃ q, q < 26 ∧ n ∈ C q)
def dt_hd (ch : Nat → Int32) (xc fn : Int32) : Nat → Int32 := fun q => if q < 24 then ch q else if q = 24 then xc else fn
theorem dt_hd_p {ch : Nat → Int32} {xc fn : Int32} {q : Nat} (h : q < 24) : dt_hd ch xc fn q = ch q := if_pos h
theorem dt_hd_x {ch : Nat → Int32} {xc fn : Int32} : dt_hd ch xc fn 24 = xc := rfl
theorem dt_hd_f {ch : Nat → Int32} {xc fn : Int32} : dt_hd ch xc fn 25 = fn := rfl
theorem dt_push_mem {C : Nat → List Nat} {H od : Nat → Int32} {t n : Nat} {L : List Nat} (P : dt_pool C H od) (ht : t < 25) (h25 : C 25 = n :: L) {q m : Nat} (hq : q < 26) : m ∈ dt_up (dt_up C 25 L) t (n :: C t) q ↔ (q = t ∧ m = n) ∨ (m ≠ n ∧ m ∈ C q) := by
  obtain ⟨p1, p2, p3, p4, p5⟩ := P
  have hn : n ∈ C 25 := by rw [h25]; exact List.mem_cons_self ..
  have hd := p2 25 (by decide)
  rw [h25, List.nodup_cons] at hd
  have hx : ∀ r, r < 25 → n ∉ C r := fun r hr hc => by
    have := p4 r 25 n (by omega) (by decide) hc hn
    omega
  by_cases e : q = t
  · subst e
    rw [dt_up_s, List.mem_cons]
    constructor
    · rintro (h | h)
      · exact Or.inl ⟨rfl, h⟩
      · exact Or.inr ⟨fun e => hx q ht (e ▸ h), h⟩
    · rintro (h | h)
      · exact Or.inl h.2
      · exact Or.inr h.2
  · rw [dt_up_n e]
    by_cases e2 : q = 25
    · subst e2
      rw [dt_up_s, h25, List.mem_cons]
      constructor
      · intro h
        exact Or.inr ⟨fun e => hd.1 (e ▸ h), Or.inr h⟩
      · rintro (h | h)
        · exact absurd h.1 e
        · exact h.2.resolve_left h.1
    · rw [dt_up_n e2]
      constructor
      · intro h
        exact Or.inr ⟨fun e => hx q (by omega) (e ▸ h), h⟩
      · rintro (h | h)
        · exact absurd h.1 e
        · exact h.2
theorem dt_pool_push {C : Nat → List Nat} {H H' od : Nat → Int32} {t n : Nat} {L : List Nat} (P : dt_pool C H od) (ht : t < 25) (h25 : C 25 = n :: L) (hH : ∀ q, q < 25 → q ≠ t → H' q = H q) (hT : H' t = nI n) (hF : H' 25 = od n) : dt_pool (dt_up (dt_up C 25 L) t (n :: C t)) H' (upd od n (H t)) := by
  have hm := fun {q m : Nat} (hq : q < 26) => dt_push_mem P ht h25 (q := q) (m := m) hq
  obtain ⟨p1, p2, p3, p4, p5⟩ := P
  have hn : n ∈ C 25 := by rw [h25]; exact List.mem_cons_self ..
  have hd := p2 25 (by decide)
  rw [h25, List.nodup_cons] at hd
  have hx : ∀ r, r < 25 → n ∉ C r := fun r hr hc => by
    have := p4 r 25 n (by omega) (by decide) hc hn
    omega
  refine ⟨?_, ?_, ?_, ?_, ?_⟩
  · intro q hq
    by_cases e : q = t
    · subst e
      rw [dt_up_s]
      refine ⟨hT, ?_⟩
      rw [pk_us]
      exact dt_ch_congr (fun m hc => pk_un (fun e => hx q ht (e ▸ hc))) (p1 q hq)
    · rw [dt_up_n e]
      by_cases e2 : q = 25
      · subst e2
        rw [dt_up_s, hF]
        have := p1 25 (by decide)
        rw [h25] at this
        exact dt_ch_congr (fun m hc => pk_un (fun e => hd.1 (e ▸ hc))) this.2
      · rw [dt_up_n e2, hH q (by omega) e]
        exact dt_ch_congr (fun m hc => pk_un (fun e => hx q (by omega) (e ▸ hc))) (p1 q hq)
  · intro q hq
    by_cases e : q = t
    · subst e
      rw [dt_up_s, List.nodup_cons]
      exact ⟨hx q ht, p2 q hq⟩
    · rw [dt_up_n e]
      by_cases e2 : q = 25
      · subst e2
        rw [dt_up_s]; exact hd.2
      · rw [dt_up_n e2]; exact p2 q hq
  · intro q hq m h
    rcases (hm hq).mp h with h | h
    · rw [h.2]; exact p3 25 (by decide) n hn
    · exact p3 q hq m h.2
  · intro q r m hq hr h1 h2
    rcases (hm hq).mp h1 with h1 | h1
    · rcases (hm hr).mp h2 with h2 | h2
      · omega
      · exact absurd h1.2 h2.1
    · rcases (hm hr).mp h2 with h2 | h2
      · exact absurd h2.2 h1.1
      · exact p4 q r m hq hr h1.2 h2.2
  · intro m hm2
    by_cases e : m = n
    · exact ⟨t, by omega, (hm (by omega)).mpr (Or.inl ⟨rfl, e⟩)⟩
    · obtain ⟨q, hq, h⟩ := p5 m hm2
      exact ⟨q, hq, (hm hq).mpr (Or.inr ⟨e, h⟩)⟩
/-! freeing a chain -/
def dt_fo : List Nat → (Nat → Int32) → Int32 → Nat → Int32
  | [], od, _ => od
  | n :: l, od, f => dt_fo l (upd od n f) (nI n)
def dt_ff : List Nat → Int32 → Int32
  | [], f => f
  | n :: l, _ => dt_ff l (nI n)
theorem dt_fo_out : ∀ {l : List Nat} {od : Nat → Int32} {f : Int32} {m : Nat}, m ∉ l → dt_fo l od f m = od m
  | [], _, _, _, _ => rfl
  | n :: l, od, f, m, h => by
    rw [List.mem_cons, not_or] at h
    rw [dt_fo, dt_fo_out h.2, pk_un h.1]
theorem dt_fo_ch : ∀ {l F : List Nat} {od : Nat → Int32} {f : Int32}, l.Nodup → (∀ n, n ∈ l → n ∉ F) → dt_ch od F f → dt_ch (dt_fo l od f) (l.reverse ++ F) (dt_ff l f)
  | [], F, od, f, _, _, h => h
  | n :: l, F, od, f, hd, hx, h => by
    rw [List.nodup_cons] at hd
    rw [dt_fo, dt_ff, List.reverse_cons, List.append_assoc]
    refine dt_fo_ch (F := n :: F) hd.2 ?_ ?_
    · intro m hm hc
      rcases List.mem_cons.mp hc with e | hc
      · exact hd.1 (e ▸ hm)
      · exact hx m (List.mem_cons_of_mem _ hm) hc
    · refine ⟨rfl, ?_⟩
      rw [pk_us]
      exact dt_ch_congr (fun m hc => pk_un (fun e => hx n (List.mem_cons_self ..) (e ▸ hc))) h
theorem dt_free_mem {C : Nat → List Nat} {t : Nat} (ht : t < 25) {q m : Nat} : m ∈ dt_up (dt_up C 25 ((C t).reverse ++ C 25)) t [] q ↔ (q = 25 ∧ (m ∈ C t ∨ m ∈ C 25)) ∨ (q ≠ t ∧ q ≠ 25 ∧ m ∈ C q) := by
  by_cases e : q = t
  · subst e
    rw [dt_up_s]
    constructor
    · intro h; exact absurd h (List.not_mem_nil)
    · rintro (h | h)
      · omega
      · exact absurd rfl h.1
  · rw [dt_up_n e]
    by_cases e2 : q = 25
    · subst e2
      rw [dt_up_s, List.mem_append, List.mem_reverse]
      constructor
      · intro h; exact Or.inl ⟨rfl, h⟩
      · rintro (h | h)
        · exact h.2
        · exact absurd rfl h.2.1
    · rw [dt_up_n e2]
      constructor
      · intro h; exact Or.inr ⟨e, e2, h⟩
      · rintro (h | h)
        · exact absurd h.1 e2
        · exact h.2.2
theorem dt_pool_free {C : Nat → List Nat} {H H' od : Nat → Int32} {t : Nat} (P : dt_pool C H od) (ht : t < 25) (hH : ∀ q, q < 25 → q ≠ t → H' q = H q) (hT : H' t = -1) (hF : H' 25 = dt_ff (C t) (H 25)) : dt_pool (dt_up (dt_up C 25 ((C t).reverse ++ C 25)) t []) H' (dt_fo (C t) od (H 25)) := by
  obtain ⟨p1, p2, p3, p4, p5⟩ := P
  have hx : ∀ n, n ∈ C t → n ∉ C 25 := fun n h1 h2 => by
    have := p4 t 25 n (by omega) (by decide) h1 h2
    omega
  refine ⟨?_, ?_, ?_, ?_, ?_⟩
  · intro q hq
    by_cases e : q = t
    · subst e
      rw [dt_up_s]; exact hT
    · rw [dt_up_n e]
      by_cases e2 : q = 25
      · subst e2
        rw [dt_up_s, hF]
        exact dt_fo_ch (p2 t (by omega)) hx (p1 25 (by decide))
      · rw [dt_up_n e2, hH q (by omega) e]
        exact dt_ch_congr (fun m hc => dt_fo_out (fun h => e (p4 q t m hq (by omega) hc h))) (p1 q hq)
  · intro q hq
    by_cases e : q = t
    · subst e
      rw [dt_up_s]; exact List.nodup_nil
    · rw [dt_up_n e]
      by_cases e2 : q = 25
      · subst e2
        rw [dt_up_s, List.nodup_append]
        refine ⟨by rw [List.Nodup, List.pairwise_reverse]; exact (p2 t (by omega)).imp Ne.symm, p2 25 (by decide), ?_⟩
        intro a ha b hb e
        exact hx a (List.mem_reverse.mp ha) (e ▸ hb)
      · rw [dt_up_n e2]; exact p2 q hq
  · intro q hq m h
    rcases (dt_free_mem ht).mp h with h | h
    · rcases h.2 with h | h
      · exact p3 t (by omega) m h
      · exact p3 25 (by decide) m h
    · exact p3 q hq m h.2.2
  · intro q r m hq hr h1 h2
    rcases (dt_free_mem ht).mp h1 with h1 | h1
    · rcases (dt_free_mem ht).mp h2 with h2 | h2
      · omega
      · rcases h1.2 with h | h
        · exact absurd (p4 t r m (by omega) hr h h2.2.2).symm h2.1
        · exact absurd (p4 25 r m (by omega) hr h h2.2.2).symm h2.2.1
    · rcases (dt_free_mem ht).mp h2 with h2 | h2
      · rcases h2.2 with h | h
        · exact absurd (p4 t q m (by omega) hq h h1.2.2).symm h1.1
        · exact absurd (p4 25 q m (by omega) hq h h1.2.2).symm h1.2.1
      · exact p4 q r m hq hr h1.2.2 h2.2.2
  · intro m hm
    obtain ⟨q, hq, h⟩ := p5 m hm
    by_cases e : q = t ∨ q = 25
    · refine ⟨25, by decide, (dt_free_mem ht).mpr (Or.inl ⟨rfl, ?_⟩)⟩
      rcases e with e | e
      · exact Or.inl (e ▸ h)
      · exact Or.inr (e ▸ h)
    · exact ⟨q, hq, (dt_free_mem ht).mpr (Or.inr ⟨fun e2 => e (Or.inl e2), fun e2 => e (Or.inr e2), h⟩)⟩
/-! there is always a free note: counting -/
theorem dt_sub_len : ∀ {l m : List Nat}, l.Nodup → (∀ x, x ∈ l → x ∈ m) → l.length ≤ m.length
  | [], _, _, _ => Nat.zero_le _
  | a :: l, m, hd, h => by
    rw [List.nodup_cons] at hd
    have ha : a ∈ m := h a (List.mem_cons_self ..)
    have h2 : ∀ x, x ∈ l → x ∈ m.erase a := fun x hx => by
      have hne : x ≠ a := fun e => hd.1 (e ▸ hx)
      exact (List.mem_erase_of_ne hne).mpr (h x (List.mem_cons_of_mem _ hx))
    have := dt_sub_len hd.2 h2
    rw [List.length_erase_of_mem ha] at this
    have hp : 0 < m.length := List.length_pos_of_mem ha
    rw [List.length_cons]; omega
def dt_cat (C : Nat → List Nat) : Nat → List Nat
  | 0 => []
  | n + 1 => C n ++ dt_cat C n
theorem dt_cat_mem {C : Nat → List Nat} {x : Nat} : ∀ {n q : Nat}, q < n → x ∈ C q → x ∈ dt_cat C n
  | 0, q, h, _ => absurd h (Nat.not_lt_zero q)
  | n + 1, q, h, hx => by
    rw [dt_cat, List.mem_append]
    by_cases e : q = n
    · exact Or.inl (e ▸ hx)
    · exact Or.inr (dt_cat_mem (by omega) hx)
theorem dt_cat_len {C : Nat → List Nat} : ∀ {n : Nat}, (∀ q, q < n → (C q).length ≤ 5) → (dt_cat C n).length ≤ 5 * n
  | 0, _ => Nat.le_refl 0
  | n + 1, h => by
    have := dt_cat_len (C := C) (n := n) (fun q hq => h q (by omega))
    have h2 := h n (by omega)
    rw [dt_cat, List.length_append]; omega
theorem dt_pool_room {C : Nat → List Nat} {H od : Nat → Int32} (P : dt_pool C H od) (h : ∀ q, q < 25 → (C q).length ≤ 5) : ∃ n L, C 25 = n :: L := by
  cases e : C 25 with
  | cons n L => exact ⟨n, L, rfl⟩
  | nil =>
    have h1 := dt_sub_len (l := List.range 160) (m := dt_cat C 25) List.nodup_range (fun x hx => by
      obtain ⟨q, hq, hm⟩ := P.2.2.2.2 x (List.mem_range.mp hx)
      by_cases e2 : q = 25
      · rw [e2, e] at hm
        exact absurd hm (List.not_mem_nil)
      · exact dt_cat_mem (by omega) hm)
    have h2 := dt_cat_len h
    rw [List.length_range] at h1
    omega
end
section
/-! maps -/
def dt_set (m : Nat → Option Int32) (key : Nat) (o : Option Int32) : Nat → Option Int32 := fun k => if key = k then o else m k
def dt_lt (m : Nat → Option Int32) (key : Nat) : Nat → Option Int32 := fun k => if k < key then m k else none
def dt_rs (m : Nat → Option Int32) (lo hi : Nat) : Nat → Option Int32 := fun k => if lo ≤ k ∧ k < hi then m k else none
theorem dt_set_s {m : Nat → Option Int32} {key : Nat} {o : Option Int32} : dt_set m key o key = o := if_pos rfl
theorem dt_set_n {m : Nat → Option Int32} {key k : Nat} {o : Option Int32} (h : key ≠ k) : dt_set m key o k = m k := if_neg h
theorem dt_lt_t {m : Nat → Option Int32} {key k : Nat} (h : k < key) : dt_lt m key k = m k := if_pos h
theorem dt_lt_f {m : Nat → Option Int32} {key k : Nat} (h : ¬ k < key) : dt_lt m key k = none := if_neg h
theorem dt_rs_t {m : Nat → Option Int32} {lo hi k : Nat} (h : lo ≤ k) (h2 : k < hi) : dt_rs m lo hi k = m k := if_pos ⟨h, h2⟩
theorem dt_rs_f {m : Nat → Option Int32} {lo hi k : Nat} (h : ¬ (lo ≤ k ∧ k < hi)) : dt_rs m lo hi k = none := if_neg h
/-! a map laid out in order in two arrays -/
def dt_gat (m : Nat → Option Int32) (n : Nat) (gk gv : Nat → Int32) : Prop :=
  (∀ j, j < n → gk j = nI (dt_n gk j) ∧ dt_n gk j < 4096 ∧ m (dt_n gk j) = some (gv j)) ∧
  (∀ i j, i < j → j < n → dt_n gk i < dt_n gk j) ∧ (∀ k x, m k = some x → ∃ j, j < n ∧ dt_n gk j = k)
theorem dt_gat_congr {m : Nat → Option Int32} {n : Nat} {gk gv gk' gv' : Nat → Int32} (h : dt_gat m n gk gv) (hk : ∀ j, j < n → gk' j = gk j) (hv : ∀ j, j < n → gv' j = gv j) : dt_gat m n gk' gv' := by
  obtain ⟨h1, h2, h3⟩ := h
  have e : ∀ j, j < n → dt_n gk' j = dt_n gk j := fun j hj => dt_n_eq (hk j hj)
  refine ⟨?_, ?_, ?_⟩
  · intro j hj
    rw [hk j hj, e j hj, hv j hj]
    exact h1 j hj
  · intro i j hij hj
    rw [e i (by omega), e j hj]
    exact h2 i j hij hj
  · intro k x hx
    obtain ⟨j, hj, hjk⟩ := h3 k x hx
    exact ⟨j, hj, by rw [e j hj]; exact hjk⟩
theorem dt_gat_map {m m' : Nat → Option Int32} {n : Nat} {gk gv : Nat → Int32} (h : dt_gat m n gk gv) (e : ∀ k, m' k = m k) : dt_gat m' n gk gv := by
  rw [show m' = m from funext e]; exact h
theorem dt_gat_none {m : Nat → Option Int32} {n : Nat} {gk gv : Nat → Int32} (h : dt_gat m n gk gv) {k : Nat} (hk : ∀ j, j < n → dt_n gk j ≠ k) : m k = none := by
  cases e : m k with
  | none => rfl
  | some x =>
    obtain ⟨j, hj, hjk⟩ := h.2.2 k x e
    exact absurd hjk (hk j hj)
/-- up to k (not with it) shifted by one upwards, between a and n -/
def dt_sh (g : Nat → Int32) (a n : Nat) : Nat → Int32 := fun j => if a < j ∧ j ≤ n then g (j - 1) else g j
theorem dt_sh_0 (g : Nat → Int32) (n : Nat) : dt_sh g n n = g := by
  funext j
  exact if_neg (by omega)
theorem dt_sh_lo {g : Nat → Int32} {a n j : Nat} (h : j ≤ a) : dt_sh g a n j = g j := if_neg (by omega)
theorem dt_sh_hi {g : Nat → Int32} {a n j : Nat} (h : a < j) (h2 : j ≤ n) : dt_sh g a n j = g (j - 1) := if_pos ⟨h, h2⟩
theorem dt_sh_s {g : Nat → Int32} {a n : Nat} (h : a < n) : upd (dt_sh g (a + 1) n) (a + 1) (dt_sh g (a + 1) n a) = dt_sh g a n := by
  funext j
  by_cases e : j = a + 1
  · subst e
    rw [pk_us, dt_sh_lo (by omega), dt_sh_hi (by omega) (by omega)]; rfl
  · rw [pk_un e]
    by_cases h1 : j ≤ a
    · rw [dt_sh_lo (by omega), dt_sh_lo h1]
    · by_cases h2 : j ≤ n
      · rw [dt_sh_hi (by omega) h2, dt_sh_hi (by omega) h2]
      · rw [dt_sh, dt_sh, if_neg (by omega), if_neg (by omega)]
/-- shifted downwards from a up to x -/
def dt_sl (g : Nat → Int32) (a x : Nat) : Nat → Int32 := fun j => if a ≤ j ∧ j < x then g (j + 1) else g j
theorem dt_sl_0 (g : Nat → Int32) (a : Nat) : dt_sl g a a = g := by
  funext j
  exact if_neg (by omega)
theorem dt_sl_lo {g : Nat → Int32} {a x j : Nat} (h : j < a) : dt_sl g a x j = g j := if_neg (by omega)
theorem dt_sl_hi {g : Nat → Int32} {a x j : Nat} (h : x ≤ j) : dt_sl g a x j = g j := if_neg (by omega)
theorem dt_sl_in {g : Nat → Int32} {a x j : Nat} (h : a ≤ j) (h2 : j < x) : dt_sl g a x j = g (j + 1) := if_pos ⟨h, h2⟩
theorem dt_sl_s {g : Nat → Int32} {a x : Nat} (h : a ≤ x) : upd (dt_sl g a x) x (dt_sl g a x (x + 1)) = dt_sl g a (x + 1) := by
  funext j
  by_cases e : j = x
  · subst e
    rw [pk_us, dt_sl_hi (by omega), dt_sl_in h (by omega)]
  · rw [pk_un e]
    by_cases h1 : j < a
    · rw [dt_sl_lo h1, dt_sl_lo h1]
    · by_cases h2 : j < x
      · rw [dt_sl_in (by omega) h2, dt_sl_in (by omega) (by omega)]
      · rw [dt_sl_hi (by omega), dt_sl_hi (by omega)]
theorem dt_gat_set {m : Nat → Option Int32} {n a key : Nat} {gk gv : Nat → Int32} {x : Int32} (h : dt_gat m n gk gv) (ha : a < n) (hk : gk a = nI key) (hK : key < 4096) : dt_gat (dt_set m key (some x)) n (upd gk a (nI key)) (upd gv a x) := by
  have e : upd gk a (nI key) = gk := by
    funext j
    by_cases e : j = a
    · subst e; rw [pk_us, hk]
    · rw [pk_un e]
  have ea : dt_n gk a = key := dt_n_of hk (by omega)
  rw [e]
  obtain ⟨h1, h2, h3⟩ := h
  refine ⟨?_, h2, ?_⟩
  · intro j hj
    refine ⟨(h1 j hj).1, (h1 j hj).2.1, ?_⟩
    by_cases e : j = a
    · subst e; rw [pk_us, ea, dt_set_s]
    · have : dt_n gk j ≠ key := by
        rcases Nat.lt_or_gt_of_ne e with hl | hl
        · have := h2 j a hl ha; omega
        · have := h2 a j hl hj; omega
      rw [pk_un e, dt_set_n (fun e => this e.symm)]
      exact (h1 j hj).2.2
  · intro k y hy
    by_cases e : key = k
    · exact ⟨a, ha, by omega⟩
    · rw [dt_set_n e] at hy
      exact h3 k y hy
theorem dt_gat_ins {m : Nat → Option Int32} {n a key : Nat} {gk gv : Nat → Int32} {x : Int32} (h : dt_gat m n gk gv) (ha : a ≤ n) (hlo : ∀ j, j < a → dt_n gk j < key) (hhi : ∀ j, a ≤ j → j < n → key < dt_n gk j) (hK : key < 4096) : dt_gat (dt_set m key (some x)) (n + 1) (upd (dt_sh gk a n) a (nI key)) (upd (dt_sh gv a n) a x) := by
  obtain ⟨h1, h2, h3⟩ := h
  have ea : dt_n (upd (dt_sh gk a n) a (nI key)) a = key := dt_n_us (by omega)
  have el : ∀ j, j < a → dt_n (upd (dt_sh gk a n) a (nI key)) j = dt_n gk j := fun j hj => by
    rw [dt_n_un (by omega)]
    exact dt_n_eq (dt_sh_lo (by omega))
  have eh : ∀ j, a < j → j ≤ n → dt_n (upd (dt_sh gk a n) a (nI key)) j = dt_n gk (j - 1) := fun j hj h2 => by
    rw [dt_n_un (by omega)]
    exact dt_n_eq (dt_sh_hi hj h2)
  have ne : ∀ j, j < n → key ≠ dt_n gk j := fun j hj => by
    by_cases h : j < a
    · have := hlo j h; omega
    · have := hhi j (by omega) hj; omega
  refine ⟨?_, ?_, ?_⟩
  · intro j hj
    by_cases e : j = a
    · subst e
      rw [ea, pk_us, pk_us]
      exact ⟨rfl, hK, dt_set_s⟩
    · by_cases hl : j < a
      · rw [el j hl, pk_un e, pk_un e, dt_sh_lo (by omega), dt_sh_lo (by omega)]
        have := h1 j (by omega)
        exact ⟨this.1, this.2.1, by rw [dt_set_n (ne j (by omega))]; exact this.2.2⟩
      · rw [eh j (by omega) (by omega), pk_un e, pk_un e, dt_sh_hi (by omega) (by omega), dt_sh_hi (by omega) (by omega)]
        have := h1 (j - 1) (by omega)
        exact ⟨this.1, this.2.1, by rw [dt_set_n (ne (j - 1) (by omega))]; exact this.2.2⟩
  · intro i j hij hj
    by_cases e : j = a
    · subst e
      rw [ea, el i hij]; exact hlo i hij
    · by_cases hl : j < a
      · rw [el j hl, el i (by omega)]
        exact h2 i j hij (by omega)
      · rw [eh j (by omega) (by omega)]
        by_cases e2 : i = a
        · subst e2
          rw [ea]; exact hhi (j - 1) (by omega) (by omega)
        · by_cases hl2 : i < a
          · rw [el i hl2]
            by_cases e3 : i = j - 1
            · omega
            · exact h2 i (j - 1) (by omega) (by omega)
          · rw [eh i (by omega) (by omega)]
            exact h2 (i - 1) (j - 1) (by omega) (by omega)
  · intro k y hy
    by_cases e : key = k
    · exact ⟨a, by omega, by omega⟩
    · rw [dt_set_n e] at hy
      obtain ⟨j, hj, hjk⟩ := h3 k y hy
      by_cases hl : j < a
      · exact ⟨j, by omega, by rw [el j hl]; exact hjk⟩
      · exact ⟨j + 1, by omega, by rw [eh (j + 1) (by omega) (by omega)]; exact hjk⟩
theorem dt_gat_rem {m : Nat → Option Int32} {n a key : Nat} {gk gv : Nat → Int32} (h : dt_gat m n gk gv) (ha : a < n) (hk : dt_n gk a = key) : dt_gat (dt_set m key none) (n - 1) (dt_sl gk a (n - 1)) (dt_sl gv a (n - 1)) := by
  obtain ⟨h1, h2, h3⟩ := h
  have el : ∀ j, j < a → dt_n (dt_sl gk a (n - 1)) j = dt_n gk j := fun j hj => dt_n_eq (dt_sl_lo hj)
  have eh : ∀ j, a ≤ j → j < n - 1 → dt_n (dt_sl gk a (n - 1)) j = dt_n gk (j + 1) := fun j hj h2 => dt_n_eq (dt_sl_in hj h2)
  have ne : ∀ j, j < n → j ≠ a → key ≠ dt_n gk j := fun j hj hne => by
    rcases Nat.lt_or_gt_of_ne hne with hl | hl
    · have := h2 j a hl ha; omega
    · have := h2 a j hl hj; omega
  refine ⟨?_, ?_, ?_⟩
  · intro j hj
    by_cases hl : j < a
    · rw [el j hl, dt_sl_lo hl, dt_sl_lo hl]
      have := h1 j (by omega)
      exact ⟨this.1, this.2.1, by rw [dt_set_n (ne j (by omega) (by omega))]; exact this.2.2⟩
    · rw [eh j (by omega) hj, dt_sl_in (by omega) hj, dt_sl_in (by omega) hj]
      have := h1 (j + 1) (by omega)
      exact ⟨this.1, this.2.1, by rw [dt_set_n (ne (j + 1) (by omega) (by omega))]; exact this.2.2⟩
  · intro i j hij hj
    by_cases hl : j < a
    · rw [el j hl, el i (by omega)]
      exact h2 i j hij (by omega)
    · rw [eh j (by omega) hj]
      by_cases hl2 : i < a
      · rw [el i hl2]
        exact h2 i (j + 1) (by omega) (by omega)
      · rw [eh i (by omega) (by omega)]
        exact h2 (i + 1) (j + 1) (by omega) (by omega)
  · intro k y hy
    by_cases e : key = k
    · rw [e, dt_set_s] at hy
      exact absurd hy (by simp)
    · rw [dt_set_n e] at hy
      obtain ⟨j, hj, hjk⟩ := h3 k y hy
      by_cases hl : j < a
      · exact ⟨j, by omega, by rw [el j hl]; exact hjk⟩
      · have : j ≠ a := fun e2 => e (by rw [← hk, ← hjk, e2])
        refine ⟨j - 1, by omega, ?_⟩
        rw [eh (j - 1) (by omega) (by omega), show j - 1 + 1 = j by omega]
        exact hjk
theorem dt_gat_cut {m : Nat → Option Int32} {n n' key : Nat} {gk gv : Nat → Int32} (h : dt_gat m n gk gv) (hn : n' ≤ n) (hlo : ∀ j, j < n' → dt_n gk j < key) (hhi : ∀ j, n' ≤ j → j < n → key ≤ dt_n gk j) : dt_gat (dt_lt m key) n' gk gv := by
  obtain ⟨h1, h2, h3⟩ := h
  refine ⟨?_, ?_, ?_⟩
  · intro j hj
    have := h1 j (by omega)
    exact ⟨this.1, this.2.1, by rw [dt_lt_t (hlo j hj)]; exact this.2.2⟩
  · intro i j hij hj
    exact h2 i j hij (by omega)
  · intro k y hy
    by_cases e : k < key
    · rw [dt_lt_t e] at hy
      obtain ⟨j, hj, hjk⟩ := h3 k y hy
      refine ⟨j, ?_, hjk⟩
      apply Nat.lt_of_not_le
      intro hc
      have := hhi j hc hj
      omega
    · rw [dt_lt_f e] at hy
      exact absurd hy (by simp)
/-- a part of an ordered layout -/
theorem dt_gat_sub {m : Nat → Option Int32} {n a b lo hi : Nat} {gk gv : Nat → Int32} (h : dt_gat m n gk gv) (hab : a ≤ b) (hb : b ≤ n) (hlo : ∀ j, j < n → (lo ≤ dt_n gk j ↔ a ≤ j)) (hhi : ∀ j, j < n → (dt_n gk j < hi ↔ j < b)) : dt_gat (dt_rs m lo hi) (b - a) (fun j => gk (a + j)) (fun j => gv (a + j)) := by
  obtain ⟨h1, h2, h3⟩ := h
  have e : ∀ j, dt_n (fun j => gk (a + j)) j = dt_n gk (a + j) := fun j => rfl
  refine ⟨?_, ?_, ?_⟩
  · intro j hj
    have := h1 (a + j) (by omega)
    rw [e j]
    refine ⟨this.1, this.2.1, ?_⟩
    rw [dt_rs_t ((hlo (a + j) (by omega)).mpr (by omega)) ((hhi (a + j) (by omega)).mpr (by omega))]
    exact this.2.2
  · intro i j hij hj
    rw [e i, e j]
    exact h2 _ _ (by omega) (by omega)
  · intro k y hy
    by_cases e2 : lo ≤ k ∧ k < hi
    · rw [dt_rs_t e2.1 e2.2] at hy
      obtain ⟨j, hj, hjk⟩ := h3 k y hy
      have h4 := (hlo j hj).mp (by omega)
      have h5 := (hhi j hj).mp (by omega)
      refine ⟨j - a, by omega, ?_⟩
      rw [e, show a + (j - a) = j by omega]
      exact hjk
    · rw [dt_rs_f e2] at hy
      exact absurd hy (by simp)
/-! what a chain of notes makes of a base -/
def dt_ap (kd ky nv : Nat → Int32) (n : Nat) (m : Nat → Option Int32) : Nat → Option Int32 :=
  if kd n = 2 then dt_lt m (dt_n ky n) else dt_set m (dt_n ky n) (if kd n = 0 then some (nv n) else none)
def dt_pm (kd ky nv : Nat → Int32) (b : Nat → Option Int32) : List Nat → Nat → Option Int32
  | [] => b
  | n :: l => dt_ap kd ky nv n (dt_pm kd ky nv b l)
theorem dt_ap_congr {kd ky nv kd' ky' nv' : Nat → Int32} {n : Nat} {m : Nat → Option Int32} (h1 : kd' n = kd n) (h2 : ky' n = ky n) (h3 : nv' n = nv n) : dt_ap kd' ky' nv' n m = dt_ap kd ky nv n m := by
  rw [dt_ap, dt_ap, h1, h3, dt_n_eq h2]
theorem dt_pm_congr {kd ky nv kd' ky' nv' : Nat → Int32} {b : Nat → Option Int32} : ∀ {l : List Nat}, (∀ n, n ∈ l → kd' n = kd n ∧ ky' n = ky n ∧ nv' n = nv n) → dt_pm kd' ky' nv' b l = dt_pm kd ky nv b l
  | [], _ => rfl
  | n :: l, h => by
    have hn := h n (List.mem_cons_self ..)
    rw [dt_pm, dt_pm, dt_pm_congr (fun m hm => h m (List.mem_cons_of_mem _ hm)), dt_ap_congr hn.1 hn.2.1 hn.2.2]
/-- a page's chain: notes of keys of the page; the oldest may tell where it was divided -/
def dt_cok (kd ky : Nat → Int32) (lo hi : Nat) (E D : Prop) (Q : Nat → Prop) : List Nat → Prop
  | [] => E
  | n :: l => ky n = nI (dt_n ky n) ∧ ((kd n ≠ 2 ∧ lo ≤ dt_n ky n ∧ dt_n ky n < hi ∧ dt_cok kd ky lo hi E D Q l) ∨ (kd n = 2 ∧ l = [] ∧ dt_n ky n = hi ∧ Q n ∧ D))
theorem dt_cok_congr {kd ky kd' ky' : Nat → Int32} {lo hi : Nat} {E D E' D' : Prop} {Q Q' : Nat → Prop} (hE : E → E') (hD : D → D') : ∀ {l : List Nat}, (∀ n, n ∈ l → kd' n = kd n ∧ ky' n = ky n ∧ (Q n → Q' n)) → dt_cok kd ky lo hi E D Q l → dt_cok kd' ky' lo hi E' D' Q' l
  | [], _, h => hE h
  | n :: l, hn, h => by
    have h1 := hn n (List.mem_cons_self ..)
    have h2 : dt_n ky' n = dt_n ky n := dt_n_eq h1.2.1
    refine ⟨by rw [h1.2.1, h2]; exact h.1, ?_⟩
    rw [h1.1, h2]
    rcases h.2 with h | h
    · exact Or.inl ⟨h.1, h.2.1, h.2.2.1, dt_cok_congr hE hD (fun m hm => hn m (List.mem_cons_of_mem _ hm)) h.2.2.2⟩
    · exact Or.inr ⟨h.1, h.2.1, h.2.2.1, h1.2.2 h.2.2.2.1, hD h.2.2.2.2⟩
/-- the note of the division, -1 if there is none -/
def dt_dv (kd : Nat → Int32) : List Nat → Int32
  | [] => -1
  | n :: l => if kd n = 2 then nI n else dt_dv kd l
theorem dt_cok_dv {kd ky : Nat → Int32} {lo hi : Nat} {E D : Prop} {Q : Nat → Prop} : ∀ {l : List Nat}, dt_cok kd ky lo hi E D Q l → (dt_dv kd l = -1 ∧ (∀ n, n ∈ l → kd n ≠ 2) ∧ E) ∨ ∃ n, n ∈ l ∧ dt_dv kd l = nI n ∧ kd n = 2 ∧ ky n = nI hi ∧ dt_n ky n = hi ∧ Q n ∧ D ∧ (∀ m, m ∈ l → kd m = 2 → m = n)
  | [], h => Or.inl ⟨rfl, fun _ hn => absurd hn (List.not_mem_nil), h⟩
  | n :: l, h => by
    rcases h.2 with g | g
    · rw [dt_dv, if_neg g.1]
      rcases dt_cok_dv g.2.2.2 with i | ⟨m, hm, i⟩
      · refine Or.inl ⟨i.1, fun m hm => ?_, i.2.2⟩
        rcases List.mem_cons.mp hm with e | hm
        · rw [e]; exact g.1
        · exact i.2.1 m hm
      · refine Or.inr ⟨m, List.mem_cons_of_mem _ hm, i.1, i.2.1, i.2.2.1, i.2.2.2.1, i.2.2.2.2.1, i.2.2.2.2.2.1, fun r hr hk => ?_⟩
        rcases List.mem_cons.mp hr with e | hr
        · rw [e] at hk; exact absurd hk g.1
        · exact i.2.2.2.2.2.2 r hr hk
    · rw [dt_dv, if_pos g.1]
      refine Or.inr ⟨n, List.mem_cons_self .., rfl, g.1, ?_, g.2.2.1, g.2.2.2.1, g.2.2.2.2, fun r hr hk => ?_⟩
      · rw [← g.2.2.1]; exact h.1
      · rw [g.2.1] at hr
        rcases List.mem_cons.mp hr with e | hr
        · exact e
        · exact absurd hr (List.not_mem_nil)
end
section
/-! the invariant -/
def dt_par (us : Nat → Int32) (fk en : Nat → Nat) : Prop :=
  (∀ p, p < 24 → us p ≠ 0 → fk p < en p ∧ en p ≤ 4096) ∧ (∀ k, k < 4096 → ∃ p, p < 24 ∧ us p ≠ 0 ∧ fk p ≤ k ∧ k < en p) ∧
  (∀ p q, p < 24 → q < 24 → us p ≠ 0 → us q ≠ 0 → p ≠ q → en p ≤ fk q ∨ en q ≤ fk p)
theorem dt_par_uniq {us : Nat → Int32} {fk en : Nat → Nat} (P : dt_par us fk en) {p q k : Nat} (hp : p < 24) (hq : q < 24) (up : us p ≠ 0) (uq : us q ≠ 0) (h1 : fk p ≤ k) (h2 : k < en p) (h3 : fk q ≤ k) (h4 : k < en q) : p = q := by
  by_cases e : p = q
  · exact e
  · have := P.2.2 p q hp hq up uq e
    omega
theorem dt_par_next {us : Nat → Int32} {fk en : Nat → Nat} (P : dt_par us fk en) {p : Nat} (hp : p < 24) (up : us p ≠ 0) (h : en p < 4096) : ∃ q, q < 24 ∧ us q ≠ 0 ∧ fk q = en p := by
  obtain ⟨q, hq, uq, h1, h2⟩ := P.2.1 (en p) h
  refine ⟨q, hq, uq, ?_⟩
  have hp1 := P.1 p hp up
  have hne : p ≠ q := fun e => by rw [← e] at h1 h2; omega
  have := P.2.2 p q hp hq up uq hne
  omega
/-- the first keys tell the pages apart -/
theorem dt_par_fk {us : Nat → Int32} {fk en : Nat → Nat} (P : dt_par us fk en) {p q : Nat} (hp : p < 24) (hq : q < 24) (up : us p ≠ 0) (uq : us q ≠ 0) (h : fk p = fk q) : p = q := by
  have h1 := P.1 p hp up
  have h2 := P.1 q hq uq
  exact dt_par_uniq P hp hq up uq (k := fk p) (by omega) (by omega) (by omega) (by omega)
theorem dt_par_en {us : Nat → Int32} {fk en : Nat → Nat} (P : dt_par us fk en) {p q : Nat} (hp : p < 24) (hq : q < 24) (up : us p ≠ 0) (uq : us q ≠ 0) (h : en p = en q) : p = q := by
  have h1 := P.1 p hp up
  have h2 := P.1 q hq uq
  exact dt_par_uniq P hp hq up uq (k := en p - 1) (by omega) (by omega) (by omega) (by omega)
/-- one page: its base, its chain, and what they say -/
def dt_pg (C : Nat → List Nat) (fk en : Nat → Nat) (M : Nat → Option Int32) (us bc bk bv be kd ky nv : Nat → Int32) (p : Nat) : Prop :=
  ∃ (b : Nat → Option Int32) (c : Nat), c ≤ 12 ∧ bc p = nI c ∧ dt_gat b c (fun j => bk (12 * p + j)) (fun j => bv (12 * p + j)) ∧
    dt_cok kd ky (fk p) (en p) (be p = nI (en p) ∧ c ≤ 8) (∃ h, h ≤ 8 ∧ ∀ j, h ≤ j → j < c → en p ≤ dt_n bk (12 * p + j)) (fun n => ∃ q, q < 24 ∧ us q ≠ 0 ∧ nv n = nI q ∧ fk q = en p) (C p) ∧
    dt_pm kd ky nv b (C p) = dt_rs M (fk p) (en p)
/-- the index knows page q -/
def dt_kn (l : List Nat) (nv : Nat → Int32) (m : Nat) (ip : Nat → Int32) (q : Nat) : Prop := (∃ j, j < m ∧ ip j = nI q) ∨ ∃ n, n ∈ l ∧ nv n = nI q
/-- the index's own part: base m entries, chain l -/
def dt_ix (l : List Nat) (fk : Nat → Nat) (us ky nv : Nat → Int32) (m : Nat) (ik ip : Nat → Int32) : Prop :=
  1 ≤ m ∧ m ≤ 24 ∧ (∀ j, j < m → ∃ q, q < 24 ∧ us q ≠ 0 ∧ ip j = nI q ∧ ik j = nI (fk q)) ∧
  (∀ i j, i < j → j < m → dt_n ik i < dt_n ik j) ∧ ik 0 = 0 ∧
  (∀ n, n ∈ l → ∃ q, q < 24 ∧ us q ≠ 0 ∧ nv n = nI q ∧ ky n = nI (fk q)) ∧
  (l.map (dt_n ky)).Nodup ∧ (∀ n, n ∈ l → ∀ j, j < m → dt_n ky n ≠ dt_n ik j)
/-- a page that the index doesn't know is told of by a division -/
def dt_rc (C : Nat → List Nat) (us kd nv : Nat → Int32) (m : Nat) (ip : Nat → Int32) : Prop :=
  ∀ q, q < 24 → us q ≠ 0 → dt_kn (C 24) nv m ip q ∨ ∃ p, p < 24 ∧ us p ≠ 0 ∧ ∃ n, n ∈ C p ∧ kd n = 2 ∧ nv n = nI q
def dt_len (C : Nat → List Nat) (cl : Nat → Int32) (xl : Int32) : Prop :=
  (∀ q, q < 24 → cl q = nI (C q).length ∧ (C q).length ≤ 5) ∧ xl = nI (C 24).length ∧ (C 24).length ≤ 4
def dt_XI (C : Nat → List Nat) (fk en : Nat → Nat) (M : Nat → Option Int32) (mx : Nat) (fn xc xl xn : Int32) (us ch cl bc bk bv be kd ky nv od ik ip : Nat → Int32) : Prop :=
  dt_pool C (dt_hd ch xc fn) od ∧ dt_len C cl xl ∧ dt_par us fk en ∧ (∀ p, p < 24 → us p ≠ 0 → dt_pg C fk en M us bc bk bv be kd ky nv p) ∧
  (∀ p, p < 24 → us p = 0 → C p = []) ∧ (xn = nI mx ∧ dt_ix (C 24) fk us ky nv mx ik ip ∧ dt_rc C us kd nv mx ip)
/-- every chain is short -/
def dt_q4 (C : Nat → List Nat) : Prop := ∀ q, q < 24 → (C q).length ≤ 4
theorem dt_cok_key {kd ky : Nat → Int32} {lo hi : Nat} {E D : Prop} {Q : Nat → Prop} : ∀ {l : List Nat}, dt_cok kd ky lo hi E D Q l → ∀ m, m ∈ l → ky m = nI (dt_n ky m) ∧ dt_n ky m ≤ hi ∧ (kd m = 2 → dt_n ky m = hi)
  | [], _, m, hm => absurd hm (List.not_mem_nil)
  | n :: l, h, m, hm => by
    rcases List.mem_cons.mp hm with e | hm
    · subst e
      refine ⟨h.1, ?_⟩
      rcases h.2 with g | g
      · exact ⟨by omega, fun k => absurd k g.1⟩
      · exact ⟨by omega, fun _ => g.2.2.1⟩
    · rcases h.2 with g | g
      · exact dt_cok_key g.2.2.2 m hm
      · rw [g.2.1] at hm
        exact absurd hm (List.not_mem_nil)
/-- an index of m entries and l notes speaks of different pages -/
theorem dt_ix_room {l : List Nat} {fk en : Nat → Nat} {us ky nv : Nat → Int32} {m : Nat} {ik ip : Nat → Int32} (h : dt_ix l fk us ky nv m ik ip) (P : dt_par us fk en) : m + l.length ≤ 24 := by
  obtain ⟨h1, h2, h3, h4, h5, h6, h7, h8⟩ := h
  have fkb : ∀ q, q < 24 → us q ≠ 0 → fk q < 2 ^ 31 := fun q hq uq => by have := P.1 q hq uq; omega
  have ek : ∀ j, j < m → ∃ q, q < 24 ∧ fk q = dt_n ik j := fun j hj => by
    obtain ⟨q, hq, uq, _, e⟩ := h3 j hj
    exact ⟨q, hq, (dt_n_of e (fkb q hq uq)).symm⟩
  have el : ∀ n, n ∈ l → ∃ q, q < 24 ∧ fk q = dt_n ky n := fun n hn => by
    obtain ⟨q, hq, uq, _, e⟩ := h6 n hn
    exact ⟨q, hq, (dt_n_of e (fkb q hq uq)).symm⟩
  have hd : ((List.range m).map (dt_n ik) ++ l.map (dt_n ky)).Nodup := by
    rw [List.nodup_append]
    refine ⟨?_, h7, ?_⟩
    · rw [List.Nodup, List.pairwise_map]
      refine List.Pairwise.imp_of_mem ?_ (List.pairwise_lt_range (n := m))
      intro a b ha hb hab
      have := h4 a b hab (List.mem_range.mp hb)
      omega
    · intro a ha b hb e
      obtain ⟨j, hj, rfl⟩ := List.mem_map.mp ha
      obtain ⟨n, hn, rfl⟩ := List.mem_map.mp hb
      exact h8 n hn j (List.mem_range.mp hj) e.symm
  have hs := dt_sub_len (m := (List.range 24).map fk) hd (fun x hx => by
    rw [List.mem_map]
    rcases List.mem_append.mp hx with hx | hx
    · obtain ⟨j, hj, rfl⟩ := List.mem_map.mp hx
      obtain ⟨q, hq, e⟩ := ek j (List.mem_range.mp hj)
      exact ⟨q, List.mem_range.mpr hq, e⟩
    · obtain ⟨n, hn, rfl⟩ := List.mem_map.mp hx
      obtain ⟨q, hq, e⟩ := el n hn
      exact ⟨q, List.mem_range.mpr hq, e⟩)
  rw [List.length_append, List.length_map, List.length_map, List.length_map, List.length_range, List.length_range] at hs
  exact hs
end
section
section
variable {ne fn xc xl xn gn ge sn ye yw : Int32} {us ch cl bc bk bv be kd ky nv od ik ip gk gv gs ak av so sk sv yh yv yp yk yn hb vb : Nat → Int32}
theorem xw_div_loop {post : Int32 → Prop} : ∀ (l : List Nat) (x : Int32) (n : Nat), dt_ch od l x → (∀ m, m ∈ l → m < 160) → l.length < n → post (dt_dv kd l) → wX_divisionOf_7 post ne fn xc xl xn gn ge sn us ch cl bc bk bv be kd ky nv od ik ip gk gv gs ak av so sk sv n x
  | [], x, n, hc, _, hn, hp => by
    obtain ⟨n, rfl⟩ : ∃ k, n = k + 1 := ⟨n - 1, by omega⟩
    cases (hc : x = -1)
    exact br_t dt_m1lt hp
  | m :: l, x, n, hc, hb, hn, hp => by
    obtain ⟨n, rfl⟩ : ∃ k, n = k + 1 := ⟨n - 1, by omega⟩
    obtain ⟨rfl, hc⟩ := hc
    have hm := hb m (List.mem_cons_self ..)
    have c : (nI m).toNatClampNeg = m := nI_clamp (by omega)
    have hi : vp_in (nI m) 160 := vp_in_nI hm (by decide)
    refine br_f (nI_pos (by omega)) ⟨hi, ?_⟩
    rw [c]
    rw [dt_dv] at hp
    by_cases k : kd m = 2
    · rw [if_pos k] at hp; exact br_t k hp
    · rw [if_neg k] at hp
      refine br_f k ⟨hi, nm_e ?_⟩
      exact xw_div_loop l _ n hc (fun r hr => hb r (List.mem_cons_of_mem _ hr)) (by rw [List.length_cons] at hn; omega) hp
theorem xw_divisionOf {post : Int32 → Prop} {p : Nat} {l : List Nat} (hp : p < 24) (hc : dt_ch od l (ch p)) (hb : ∀ m, m ∈ l → m < 160) (h : post (dt_dv kd l)) : wpX_divisionOf post (ne, fn, xc, xl, xn, gn, ge, sn, us, ch, cl, bc, bk, bv, be, kd, ky, nv, od, ik, ip, gk, gv, gs, ak, av, so, sk, sv) (nI p) := by
  refine And.intro (vp_in_nI hp (by decide)) (nm_r (e' := ch p) (by rw [nI_clamp (by omega)]) ?_)
  exact ⟨_, xw_div_loop l _ _ hc hb (Nat.lt_succ_self _) h⟩
theorem xw_pii_loop {post : Int32 → Prop} {key m : Nat} (hm : m ≤ 24) (hk : key < 4096) (hI : ∀ j, j < m → ik j = nI (dt_n ik j) ∧ dt_n ik j < 4096) (hpost : ∀ r, r < m → dt_n ik r ≤ key → (∀ j, r < j → j < m → key < dt_n ik j) → post (nI r)) (hS : ∀ i j, i < j → j < m → dt_n ik i < dt_n ik j) : ∀ (d n lo hi : Nat), lo ≤ hi → hi < m → dt_n ik lo ≤ key → (∀ j, hi < j → j < m → key < dt_n ik j) → hi - lo < 2 ^ d → d ≤ 6 → d < n → wX_placeInIndex_12 post (nI key) ne fn xc xl xn gn ge sn us ch cl bc bk bv be kd ky nv od ik ip gk gv gs ak av so sk sv n (nI lo) (nI hi) (nI (6 - d)) := by
  intro d
  induction d with
  | zero =>
    intro n lo hi h1 h2 h3 h4 h5 h6 h7
    obtain ⟨n, rfl⟩ : ∃ k, n = k + 1 := ⟨n - 1, by omega⟩
    refine br_t (nI_le (a := 6) (b := 6) (by decide) (by decide)) ?_
    refine hpost lo (by omega) h3 ?_
    rw [show lo = hi by omega]
    exact h4
  | succ d ih =>
    intro n lo hi h1 h2 h3 h4 h5 h6 h7
    obtain ⟨n, rfl⟩ : ∃ k, n = k + 1 := ⟨n - 1, by omega⟩
    refine pk_le 6 (6 - (d + 1)) (fun h => by omega) (fun _ => ?_)
    refine pk_le hi lo (fun h => hpost lo (by omega) h3 (by rw [show lo = hi by omega]; exact h4)) (fun h => ?_)
    have hmid : (nI lo + nI hi + 1) / 2 = nI ((lo + hi + 1) / 2) := by rw [nI_add, nI_1, dt_d2 (by omega)]
    have hw : (lo + hi + 1) / 2 ≤ hi ∧ lo < (lo + hi + 1) / 2 ∧ 2 * ((lo + hi + 1) / 2) ≤ lo + hi + 1 ∧ lo + hi ≤ 2 * ((lo + hi + 1) / 2) := by omega
    refine ⟨dt_22, nm_r hmid ⟨vp_in_nI (by omega) (by decide), ?_⟩⟩
    have ec : (nI ((lo + hi + 1) / 2)).toNatClampNeg = (lo + hi + 1) / 2 := nI_clamp (by omega)
    rw [Nat.pow_succ] at h5
    have hst : nI (6 - (d + 1)) + 1 = nI (6 - d) := by rw [nI_1]; exact congrArg nI (by omega)
    generalize (lo + hi + 1) / 2 = mid at hw ec ⊢
    have hI' := hI mid (by omega)
    rw [ec]
    refine pk_lt key (dt_n ik mid) (fun hlt => ?_) (fun hge => ?_) rfl hI'.1 (by omega) (by omega)
    · refine nm_r (dt_s (by omega)) (nm_r hst ?_)
      refine ih n lo (mid - 1) (by omega) (by omega) h3 ?_ (by omega) (by omega) (by omega)
      intro j hj hjm
      by_cases e : j = mid
      · rw [e]; exact hlt
      · have := hS mid j (by omega) hjm
        omega
    · refine nm_r hst ?_
      exact ih n mid hi (by omega) h2 hge h4 (by omega) (by omega) (by omega)
theorem xw_placeInIndex {post : Int32 → Prop} {key m : Nat} (hxn : xn = nI m) (h1 : 1 ≤ m) (hm : m ≤ 24) (hk : key < 4096) (hI : ∀ j, j < m → ik j = nI (dt_n ik j) ∧ dt_n ik j < 4096) (hS : ∀ i j, i < j → j < m → dt_n ik i < dt_n ik j) (h0 : ik 0 = 0) (hpost : ∀ r, r < m → dt_n ik r ≤ key → (∀ j, r < j → j < m → key < dt_n ik j) → post (nI r)) : wpX_placeInIndex post (ne, fn, xc, xl, xn, gn, ge, sn, us, ch, cl, bc, bk, bv, be, kd, ky, nv, od, ik, ip, gk, gv, gs, ak, av, so, sk, sv) (nI key) := by
  subst hxn
  refine nm_r (dt_s (by omega)) ?_
  refine ⟨8, ?_⟩
  refine xw_pii_loop hm hk hI hpost hS 6 8 0 (m - 1) (by omega) (by omega) ?_ (fun j _ _ => by omega) (by omega) (by omega) (by omega)
  rw [dt_n_of (x := 0) h0 (by decide)]; omega
theorem xw_pib_end {post : Int32 → Prop} {p key c lo : Nat} {b : Nat → Option Int32} (hp : p < 24) (hk : key < 4096) (hc : c ≤ 12) (hbc : bc p = nI c) (hg : dt_gat b c (fun j => bk (12 * p + j)) (fun j => bv (12 * p + j))) (hlo : lo ≤ c) (h1 : ∀ j, j < lo → dt_n bk (12 * p + j) < key) (h2 : ∀ j, lo ≤ j → j < c → key ≤ dt_n bk (12 * p + j)) (hs : ∀ j, j < c → b key = some (bv (12 * p + j)) → post (nI (12 * p + j))) (hn : b key = none → post (-1)) : wX_placeInBase_71 post (nI p) (nI key) (nI (12 * p + lo)) ne fn xc xl xn gn ge sn us ch cl bc bk bv be kd ky nv od ik ip gk gv gs ak av so sk sv := by
  have cp : (nI p).toNatClampNeg = p := nI_clamp (by omega)
  have hnone : (∀ j, j < c → dt_n bk (12 * p + j) ≠ key) → b key = none := fun h => dt_gat_none hg h
  refine And.intro (vp_in_nI hp (by decide)) ?_
  rw [cp, hbc, dt_12, nI_add]
  refine pk_le (12 * p + c) (12 * p + lo) (fun h => ?_) (fun h => ?_)
  · exact hn (hnone fun j hj => by have := h1 j (by omega); omega)
  · refine ⟨vp_in_nI (by omega) (by decide), ?_⟩
    rw [nI_clamp (by omega)]
    have hg1 : bk (12 * p + lo) = nI (dt_n bk (12 * p + lo)) ∧ dt_n bk (12 * p + lo) < 4096 ∧ b (dt_n bk (12 * p + lo)) = some (bv (12 * p + lo)) := hg.1 lo (by omega)
    refine pk_eq (dt_n bk (12 * p + lo)) key (fun e => ?_) (fun e => ?_) hg1.1 rfl (by omega) (by omega)
    · refine hs lo (by omega) ?_
      rw [← e]; exact hg1.2.2
    · refine hn (hnone fun j hj hc => ?_)
      by_cases hl : j < lo
      · have := h1 j hl; omega
      · by_cases e2 : j = lo
        · rw [e2] at hc; exact e hc
        · have hs2 : dt_n bk (12 * p + lo) < dt_n bk (12 * p + j) := hg.2.1 lo j (by omega) hj
          have := h2 lo (by omega) (by omega)
          omega
theorem xw_pib_loop {post : Int32 → Prop} {p key c : Nat} {b : Nat → Option Int32} (hp : p < 24) (hk : key < 4096) (hc : c ≤ 12) (hbc : bc p = nI c) (hg : dt_gat b c (fun j => bk (12 * p + j)) (fun j => bv (12 * p + j))) (hs : ∀ j, j < c → b key = some (bv (12 * p + j)) → post (nI (12 * p + j))) (hn : b key = none → post (-1)) : ∀ (d n lo hi : Nat), lo ≤ hi → hi ≤ c → (∀ j, j < lo → dt_n bk (12 * p + j) < key) → (∀ j, hi ≤ j → j < c → key ≤ dt_n bk (12 * p + j)) → hi - lo < 2 ^ d → d ≤ 6 → d < n → wX_placeInBase_21 post (nI p) (nI key) ne fn xc xl xn gn ge sn us ch cl bc bk bv be kd ky nv od ik ip gk gv gs ak av so sk sv n (nI (12 * p + lo)) (nI (12 * p + hi)) (nI (6 - d)) := by
  intro d
  induction d with
  | zero =>
    intro n lo hi h1 h2 h3 h4 h5 h6 h7
    obtain ⟨n, rfl⟩ : ∃ k, n = k + 1 := ⟨n - 1, by omega⟩
    refine br_t (nI_le (a := 6) (b := 6) (by decide) (by decide)) ?_
    exact xw_pib_end hp hk hc hbc hg (by omega) h3 (by rw [show lo = hi by omega]; exact h4) hs hn
  | succ d ih =>
    intro n lo hi h1 h2 h3 h4 h5 h6 h7
    obtain ⟨n, rfl⟩ : ∃ k, n = k + 1 := ⟨n - 1, by omega⟩
    refine pk_le 6 (6 - (d + 1)) (fun h => by omega) (fun _ => ?_)
    refine pk_le (12 * p + hi) (12 * p + lo) (fun h => xw_pib_end hp hk hc hbc hg (by omega) h3 (by rw [show lo = hi by omega]; exact h4) hs hn) (fun h => ?_)
    obtain ⟨mid, hmid, hw1, hw2, hw3⟩ : ∃ mid, (12 * p + lo + (12 * p + hi)) / 2 = 12 * p + mid ∧ lo ≤ mid ∧ mid < hi ∧ mid = (lo + hi) / 2 := ⟨(lo + hi) / 2, by omega, by omega, by omega, rfl⟩
    have hm2 : (nI (12 * p + lo) + nI (12 * p + hi)) / 2 = nI (12 * p + mid) := by rw [nI_add, dt_d2 (by omega), hmid]
    refine ⟨dt_22, nm_r hm2 ⟨vp_in_nI (by omega) (by decide), ?_⟩⟩
    have ec : (nI (12 * p + mid)).toNatClampNeg = 12 * p + mid := nI_clamp (by omega)
    rw [Nat.pow_succ] at h5
    have hst : nI (6 - (d + 1)) + 1 = nI (6 - d) := by rw [nI_1]; exact congrArg nI (by omega)
    have hg1 : bk (12 * p + mid) = nI (dt_n bk (12 * p + mid)) ∧ dt_n bk (12 * p + mid) < 4096 ∧ _ := hg.1 mid (by omega)
    have hS : ∀ i j, i < j → j < c → dt_n bk (12 * p + i) < dt_n bk (12 * p + j) := hg.2.1
    rw [ec]
    refine pk_le key (dt_n bk (12 * p + mid)) (fun hlt => ?_) (fun hge => ?_) rfl hg1.1 (by omega) (by omega)
    · refine nm_r hst ?_
      refine ih n lo mid (by omega) (by omega) h3 ?_ (by omega) (by omega) (by omega)
      intro j hj hjc
      by_cases e : j = mid
      · rw [e]; exact hlt
      · have := hS mid j (by omega) hjc
        omega
    · refine nm_r (nI_1 _) (nm_r hst ?_)
      refine ih n (mid + 1) hi (by omega) h2 ?_ h4 (by omega) (by omega) (by omega)
      intro j hj
      by_cases e : j = mid
      · rw [e]; exact hge
      · have := hS j mid (by omega) (by omega)
        omega
theorem xw_placeInBase {post : Int32 → Prop} {p key c : Nat} {b : Nat → Option Int32} (hp : p < 24) (hk : key < 4096) (hc : c ≤ 12) (hbc : bc p = nI c) (hg : dt_gat b c (fun j => bk (12 * p + j)) (fun j => bv (12 * p + j))) (hs : ∀ j, j < c → b key = some (bv (12 * p + j)) → post (nI (12 * p + j))) (hn : b key = none → post (-1)) : wpX_placeInBase post (ne, fn, xc, xl, xn, gn, ge, sn, us, ch, cl, bc, bk, bv, be, kd, ky, nv, od, ik, ip, gk, gv, gs, ak, av, so, sk, sv) (nI p) (nI key) := by
  have cp : (nI p).toNatClampNeg = p := nI_clamp (by omega)
  refine nm_r (e' := nI (12 * p + 0)) (dt_12 p) (And.intro (vp_in_nI hp (by decide)) ?_)
  refine nm_r (e' := nI (12 * p + c)) (by rw [cp, hbc, dt_12, nI_add]) ⟨8, ?_⟩
  exact xw_pib_loop hp hk hc hbc hg hs hn 6 8 0 c (by omega) (by omega) (fun j hj => by omega) (fun j h1 h2 => by omega) (by omega) (by omega) (by omega)
/-! is a key in a page -/
def dt_b (o : Option Int32) : Int32 := match o with
  | none => 0
  | some _ => 1
theorem xw_isIn_loop {post : Int32 → Prop} {p key c : Nat} {b : Nat → Option Int32} (hp : p < 24) (hk : key < 4096) (hc : c ≤ 12) (hbc : bc p = nI c) (hg : dt_gat b c (fun j => bk (12 * p + j)) (fun j => bv (12 * p + j))) : ∀ (l : List Nat) (x : Int32) (n : Nat), dt_ch od l x → (∀ m, m ∈ l → m < 160) → (∀ m, m ∈ l → ky m = nI (dt_n ky m) ∧ dt_n ky m ≤ 4096 ∧ (kd m = 2 → key < dt_n ky m)) → l.length < n → post (dt_b (dt_pm kd ky nv b l key)) → wX_isIn_7 post (nI p) (nI key) ne fn xc xl xn gn ge sn us ch cl bc bk bv be kd ky nv od ik ip gk gv gs ak av so sk sv n x
  | [], x, n, hch, _, _, hn, h => by
    obtain ⟨n, rfl⟩ : ∃ k, n = k + 1 := ⟨n - 1, by omega⟩
    cases (hch : x = -1)
    refine br_t dt_m1lt ?_
    refine xw_placeInBase hp hk hc hbc hg ?_ ?_
    · intro j hj e
      rw [dt_pm, e] at h
      exact br_f (nI_pos (by omega)) h
    · intro e
      rw [dt_pm, e] at h
      exact br_t dt_m1lt h
  | m :: l, x, n, hch, hb, hy, hn, h => by
    obtain ⟨n, rfl⟩ : ∃ k, n = k + 1 := ⟨n - 1, by omega⟩
    obtain ⟨rfl, hch⟩ := hch
    have hm := hb m (List.mem_cons_self ..)
    have hym := hy m (List.mem_cons_self ..)
    have c1 : (nI m).toNatClampNeg = m := nI_clamp (by omega)
    have hi : vp_in (nI m) 160 := vp_in_nI hm (by decide)
    have ih := xw_isIn_loop (post := post) hp hk hc hbc hg l _ n hch (fun r hr => hb r (List.mem_cons_of_mem _ hr)) (fun r hr => hy r (List.mem_cons_of_mem _ hr)) (by rw [List.length_cons] at hn; omega)
    refine br_f (nI_pos (by omega)) ⟨hi, ?_⟩
    rw [c1]
    rw [dt_pm, dt_ap] at h
    by_cases k2 : kd m = 2
    · rw [if_pos k2, dt_lt_t (hym.2.2 k2)] at h
      exact br_t k2 ⟨hi, nm_e (ih h)⟩
    · rw [if_neg k2] at h
      refine br_f k2 ⟨hi, ?_⟩
      refine pk_eq (dt_n ky m) key (fun e => ?_) (fun e => ?_) hym.1 rfl (by omega) (by omega)
      · rw [← e, dt_set_s] at h
        refine ⟨hi, ?_⟩
        by_cases k0 : kd m = 0
        · rw [if_pos k0] at h
          exact br_t k0 h
        · rw [if_neg k0] at h
          exact br_f k0 h
      · rw [dt_set_n e] at h
        exact ⟨hi, nm_e (ih h)⟩
theorem xw_valueIn_loop {post : Int32 → Prop} {p key c : Nat} {b : Nat → Option Int32} {v : Int32} (hp : p < 24) (hk : key < 4096) (hc : c ≤ 12) (hbc : bc p = nI c) (hg : dt_gat b c (fun j => bk (12 * p + j)) (fun j => bv (12 * p + j))) (hpost : post v) : ∀ (l : List Nat) (x : Int32) (n : Nat), dt_ch od l x → (∀ m, m ∈ l → m < 160) → (∀ m, m ∈ l → ky m = nI (dt_n ky m) ∧ dt_n ky m ≤ 4096 ∧ (kd m = 2 → key < dt_n ky m)) → l.length < n → dt_pm kd ky nv b l key = some v → wX_valueIn_7 post (nI p) (nI key) ne fn xc xl xn gn ge sn us ch cl bc bk bv be kd ky nv od ik ip gk gv gs ak av so sk sv n x
  | [], x, n, hch, _, _, hn, h => by
    obtain ⟨n, rfl⟩ : ∃ k, n = k + 1 := ⟨n - 1, by omega⟩
    cases (hch : x = -1)
    refine br_t dt_m1lt ?_
    refine xw_placeInBase hp hk hc hbc hg ?_ ?_
    · intro j hj e
      rw [dt_pm, e] at h
      refine br_t (nI_pos' (by omega)) ⟨vp_in_nI (by omega) (by decide), ?_⟩
      rw [nI_clamp (by omega), Option.some.inj h]
      exact hpost
    · intro e
      rw [dt_pm, e] at h
      exact absurd h (by simp)
  | m :: l, x, n, hch, hb, hy, hn, h => by
    obtain ⟨n, rfl⟩ : ∃ k, n = k + 1 := ⟨n - 1, by omega⟩
    obtain ⟨rfl, hch⟩ := hch
    have hm := hb m (List.mem_cons_self ..)
    have hym := hy m (List.mem_cons_self ..)
    have c1 : (nI m).toNatClampNeg = m := nI_clamp (by omega)
    have hi : vp_in (nI m) 160 := vp_in_nI hm (by decide)
    have ih := xw_valueIn_loop (post := post) hp hk hc hbc hg hpost l _ n hch (fun r hr => hb r (List.mem_cons_of_mem _ hr)) (fun r hr => hy r (List.mem_cons_of_mem _ hr)) (by rw [List.length_cons] at hn; omega)
    refine br_f (nI_pos (by omega)) ⟨hi, ?_⟩
    rw [c1]
    rw [dt_pm, dt_ap] at h
    by_cases k0 : kd m = 0
    · have k2 : ¬ kd m = 2 := by rw [k0]; decide
      rw [if_neg k2, if_pos k0] at h
      refine br_t k0 ⟨hi, ?_⟩
      refine pk_eq (dt_n ky m) key (fun e => ?_) (fun e => ?_) hym.1 rfl (by omega) (by omega)
      · rw [← e, dt_set_s] at h
        refine ⟨hi, ?_⟩
        rw [Option.some.inj h]
        exact hpost
      · rw [dt_set_n e] at h
        exact ⟨hi, nm_e (ih h)⟩
    · refine br_f k0 ⟨hi, nm_e (ih ?_)⟩
      by_cases k2 : kd m = 2
      · rw [if_pos k2, dt_lt_t (hym.2.2 k2)] at h
        exact h
      · rw [if_neg k2, if_neg k0] at h
        by_cases e : dt_n ky m = key
        · rw [← e, dt_set_s] at h
          exact absurd h (by simp)
        · rw [dt_set_n e] at h
          exact h
end
end
section
section
variable {ne fn xc xl xn gn ge sn ye yw : Int32} {us ch cl bc bk bv be kd ky nv od ik ip gk gv gs ak av so sk sv yh yv yp yk yn hb vb : Nat → Int32}
variable {C : Nat → List Nat} {fk en : Nat → Nat} {M : Nat → Option Int32} {mx : Nat}
theorem xw_pg_notes {p key : Nat} (I : dt_XI C fk en M mx fn xc xl xn us ch cl bc bk bv be kd ky nv od ik ip) (hp : p < 24) (up : us p ≠ 0) (h2 : key < en p) : dt_ch od (C p) (ch p) ∧ (∀ m, m ∈ C p → m < 160) ∧ (∀ m, m ∈ C p → ky m = nI (dt_n ky m) ∧ dt_n ky m ≤ 4096 ∧ (kd m = 2 → key < dt_n ky m)) := by
  obtain ⟨hP, _, hpar, hpg, _, _⟩ := I
  have hc := hP.1 p (by omega)
  rw [dt_hd_p hp] at hc
  refine ⟨hc, hP.2.2.1 p (by omega), fun m hm => ?_⟩
  obtain ⟨b, c, _, _, _, hck, _⟩ := hpg p hp up
  have h1 := dt_cok_key hck m hm
  have h3 := hpar.1 p hp up
  refine ⟨h1.1, by omega, fun k => ?_⟩
  have := h1.2.2 k
  omega
theorem xw_isIn {post : Int32 → Prop} {p key : Nat} (I : dt_XI C fk en M mx fn xc xl xn us ch cl bc bk bv be kd ky nv od ik ip) (hp : p < 24) (up : us p ≠ 0) (h1 : fk p ≤ key) (h2 : key < en p) (h : post (dt_b (M key))) : wpX_isIn post (ne, fn, xc, xl, xn, gn, ge, sn, us, ch, cl, bc, bk, bv, be, kd, ky, nv, od, ik, ip, gk, gv, gs, ak, av, so, sk, sv) (nI p) (nI key) := by
  have hn := xw_pg_notes I hp up h2
  have hpar := I.2.2.1.1 p hp up
  obtain ⟨b, c, hc, hbc, hg, hck, hpm⟩ := I.2.2.2.1 p hp up
  refine And.intro (vp_in_nI hp (by decide)) (nm_r (e' := ch p) (by rw [nI_clamp (by omega)]) ⟨(C p).length + 1, ?_⟩)
  refine xw_isIn_loop hp (by omega) hc hbc hg (C p) _ _ hn.1 hn.2.1 hn.2.2 (Nat.lt_succ_self _) ?_
  rw [hpm, dt_rs_t h1 h2]
  exact h
theorem xw_valueIn {post : Int32 → Prop} {p key : Nat} {v : Int32} (I : dt_XI C fk en M mx fn xc xl xn us ch cl bc bk bv be kd ky nv od ik ip) (hp : p < 24) (up : us p ≠ 0) (h1 : fk p ≤ key) (h2 : key < en p) (hv : M key = some v) (h : post v) : wpX_valueIn post (ne, fn, xc, xl, xn, gn, ge, sn, us, ch, cl, bc, bk, bv, be, kd, ky, nv, od, ik, ip, gk, gv, gs, ak, av, so, sk, sv) (nI p) (nI key) := by
  have hn := xw_pg_notes I hp up h2
  have hpar := I.2.2.1.1 p hp up
  obtain ⟨b, c, hc, hbc, hg, hck, hpm⟩ := I.2.2.2.1 p hp up
  refine And.intro (vp_in_nI hp (by decide)) (nm_r (e' := ch p) (by rw [nI_clamp (by omega)]) ⟨(C p).length + 1, ?_⟩)
  refine xw_valueIn_loop hp (by omega) hc hbc hg h (C p) _ _ hn.1 hn.2.1 hn.2.2 (Nat.lt_succ_self _) ?_
  rw [hpm, dt_rs_t h1 h2]
  exact hv
/-- the division of a page, by the invariant -/
theorem xw_pg_div {post : Int32 → Prop} {p : Nat} (I : dt_XI C fk en M mx fn xc xl xn us ch cl bc bk bv be kd ky nv od ik ip) (hp : p < 24) (h : post (dt_dv kd (C p))) : wpX_divisionOf post (ne, fn, xc, xl, xn, gn, ge, sn, us, ch, cl, bc, bk, bv, be, kd, ky, nv, od, ik, ip, gk, gv, gs, ak, av, so, sk, sv) (nI p) := by
  have hc := I.1.1 p (by omega)
  rw [dt_hd_p hp] at hc
  exact xw_divisionOf hp hc (I.1.2.2.1 p (by omega)) h
theorem xw_freePage_loop {post : Int32 → Prop} (h1 : ∀ p, p < 24 → us p = 0 → post (nI p)) (h2 : (∀ p, p < 24 → us p ≠ 0) → post (-1)) : ∀ (d n i : Nat), i + d = 24 → d < n → (∀ p, p < i → us p ≠ 0) → wX_freePage_2 post ne fn xc xl xn gn ge sn us ch cl bc bk bv be kd ky nv od ik ip gk gv gs ak av so sk sv n (nI i) := by
  intro d
  induction d with
  | zero =>
    intro n i hi hn hu
    obtain ⟨n, rfl⟩ : ∃ k, n = k + 1 := ⟨n - 1, by omega⟩
    exact br_t (nI_le (a := 24) (by omega) (by omega)) (h2 fun p hp => hu p (by omega))
  | succ d ih =>
    intro n i hi hn hu
    obtain ⟨n, rfl⟩ : ∃ k, n = k + 1 := ⟨n - 1, by omega⟩
    refine br_f (nI_ge (b := 24) (by omega) (by decide)) ⟨vp_in_nI (by omega) (by decide), ?_⟩
    rw [nI_clamp (by omega)]
    by_cases e : us i = 0
    · exact br_t e (h1 i (by omega) e)
    · refine br_f e (nm_r (nI_1 i) (ih n (i + 1) (by omega) (by omega) ?_))
      intro p hp
      by_cases e2 : p = i
      · rw [e2]; exact e
      · exact hu p (by omega)
theorem xw_freePage {post : Int32 → Prop} (h1 : ∀ p, p < 24 → us p = 0 → post (nI p)) (h2 : (∀ p, p < 24 → us p ≠ 0) → post (-1)) : wpX_freePage post (ne, fn, xc, xl, xn, gn, ge, sn, us, ch, cl, bc, bk, bv, be, kd, ky, nv, od, ik, ip, gk, gv, gs, ak, av, so, sk, sv) :=
  ⟨25, xw_freePage_loop h1 h2 24 25 0 (by omega) (by omega) (fun p hp => by omega)⟩
theorem xw_newNote {post : Int32 → SX → Prop} {n : Nat} {p0 p1 p2 p3 : Int32} (hn : n < 160) (hf : fn = nI n) (h : post (nI n) (ne, od n, xc, xl, xn, gn, ge, sn, us, ch, cl, bc, bk, bv, be, upd kd n p0, upd ky n p1, upd nv n p2, upd od n p3, ik, ip, gk, gv, gs, ak, av, so, sk, sv)) : wpX_newNote post (ne, fn, xc, xl, xn, gn, ge, sn, us, ch, cl, bc, bk, bv, be, kd, ky, nv, od, ik, ip, gk, gv, gs, ak, av, so, sk, sv) p0 p1 p2 p3 := by
  subst hf
  have hi : vp_in (nI n) 160 := vp_in_nI hn (by decide)
  have c : (nI n).toNatClampNeg = n := nI_clamp (by omega)
  refine And.intro hi (nm_r (congrArg od c) ⟨hi, nm_r (by rw [c]) ⟨hi, nm_r (by rw [c]) ⟨hi, nm_r (by rw [c]) ⟨hi, nm_r (by rw [c]) h⟩⟩⟩⟩)
theorem xw_freeChain_loop {post : Int32 → SX → Prop} : ∀ (l : List Nat) (x : Int32) (od : Nat → Int32) (fn : Int32) (k n : Nat), dt_ch od l x → (∀ m, m ∈ l → m < 160) → l.Nodup → k + l.length ≤ 8 → l.length < n → post (-1) (ne, dt_ff l fn, xc, xl, xn, gn, ge, sn, us, ch, cl, bc, bk, bv, be, kd, ky, nv, dt_fo l od fn, ik, ip, gk, gv, gs, ak, av, so, sk, sv) → wX_freeChain_4 post ne xc xl xn gn ge sn n x (nI k) fn us ch cl bc bk bv be kd ky nv od ik ip gk gv gs ak av so sk sv
  | [], x, od, fn, k, n, hc, _, _, hk, hn, hp => by
    obtain ⟨n, rfl⟩ : ∃ k, n = k + 1 := ⟨n - 1, by omega⟩
    cases (hc : x = -1)
    exact br_c (fun _ => hp) (fun _ => br_t dt_m1lt hp)
  | m :: l, x, od, fn, k, n, hc, hb, hd, hk, hn, hp => by
    obtain ⟨n, rfl⟩ : ∃ k, n = k + 1 := ⟨n - 1, by omega⟩
    obtain ⟨rfl, hc⟩ := hc
    rw [List.nodup_cons] at hd
    rw [List.length_cons] at hk hn
    have hm := hb m (List.mem_cons_self ..)
    have c : (nI m).toNatClampNeg = m := nI_clamp (by omega)
    have hi : vp_in (nI m) 160 := vp_in_nI hm (by decide)
    refine br_f (nI_ge (b := 8) (by omega) (by decide)) (br_f (nI_pos (by omega)) ⟨hi, nm_r (congrArg od c) ⟨hi, nm_r (congrArg (fun i => upd od i fn) c) (nm_r (nI_1 k) ?_)⟩⟩)
    exact xw_freeChain_loop l _ (upd od m fn) (nI m) (k + 1) n (dt_ch_congr (fun r hr => pk_un (fun e => hd.1 (e ▸ hr))) hc) (fun r hr => hb r (List.mem_cons_of_mem _ hr)) hd.2 (by omega) (by omega) hp
theorem xw_freeChain {post : Int32 → SX → Prop} {l : List Nat} {x : Int32} (hc : dt_ch od l x) (hb : ∀ m, m ∈ l → m < 160) (hd : l.Nodup) (hk : l.length ≤ 8) (h : post (-1) (ne, dt_ff l fn, xc, xl, xn, gn, ge, sn, us, ch, cl, bc, bk, bv, be, kd, ky, nv, dt_fo l od fn, ik, ip, gk, gv, gs, ak, av, so, sk, sv)) : wpX_freeChain post (ne, fn, xc, xl, xn, gn, ge, sn, us, ch, cl, bc, bk, bv, be, kd, ky, nv, od, ik, ip, gk, gv, gs, ak, av, so, sk, sv) x :=
  ⟨_, xw_freeChain_loop l x od fn 0 (l.length + 1) hc hb hd (by omega) (by omega) h⟩
theorem xw_fko_loop2 {post : Int32 → Prop} {q : Nat} (hq : q < 24) (hpost : post (nI (fk q))) : ∀ (l : List Nat) (x : Int32) (n : Nat), dt_ch od l x → (∀ m, m ∈ l → m < 160) → (∀ m, m ∈ l → ∃ q, q < 24 ∧ us q ≠ 0 ∧ nv m = nI q ∧ ky m = nI (fk q)) → l.length < n → (∃ m, m ∈ l ∧ nv m = nI q) → wX_firstKeyOf_38 post (nI q) ne fn xc xl xn gn ge sn us ch cl bc bk bv be kd ky nv od ik ip gk gv gs ak av so sk sv n x
  | [], x, n, hch, _, _, hn, ⟨m, hm, _⟩ => absurd hm (List.not_mem_nil)
  | m :: l, x, n, hch, hb, hy, hn, hx => by
    obtain ⟨n, rfl⟩ : ∃ k, n = k + 1 := ⟨n - 1, by omega⟩
    obtain ⟨rfl, hch⟩ := hch
    have hm := hb m (List.mem_cons_self ..)
    have c1 : (nI m).toNatClampNeg = m := nI_clamp (by omega)
    have hi : vp_in (nI m) 160 := vp_in_nI hm (by decide)
    refine br_f (nI_pos (by omega)) ⟨hi, ?_⟩
    rw [c1]
    obtain ⟨q', hq', _, e1, e2⟩ := hy m (List.mem_cons_self ..)
    by_cases e : nv m = nI q
    · refine br_t e ⟨hi, ?_⟩
      have : q' = q := dt_im (e1.symm.trans e) (by omega) (by omega)
      rw [e2, this]
      exact hpost
    · refine br_f e ⟨hi, nm_e ?_⟩
      refine xw_fko_loop2 hq hpost l _ n hch (fun r hr => hb r (List.mem_cons_of_mem _ hr)) (fun r hr => hy r (List.mem_cons_of_mem _ hr)) (by rw [List.length_cons] at hn; omega) ?_
      obtain ⟨r, hr, er⟩ := hx
      rcases List.mem_cons.mp hr with h | h
      · rw [h] at er; exact absurd er e
      · exact ⟨r, h, er⟩
theorem xw_fko_loop {post : Int32 → Prop} {q : Nat} (I : dt_XI C fk en M mx fn xc xl xn us ch cl bc bk bv be kd ky nv od ik ip) (hq : q < 24) (hpost : post (nI (fk q))) : ∀ (d n i : Nat), i + d = mx → d < n → ((∃ j, i ≤ j ∧ j < mx ∧ ip j = nI q) ∨ ∃ n, n ∈ C 24 ∧ nv n = nI q) → wX_firstKeyOf_2 post (nI q) ne fn xc xl xn gn ge sn us ch cl bc bk bv be kd ky nv od ik ip gk gv gs ak av so sk sv n (nI i) := by
  obtain ⟨hP, _, _, _, _, hxn, hix, _⟩ := I
  obtain ⟨x1, x2, x3, x4, x5, x6, x7, x8⟩ := hix
  subst hxn
  intro d
  induction d with
  | zero =>
    intro n i hi hn hx
    obtain ⟨n, rfl⟩ : ∃ k, n = k + 1 := ⟨n - 1, by omega⟩
    refine br_t (nI_le (by omega) (by omega)) ⟨(C 24).length + 1, ?_⟩
    refine xw_fko_loop2 hq hpost (C 24) _ _ (hP.1 24 (by decide)) (hP.2.2.1 24 (by decide)) x6 (Nat.lt_succ_self _) ?_
    rcases hx with ⟨j, h1, h2, _⟩ | h
    · omega
    · exact h
  | succ d ih =>
    intro n i hi hn hx
    obtain ⟨n, rfl⟩ : ∃ k, n = k + 1 := ⟨n - 1, by omega⟩
    have h24 : vp_in (nI i) 24 := vp_in_nI (by omega) (by decide)
    refine br_f (nI_ge (by omega) (by omega)) ⟨h24, ?_⟩
    rw [nI_clamp (by omega)]
    obtain ⟨q', hq', _, e1, e2⟩ := x3 i (by omega)
    by_cases e : ip i = nI q
    · refine br_t e ⟨h24, ?_⟩
      have : q' = q := dt_im (e1.symm.trans e) (by omega) (by omega)
      rw [e2, this]
      exact hpost
    · refine br_f e (nm_r (nI_1 i) (ih n (i + 1) (by omega) (by omega) ?_))
      rcases hx with ⟨j, h1, h2, h3⟩ | h
      · refine Or.inl ⟨j, ?_, h2, h3⟩
        by_cases e3 : j = i
        · rw [e3] at h3; exact absurd h3 e
        · omega
      · exact Or.inr h
theorem xw_firstKeyOf {post : Int32 → Prop} {q : Nat} (I : dt_XI C fk en M mx fn xc xl xn us ch cl bc bk bv be kd ky nv od ik ip) (hq : q < 24) (hk : dt_kn (C 24) nv mx ip q) (hpost : post (nI (fk q))) : wpX_firstKeyOf post (ne, fn, xc, xl, xn, gn, ge, sn, us, ch, cl, bc, bk, bv, be, kd, ky, nv, od, ik, ip, gk, gv, gs, ak, av, so, sk, sv) (nI q) := by
  refine ⟨mx + 1, xw_fko_loop I hq hpost mx (mx + 1) 0 (by omega) (by omega) ?_⟩
  rcases hk with ⟨j, h1, h2⟩ | h
  · exact Or.inl ⟨j, by omega, h1, h2⟩
  · exact Or.inr h
theorem xw_isKey_t {post : Int32 → Prop} {key : Nat} (hk : key < 4096) (h : post 1) : wpX_isKey post (nI key) :=
  br_f (nI_pos (by omega)) (br_f (nI_nlt (b := 4095) (a := 4095) (by omega) (by decide) |> fun _ => by
    rw [show (4095 : Int32) = nI 4095 from rfl, nI_ltI (by decide) (by omega)]; omega) h)
theorem xw_isKey {post : Int32 → Prop} {v : Int32} (h0 : (∀ k, k < 4096 → v ≠ nI k) → post 0) (h1 : ∀ k, k < 4096 → v = nI k → post 1) : wpX_isKey post v := by
  rcases pk_ix v (n := 4096) (by decide) with h | h | ⟨j, hj, rfl⟩
  · exact br_t h (h0 fun k hk e => by rw [e] at h; exact nI_pos (by omega) h)
  · have h4 : (4095 : Int32) < v := by
      rw [Int32.lt_iff_toInt_lt]
      rw [Int32.le_iff_toInt_le, nI_toInt (by decide)] at h
      have : (4095 : Int32).toInt = 4095 := by decide
      omega
    have hn : ∀ k, k < 4096 → v ≠ nI k := fun k hk e => by
      rw [e, nI_leI (by decide) (by omega)] at h; omega
    exact br_c (fun _ => h0 hn) (fun _ => br_t h4 (h0 hn))
  · exact xw_isKey_t hj (h1 j hj rfl)
end
end
section
/-! pure rows on the index -/
theorem dt_so_ins {m a key : Nat} {g : Nat → Int32} (h2 : ∀ i j, i < j → j < m → dt_n g i < dt_n g j) (ha : a ≤ m) (hlo : ∀ j, j < a → dt_n g j < key) (hhi : ∀ j, a ≤ j → j < m → key < dt_n g j) (hK : key < 4096) : ∀ i j, i < j → j < m + 1 → dt_n (upd (dt_sh g a m) a (nI key)) i < dt_n (upd (dt_sh g a m) a (nI key)) j := by
  have ea : dt_n (upd (dt_sh g a m) a (nI key)) a = key := dt_n_us (by omega)
  have el : ∀ j, j < a → dt_n (upd (dt_sh g a m) a (nI key)) j = dt_n g j := fun j hj => by
    rw [dt_n_un (by omega)]
    exact dt_n_eq (dt_sh_lo (by omega))
  have eh : ∀ j, a < j → j ≤ m → dt_n (upd (dt_sh g a m) a (nI key)) j = dt_n g (j - 1) := fun j hj h2 => by
    rw [dt_n_un (by omega)]
    exact dt_n_eq (dt_sh_hi hj h2)
  intro i j hij hj
  by_cases e : j = a
  · subst e
    rw [ea, el i hij]; exact hlo i hij
  · by_cases hl : j < a
    · rw [el j hl, el i (by omega)]
      exact h2 i j hij (by omega)
    · rw [eh j (by omega) (by omega)]
      by_cases e2 : i = a
      · subst e2
        rw [ea]; exact hhi (j - 1) (by omega) (by omega)
      · by_cases hl2 : i < a
        · rw [el i hl2]
          by_cases e3 : i = j - 1
          · omega
          · exact h2 i (j - 1) (by omega) (by omega)
        · rw [eh i (by omega) (by omega)]
          exact h2 (i - 1) (j - 1) (by omega) (by omega)
theorem dt_ix_ins {r : Nat} {l : List Nat} {fk en : Nat → Nat} {us ky nv : Nat → Int32} {m a : Nat} {ik ip : Nat → Int32} (P : dt_par us fk en) (h : dt_ix (r :: l) fk us ky nv m ik ip) (ha : a ≤ m) (hlo : ∀ j, j < a → dt_n ik j ≤ dt_n ky r) (hhi : ∀ j, a ≤ j → j < m → dt_n ky r < dt_n ik j) : dt_ix l fk us ky nv (m + 1) (upd (dt_sh ik a m) a (ky r)) (upd (dt_sh ip a m) a (nv r)) ∧ ∀ q, dt_kn (r :: l) nv m ip q ↔ dt_kn l nv (m + 1) (upd (dt_sh ip a m) a (nv r)) q := by
  have hroom := dt_ix_room h P
  rw [List.length_cons] at hroom
  obtain ⟨h1, h2, h3, h4, h5, h6, h7, h8⟩ := h
  obtain ⟨q, hq, uq, e1, e2⟩ := h6 r (List.mem_cons_self ..)
  have hfk := P.1 q hq uq
  have hky : dt_n ky r = fk q := dt_n_of e2 (by omega)
  rw [List.map_cons, List.nodup_cons] at h7
  have hlo' : ∀ j, j < a → dt_n ik j < dt_n ky r := fun j hj => by
    have := hlo j hj
    have := h8 r (List.mem_cons_self ..) j (by omega)
    omega
  have ha1 : 1 ≤ a := by
    apply Nat.pos_of_ne_zero
    intro e
    have := hhi 0 (by omega) (by omega)
    rw [dt_n_of (x := 0) h5 (by decide)] at this
    omega
  have hso := dt_so_ins h4 ha hlo' hhi (by rw [hky]; omega)
  rw [hky, ← e2] at hso
  constructor
  · refine ⟨by omega, by omega, ?_, hso, ?_, fun n hn => h6 n (List.mem_cons_of_mem _ hn), h7.2, ?_⟩
    · intro j hj
      by_cases e : j = a
      · subst e
        rw [pk_us, pk_us]
        exact ⟨q, hq, uq, e1, e2⟩
      · rw [pk_un e, pk_un e]
        by_cases hl : j < a
        · rw [dt_sh_lo (by omega), dt_sh_lo (by omega)]
          exact h3 j (by omega)
        · rw [dt_sh_hi (by omega) (by omega), dt_sh_hi (by omega) (by omega)]
          exact h3 (j - 1) (by omega)
    · rw [pk_un (by omega), dt_sh_lo (by omega)]; exact h5
    · intro n hn j hj
      by_cases e : j = a
      · subst e
        rw [show dt_n (upd (dt_sh ik j m) j (ky r)) j = dt_n ky r from dt_n_eq pk_us]
        intro e
        exact h7.1 (e ▸ List.mem_map_of_mem hn)
      · rw [dt_n_un e]
        by_cases hl : j < a
        · rw [dt_n_eq (dt_sh_lo (g := ik) (a := a) (n := m) (j := j) (by omega))]
          exact h8 n (List.mem_cons_of_mem _ hn) j (by omega)
        · rw [dt_n_eq (dt_sh_hi (g := ik) (a := a) (n := m) (j := j) (by omega) (by omega))]
          exact h8 n (List.mem_cons_of_mem _ hn) (j - 1) (by omega)
  · intro q'
    constructor
    · rintro (⟨j, hj, e⟩ | ⟨n, hn, e⟩)
      · by_cases hl : j < a
        · exact Or.inl ⟨j, by omega, by rw [pk_un (by omega), dt_sh_lo (by omega)]; exact e⟩
        · exact Or.inl ⟨j + 1, by omega, by rw [pk_un (by omega), dt_sh_hi (by omega) (by omega)]; exact e⟩
      · rcases List.mem_cons.mp hn with hn | hn
        · exact Or.inl ⟨a, by omega, by rw [pk_us, ← hn]; exact e⟩
        · exact Or.inr ⟨n, hn, e⟩
    · rintro (⟨j, hj, e⟩ | ⟨n, hn, e⟩)
      · by_cases e3 : j = a
        · subst e3
          rw [pk_us] at e
          exact Or.inr ⟨r, List.mem_cons_self .., e⟩
        · rw [pk_un e3] at e
          by_cases hl : j < a
          · rw [dt_sh_lo (by omega)] at e
            exact Or.inl ⟨j, by omega, e⟩
          · rw [dt_sh_hi (by omega) (by omega)] at e
            exact Or.inl ⟨j - 1, by omega, e⟩
      · exact Or.inr ⟨n, List.mem_cons_of_mem _ hn, e⟩
theorem dt_ix_key {l : List Nat} {fk en : Nat → Nat} {us ky nv : Nat → Int32} {m : Nat} {ik ip : Nat → Int32} (P : dt_par us fk en) (h : dt_ix l fk us ky nv m ik ip) : ∀ j, j < m → ik j = nI (dt_n ik j) ∧ dt_n ik j < 4096 := by
  intro j hj
  obtain ⟨q, hq, uq, e1, e2⟩ := h.2.2.1 j hj
  have := P.1 q hq uq
  have e3 : dt_n ik j = fk q := dt_n_of e2 (by omega)
  rw [e3]
  exact ⟨e2, by omega⟩
theorem dt_ix_congr {l : List Nat} {fk : Nat → Nat} {us ky nv ky' nv' : Nat → Int32} {m : Nat} {ik ip : Nat → Int32} (h : dt_ix l fk us ky nv m ik ip) (hn : ∀ n, n ∈ l → ky' n = ky n ∧ nv' n = nv n) : dt_ix l fk us ky' nv' m ik ip := by
  obtain ⟨h1, h2, h3, h4, h5, h6, h7, h8⟩ := h
  refine ⟨h1, h2, h3, h4, h5, ?_, ?_, ?_⟩
  · intro n hn'
    rw [(hn n hn').1, (hn n hn').2]
    exact h6 n hn'
  · rw [show l.map (dt_n ky') = l.map (dt_n ky) from List.map_congr_left fun n hn' => dt_n_eq (hn n hn').1]
    exact h7
  · intro n hn' j hj
    rw [dt_n_eq (hn n hn').1]
    exact h8 n hn' j hj
/-- a new note at the head of the index's chain -/
theorem dt_ix_push {l : List Nat} {n q : Nat} {fk en : Nat → Nat} {us ky nv ky' nv' : Nat → Int32} {m : Nat} {ik ip : Nat → Int32} (P : dt_par us fk en) (h : dt_ix l fk us ky nv m ik ip) (hn : ∀ n, n ∈ l → ky' n = ky n ∧ nv' n = nv n) (hq : q < 24) (uq : us q ≠ 0) (e1 : nv' n = nI q) (e2 : ky' n = nI (fk q)) (d1 : ∀ n, n ∈ l → dt_n ky n ≠ fk q) (d2 : ∀ j, j < m → dt_n ik j ≠ fk q) : dt_ix (n :: l) fk us ky' nv' m ik ip := by
  have hfk := P.1 q hq uq
  have e3 : dt_n ky' n = fk q := dt_n_of e2 (by omega)
  obtain ⟨h1, h2, h3, h4, h5, h6, h7, h8⟩ := dt_ix_congr h hn
  refine ⟨h1, h2, h3, h4, h5, ?_, ?_, ?_⟩
  · intro r hr
    rcases List.mem_cons.mp hr with e | hr
    · rw [e]; exact ⟨q, hq, uq, e1, e2⟩
    · exact h6 r hr
  · rw [List.map_cons, List.nodup_cons]
    refine ⟨?_, h7⟩
    intro hc
    obtain ⟨r, hr, e⟩ := List.mem_map.mp hc
    rw [e3, dt_n_eq (hn r hr).1] at e
    exact d1 r hr e
  · intro r hr j hj
    rcases List.mem_cons.mp hr with e | hr
    · rw [e, e3]
      exact fun e => d2 j hj e.symm
    · exact h8 r hr j hj
theorem dt_pg_frame {C C' : Nat → List Nat} {fk en fk' en' : Nat → Nat} {M M' : Nat → Option Int32} {us bc bk bv be kd ky nv us' bc' bk' bv' be' kd' ky' nv' : Nat → Int32} {p : Nat} (h : dt_pg C fk en M us bc bk bv be kd ky nv p) (hC : C' p = C p) (hfk : fk' p = fk p) (hen : en' p = en p) (hM : ∀ k, fk p ≤ k → k < en p → M' k = M k) (hus : ∀ q, q < 24 → us q ≠ 0 → us' q ≠ 0 ∧ fk' q = fk q) (hbc : bc' p = bc p) (hbe : be' p = be p) (hbk : ∀ j, j < 12 → bk' (12 * p + j) = bk (12 * p + j)) (hbv : ∀ j, j < 12 → bv' (12 * p + j) = bv (12 * p + j)) (hn : ∀ n, n ∈ C p → kd' n = kd n ∧ ky' n = ky n ∧ nv' n = nv n) : dt_pg C' fk' en' M' us' bc' bk' bv' be' kd' ky' nv' p := by
  obtain ⟨b, c, hc, e1, hg, hck, hpm⟩ := h
  refine ⟨b, c, hc, hbc.trans e1, dt_gat_congr hg (fun j hj => hbk j (by omega)) (fun j hj => hbv j (by omega)), ?_, ?_⟩
  · rw [hC, hfk, hen, hbe]
    refine dt_cok_congr id ?_ ?_ hck
    · rintro ⟨h, hh, h2⟩
      exact ⟨h, hh, fun j h3 h4 => by rw [dt_n_eq (hbk j (by omega))]; exact h2 j h3 h4⟩
    · intro n hn'
      refine ⟨(hn n hn').1, (hn n hn').2.1, ?_⟩
      rintro ⟨q, hq, uq, e2, e3⟩
      exact ⟨q, hq, (hus q hq uq).1, by rw [(hn n hn').2.2]; exact e2, by rw [(hus q hq uq).2]; exact e3⟩
  · rw [hC, dt_pm_congr hn, hpm, hfk, hen]
    funext k
    by_cases e : fk p ≤ k ∧ k < en p
    · rw [dt_rs_t e.1 e.2, dt_rs_t e.1 e.2, hM k e.1 e.2]
    · rw [dt_rs_f e, dt_rs_f e]
end
section
section
variable {ne fn xc xl xn gn ge sn ye yw : Int32} {us ch cl bc bk bv be kd ky nv od ik ip gk gv gs ak av so sk sv yh yv yp yk yn hb vb : Nat → Int32}
variable {C : Nat → List Nat} {fk en : Nat → Nat} {M : Nat → Option Int32} {mx : Nat}
theorem xw_ri_90 {post : SX → Prop} {J : Int32 → Int32 → (Nat → Int32) → (Nat → Int32) → (Nat → Int32) → (Nat → Int32) → (Nat → Int32) → (Nat → Int32) → (Nat → Int32) → (Nat → Int32) → (Nat → Int32) → (Nat → Int32) → (Nat → Int32) → (Nat → Int32) → (Nat → Int32) → (Nat → Int32) → (Nat → Int32) → (Nat → Int32) → (Nat → Int32) → (Nat → Int32) → (Nat → Int32) → (Nat → Int32) → (Nat → Int32) → Prop} {r a : Nat} (hr : r < 160) (ha : a < 24) (h : J (od r) xn us ch cl bc bk bv be kd ky nv od (upd ik a (ky r)) (upd ip a (nv r)) gk gv gs ak av so sk sv) : wX_rewriteIndex_90 post J (nI r) (nI a) ne fn xc xl xn gn ge sn us ch cl bc bk bv be kd ky nv od ik ip gk gv gs ak av so sk sv := by
  have hi : vp_in (nI r) 160 := vp_in_nI hr (by decide)
  have h2 : vp_in (nI a) 24 := vp_in_nI ha (by decide)
  have cr : (nI r).toNatClampNeg = r := nI_clamp (by omega)
  have ca : (nI a).toNatClampNeg = a := nI_clamp (by omega)
  refine And.intro hi ⟨h2, nm_r (by rw [cr, ca]) ⟨hi, ⟨h2, nm_r (by rw [cr, ca]) ⟨hi, nm_r (congrArg od cr) h⟩⟩⟩⟩
theorem xw_ri_loop {post : SX → Prop} {J : Int32 → Int32 → (Nat → Int32) → (Nat → Int32) → (Nat → Int32) → (Nat → Int32) → (Nat → Int32) → (Nat → Int32) → (Nat → Int32) → (Nat → Int32) → (Nat → Int32) → (Nat → Int32) → (Nat → Int32) → (Nat → Int32) → (Nat → Int32) → (Nat → Int32) → (Nat → Int32) → (Nat → Int32) → (Nat → Int32) → (Nat → Int32) → (Nat → Int32) → (Nat → Int32) → (Nat → Int32) → Prop} {r key m : Nat} (hr : r < 160) (hky : ky r = nI key) (hk : key < 4096) (hm : m ≤ 23) (hI : ∀ j, j < m → ik j = nI (dt_n ik j) ∧ dt_n ik j < 4096) (hS : ∀ i j, i < j → j < m → dt_n ik i < dt_n ik j) (hJ : ∀ a, a ≤ m → (∀ j, j < a → dt_n ik j ≤ key) → (∀ j, a ≤ j → j < m → key < dt_n ik j) → J (od r) xn us ch cl bc bk bv be kd ky nv od (upd (dt_sh ik a m) a (ky r)) (upd (dt_sh ip a m) a (nv r)) gk gv gs ak av so sk sv) : ∀ a n, a ≤ m → (∀ j, a ≤ j → j < m → key < dt_n ik j) → a < n → wX_rewriteIndex_26 post J (nI r) ne fn xc xl xn gn ge sn n (nI a) (nI (m - a)) us ch cl bc bk bv be kd ky nv od (dt_sh ik a m) (dt_sh ip a m) gk gv gs ak av so sk sv := by
  intro a
  induction a with
  | zero =>
    intro n ha hh hn
    obtain ⟨n, rfl⟩ : ∃ k, n = k + 1 := ⟨n - 1, by omega⟩
    refine br_f (nI_ge (b := 24) (by omega) (by decide)) (br_t (nI_le (a := 0) (b := 0) (by decide) (by decide)) ?_)
    exact xw_ri_90 hr (by omega) (hJ 0 ha (fun j hj => by omega) hh)
  | succ a ih =>
    intro n ha hh hn
    obtain ⟨n, rfl⟩ : ∃ k, n = k + 1 := ⟨n - 1, by omega⟩
    have hi : vp_in (nI r) 160 := vp_in_nI hr (by decide)
    have h2 : vp_in (nI (a + 1)) 24 := vp_in_nI (by omega) (by decide)
    have h3 : vp_in (nI (a + 1) - 1) 24 := by rw [nI_pred]; exact vp_in_nI (by omega) (by decide)
    have cr : (nI r).toNatClampNeg = r := nI_clamp (by omega)
    have ca : (nI (a + 1)).toNatClampNeg = a + 1 := nI_clamp (by omega)
    have cb : (nI (a + 1) - 1).toNatClampNeg = a := by rw [nI_pred]; exact nI_clamp (by omega)
    refine br_f (nI_ge (b := 24) (by omega) (by decide)) (br_f (nI_nle (by omega) (by omega)) ⟨h3, hi, ?_⟩)
    have e1 : dt_sh ik (a + 1) m a = nI (dt_n ik a) := by rw [dt_sh_lo (by omega)]; exact (hI a (by omega)).1
    have hb := (hI a (by omega)).2
    refine pk_le (dt_n ik a) key (fun hle => ?_) (fun hgt => ?_) (by rw [cb]; exact e1) (by rw [cr]; exact hky) (by omega) (by omega)
    · refine xw_ri_90 hr (by omega) (hJ (a + 1) ha (fun j hj => ?_) hh)
      by_cases e : j = a
      · rw [e]; exact hle
      · have := hS j a (by omega) (by omega)
        omega
    · refine ⟨h3, h2, nm_r (e' := dt_sh ik a m) (by rw [ca, cb]; exact dt_sh_s (by omega)) ⟨h3, h2, nm_r (e' := dt_sh ip a m) (by rw [ca, cb]; exact dt_sh_s (by omega)) (nm_r (pk_m1 a) (nm_r (e' := nI (m - a)) (by rw [nI_1]; exact congrArg nI (by omega)) ?_))⟩⟩
      refine ih n (by omega) (fun j h1 h2 => ?_) (by omega)
      by_cases e : j = a
      · rw [e]; exact hgt
      · exact hh j (by omega) h2
theorem xw_ri_outer {post : SX → Prop} {L : List Nat} (P : dt_par us fk en) (hL : dt_ch od L xc) (hLb : ∀ m, m ∈ L → m < 160) (hLd : L.Nodup) (hLl : L.length ≤ 8) : ∀ (l : List Nat) (x : Int32) (m n : Nat) (ik ip : Nat → Int32), dt_ch od l x → (∀ r, r ∈ l → r < 160) → dt_ix l fk us ky nv m ik ip → l.length < n → (∀ m' ik' ip', dt_ix [] fk us ky nv m' ik' ip' → (∀ q, dt_kn l nv m ip q ↔ dt_kn [] nv m' ip' q) → post (ne, dt_ff L fn, -1, 0, nI m', gn, ge, sn, us, ch, cl, bc, bk, bv, be, kd, ky, nv, dt_fo L od fn, ik', ip', gk, gv, gs, ak, av, so, sk, sv)) → wX_rewriteIndex_5 post ne fn xc xl gn ge sn n x (nI m) us ch cl bc bk bv be kd ky nv od ik ip gk gv gs ak av so sk sv
  | [], x, m, n, ik, ip, hc, _, hx, hn, hp => by
    obtain ⟨n, rfl⟩ : ∃ k, n = k + 1 := ⟨n - 1, by omega⟩
    cases (hc : x = -1)
    refine br_t dt_m1lt ?_
    exact xw_freeChain hL hLb hLd hLl (hp m ik ip hx (fun q => Iff.rfl))
  | r :: l, x, m, n, ik, ip, hc, hb, hx, hn, hp => by
    obtain ⟨n, rfl⟩ : ∃ k, n = k + 1 := ⟨n - 1, by omega⟩
    obtain ⟨rfl, hc⟩ := hc
    have hr := hb r (List.mem_cons_self ..)
    have hroom := dt_ix_room hx P
    rw [List.length_cons] at hroom hn
    obtain ⟨q, hq, uq, e1, e2⟩ := hx.2.2.2.2.2.1 r (List.mem_cons_self ..)
    have hfk := P.1 q hq uq
    have e3 : dt_n ky r = fk q := dt_n_of e2 (by omega)
    refine br_f (nI_pos (by omega)) (nm_r (nI_1 m) ⟨m + 1, ?_⟩)
    have key := xw_ri_loop (post := post) (J := wX_rewriteIndex_5 post ne fn xc xl gn ge sn n) (ne := ne) (fn := fn) (xc := xc) (xl := xl) (xn := nI (m + 1)) (gn := gn) (ge := ge) (sn := sn) (us := us) (ch := ch) (cl := cl) (bc := bc) (bk := bk) (bv := bv) (be := be) (kd := kd) (ky := ky) (nv := nv) (od := od) (ik := ik) (ip := ip) (gk := gk) (gv := gv) (gs := gs) (ak := ak) (av := av) (so := so) (sk := sk) (sv := sv) (r := r) (key := fk q) (m := m) hr e2 (by omega) (by omega) (dt_ix_key P hx) hx.2.2.2.1 ?_ m (m + 1) (Nat.le_refl m) (fun j h1 h2 => by omega) (by omega)
    · rw [dt_sh_0, dt_sh_0, Nat.sub_self] at key
      exact key
    · intro a ha hlo hhi
      rw [← e3] at hlo hhi
      obtain ⟨hx', hkn⟩ := dt_ix_ins P hx ha hlo hhi
      refine xw_ri_outer P hL hLb hLd hLl l _ (m + 1) n _ _ hc (fun s hs => hb s (List.mem_cons_of_mem _ hs)) hx' (by omega) ?_
      intro m' ik' ip' h1 h2
      exact hp m' ik' ip' h1 (fun q => (hkn q).trans (h2 q))
theorem xw_rewriteIndex {post : SX → Prop} {L : List Nat} {m : Nat} (hxn : xn = nI m) (P : dt_par us fk en) (hL : dt_ch od L xc) (hLb : ∀ m, m ∈ L → m < 160) (hLd : L.Nodup) (hLl : L.length ≤ 8) (hx : dt_ix L fk us ky nv m ik ip) (hp : ∀ m' ik' ip', dt_ix [] fk us ky nv m' ik' ip' → (∀ q, dt_kn L nv m ip q ↔ dt_kn [] nv m' ip' q) → post (ne, dt_ff L fn, -1, 0, nI m', gn, ge, sn, us, ch, cl, bc, bk, bv, be, kd, ky, nv, dt_fo L od fn, ik', ip', gk, gv, gs, ak, av, so, sk, sv)) : wpX_rewriteIndex post (ne, fn, xc, xl, xn, gn, ge, sn, us, ch, cl, bc, bk, bv, be, kd, ky, nv, od, ik, ip, gk, gv, gs, ak, av, so, sk, sv) := by
  subst hxn
  exact ⟨L.length + 1, xw_ri_outer P hL hLb hLd hLl L xc m (L.length + 1) ik ip hL hLb hx (Nat.lt_succ_self _) hp⟩
end
end
section
theorem dt_rc_more {C C' : Nat → List Nat} {us kd nv kd' nv' : Nat → Int32} {m m' : Nat} {ip ip' : Nat → Int32} (h : dt_rc C us kd nv m ip) (hC : ∀ p, p < 24 → C' p = C p) (hn : ∀ p, p < 24 → ∀ n, n ∈ C p → kd' n = kd n ∧ nv' n = nv n) (hk : ∀ r, r < 24 → dt_kn (C 24) nv m ip r → dt_kn (C' 24) nv' m' ip' r) : dt_rc C' us kd' nv' m' ip' := by
  intro q hq uq
  rcases h q hq uq with g | ⟨p, hp, up, n, hm, e1, e2⟩
  · exact Or.inl (hk q hq g)
  · refine Or.inr ⟨p, hp, up, n, by rw [hC p hp]; exact hm, ?_⟩
    rw [(hn p hp n hm).1, (hn p hp n hm).2]
    exact ⟨e1, e2⟩
section
variable {ne fn xc xl xn gn ge sn ye yw : Int32} {us ch cl bc bk bv be kd ky nv od ik ip gk gv gs ak av so sk sv yh yv yp yk yn hb vb : Nat → Int32}
variable {C : Nat → List Nat} {fk en : Nat → Nat} {M : Nat → Option Int32} {mx : Nat}
theorem dt_xpush {C' : Nat → List Nat} {n q : Nat} {L : List Nat} (I : dt_XI C fk en M mx fn xc xl xn us ch cl bc bk bv be kd ky nv od ik ip) (h25 : C 25 = n :: L) (hC' : C' = dt_up (dt_up C 25 L) 24 (n :: C 24)) (hq : q < 24) (uq : us q ≠ 0) (d1 : ∀ n, n ∈ C 24 → dt_n ky n ≠ fk q) (d2 : ∀ j, j < mx → dt_n ik j ≠ fk q) :
    dt_pool C' (dt_hd ch (nI n) (od n)) (upd od n xc) ∧ (∀ p, p < 24 → C' p = C p) ∧ C' 24 = n :: C 24 ∧ (∀ p, p < 25 → ∀ m, m ∈ C p → m ≠ n) ∧
    (∀ p, p < 24 → us p ≠ 0 → dt_pg C' fk en M us bc bk bv be (upd kd n 2) (upd ky n (nI (fk q))) (upd nv n (nI q)) p) ∧
    dt_ix (n :: C 24) fk us (upd ky n (nI (fk q))) (upd nv n (nI q)) mx ik ip ∧
    (∀ r, r < 24 → (dt_kn (n :: C 24) (upd nv n (nI q)) mx ip r ↔ dt_kn (C 24) nv mx ip r ∨ r = q)) := by
  subst hC'
  obtain ⟨hP, hlen, hpar, hpg, hun, hxn, hix, hrc⟩ := I
  have hne : ∀ p, p < 25 → ∀ m, m ∈ C p → m ≠ n := fun p hp m hm e => by
    have hn25 : n ∈ C 25 := by rw [h25]; exact List.mem_cons_self ..
    have := hP.2.2.2.1 p 25 n (by omega) (by decide) (e ▸ hm) hn25
    omega
  have hCp : ∀ p, p < 24 → dt_up (dt_up C 25 L) 24 (n :: C 24) p = C p := fun p hp => by
    rw [dt_up_n (by omega), dt_up_n (by omega)]
  refine ⟨?_, hCp, dt_up_s, hne, ?_, ?_, ?_⟩
  · refine dt_pool_push hP (by decide) h25 ?_ rfl rfl
    intro r hr hr2
    rw [dt_hd_p (by omega), dt_hd_p (by omega)]
  · intro p hp up
    exact dt_pg_frame (hpg p hp up) (hCp p hp) rfl rfl (fun _ _ _ => rfl) (fun q _ uq => ⟨uq, rfl⟩) rfl rfl (fun _ _ => rfl) (fun _ _ => rfl) (fun m hm => ⟨pk_un (hne p (by omega) m hm), pk_un (hne p (by omega) m hm), pk_un (hne p (by omega) m hm)⟩)
  · exact dt_ix_push hpar hix (fun m hm => ⟨pk_un (hne 24 (by decide) m hm), pk_un (hne 24 (by decide) m hm)⟩) hq uq pk_us pk_us d1 d2
  · intro r hr
    constructor
    · rintro (h | ⟨m, hm, e⟩)
      · exact Or.inl (Or.inl h)
      · rcases List.mem_cons.mp hm with h | h
        · rw [h, pk_us] at e
          exact Or.inr (dt_im e (by omega) (by omega)).symm
        · rw [pk_un (hne 24 (by decide) m h)] at e
          exact Or.inl (Or.inr ⟨m, h, e⟩)
    · rintro ((h | ⟨m, hm, e⟩) | h)
      · exact Or.inl h
      · exact Or.inr ⟨m, List.mem_cons_of_mem _ hm, by rw [pk_un (hne 24 (by decide) m hm)]; exact e⟩
      · exact Or.inr ⟨n, List.mem_cons_self .., by rw [pk_us, h]⟩
theorem xw_nii_end {post : SX → Prop} {q n : Nat} (I : dt_XI C fk en M mx fn xc xl xn us ch cl bc bk bv be kd ky nv od ik ip) (hq : q < 24) (uq : us q ≠ 0) (d1 : ∀ n, n ∈ C 24 → dt_n ky n ≠ fk q) (d2 : ∀ j, j < mx → dt_n ik j ≠ fk q)
    (hp : ∀ (C' : Nat → List Nat) (mx' : Nat) (fn' xc' xl' xn' : Int32) (kd' ky' nv' od' ik' ip' : Nat → Int32), dt_XI C' fk en M mx' fn' xc' xl' xn' us ch cl bc bk bv be kd' ky' nv' od' ik' ip' → (∀ p, p < 24 → C' p = C p) → (∀ p, p < 24 → ∀ n, n ∈ C p → kd' n = kd n ∧ ky' n = ky n ∧ nv' n = nv n) → (∀ r, r < 24 → (dt_kn (C' 24) nv' mx' ip' r ↔ dt_kn (C 24) nv mx ip r ∨ r = q)) → post (ne, fn', xc', xl', xn', gn, ge, sn, us, ch, cl, bc, bk, bv, be, kd', ky', nv', od', ik', ip', gk, gv, gs, ak, av, so, sk, sv)) :
    wX_noteInIndex_32 post (nI (fk q)) (nI q) ne fn xc xl xn gn ge sn us ch cl bc bk bv be kd ky nv od ik ip gk gv gs ak av so sk sv (n + 1) (-1) := by
  refine br_t dt_m1lt ?_
  have hl := I.2.1
  have hl4 := hl.2.2
  obtain ⟨f, L, h25⟩ := dt_pool_room I.1 (fun r hr => by
    by_cases e : r = 24
    · rw [e]; have := hl.2.2; omega
    · exact (hl.1 r (by omega)).2)
  have hfc := I.1.1 25 (by decide)
  rw [h25] at hfc
  have hf : f < 160 := I.1.2.2.1 25 (by decide) f (by rw [h25]; exact List.mem_cons_self ..)
  obtain ⟨P1, P2, P3, P4, P5, P6, P7⟩ := dt_xpush I h25 rfl hq uq d1 d2
  have hn2 : ∀ p, p < 24 → ∀ m, m ∈ C p → upd kd f 2 m = kd m ∧ upd ky f (nI (fk q)) m = ky m ∧ upd nv f (nI q) m = nv m := fun p hp m hm => ⟨pk_un (P4 p (by omega) m hm), pk_un (P4 p (by omega) m hm), pk_un (P4 p (by omega) m hm)⟩
  obtain ⟨hP, hlen, hpar, hpg, hun, hxn, hix, hrc⟩ := I
  refine xw_newNote hf hfc.1 ?_
  refine nm_r (e' := nI ((C 24).length + 1)) (by rw [hl.2.1, nI_1]) ?_
  generalize hC' : dt_up (dt_up C 25 L) 24 (f :: C 24) = C' at P1 P2 P3 P5
  refine pk_le ((C 24).length + 1) 4 (fun h4 => ?_) (fun h4 => ?_) rfl rfl (by omega) (by decide)
  · refine hp C' mx (od f) (nI f) (nI ((C 24).length + 1)) xn (upd kd f 2) (upd ky f (nI (fk q))) (upd nv f (nI q)) (upd od f xc) ik ip ⟨P1, ⟨?_, ?_, ?_⟩, hpar, P5, ?_, hxn, ?_, ?_⟩ P2 hn2 ?_
    · intro r hr
      rw [P2 r hr]; exact hlen.1 r hr
    · rw [P3, List.length_cons]
    · rw [P3, List.length_cons]; exact h4
    · intro p hp' hu
      rw [P2 p hp']; exact hun p hp' hu
    · rw [P3]; exact P6
    · refine dt_rc_more hrc P2 (fun p hp m hm => ⟨(hn2 p hp m hm).1, (hn2 p hp m hm).2.2⟩) ?_
      intro r hr h
      rw [P3]; exact (P7 r hr).mpr (Or.inl h)
    · rw [P3]; exact P7
  · refine xw_rewriteIndex (L := f :: C 24) (m := mx) hxn hpar (by rw [← P3]; exact P1.1 24 (by decide)) (fun m hm => by rw [← P3] at hm; exact P1.2.2.1 24 (by decide) m hm) (by rw [← P3]; exact P1.2.1 24 (by decide)) (by rw [List.length_cons]; omega) P6 ?_
    intro m' ik' ip' hx' hkn'
    have hpool := dt_pool_free (t := 24) (H' := dt_hd ch (-1) (dt_ff (C' 24) (od f))) P1 (by decide) (fun r hr hr2 => by rw [dt_hd_p (by omega), dt_hd_p (by omega)]) rfl rfl
    have Q2 : ∀ p, p < 24 → dt_up (dt_up C' 25 ((C' 24).reverse ++ C' 25)) 24 [] p = C p := fun p hp => by
      rw [dt_up_n (by omega), dt_up_n (by omega)]; exact P2 p hp
    have Q3 : dt_up (dt_up C' 25 ((C' 24).reverse ++ C' 25)) 24 [] 24 = [] := dt_up_s
    rw [dt_hd_f, show (C' 24) = f :: C 24 from P3] at hpool
    rw [show (C' 24) = f :: C 24 from P3] at Q2 Q3
    generalize hC'' : dt_up (dt_up C' 25 ((f :: C 24).reverse ++ C' 25)) 24 [] = C'' at hpool Q2 Q3
    refine hp C'' m' (dt_ff (f :: C 24) (od f)) (-1) 0 (nI m') (upd kd f 2) (upd ky f (nI (fk q))) (upd nv f (nI q)) (dt_fo (f :: C 24) (upd od f xc) (od f)) ik' ip' ⟨hpool, ⟨?_, ?_, ?_⟩, hpar, ?_, ?_, rfl, ?_, ?_⟩ Q2 hn2 ?_
    · intro r hr
      rw [Q2 r hr]; exact hlen.1 r hr
    · rw [Q3]; rfl
    · rw [Q3]; decide
    · intro p hp' up
      exact dt_pg_frame (P5 p hp' up) (by rw [Q2 p hp', P2 p hp']) rfl rfl (fun _ _ _ => rfl) (fun q _ uq => ⟨uq, rfl⟩) rfl rfl (fun _ _ => rfl) (fun _ _ => rfl) (fun m hm => ⟨rfl, rfl, rfl⟩)
    · intro p hp' hu
      rw [Q2 p hp']; exact hun p hp' hu
    · rw [Q3]; exact hx'
    · refine dt_rc_more hrc Q2 (fun p hp m hm => ⟨(hn2 p hp m hm).1, (hn2 p hp m hm).2.2⟩) ?_
      intro r hr h
      rw [Q3]; exact (hkn' r).mp ((P7 r hr).mpr (Or.inl h))
    · intro r hr
      rw [Q3]; exact ((hkn' r).symm).trans (P7 r hr)
theorem xw_nii_chain {post : SX → Prop} {q : Nat} (I : dt_XI C fk en M mx fn xc xl xn us ch cl bc bk bv be kd ky nv od ik ip) (hq : q < 24) (uq : us q ≠ 0) (d2 : ∀ j, j < mx → dt_n ik j ≠ fk q)
    (hp : ∀ (C' : Nat → List Nat) (mx' : Nat) (fn' xc' xl' xn' : Int32) (kd' ky' nv' od' ik' ip' : Nat → Int32), dt_XI C' fk en M mx' fn' xc' xl' xn' us ch cl bc bk bv be kd' ky' nv' od' ik' ip' → (∀ p, p < 24 → C' p = C p) → (∀ p, p < 24 → ∀ n, n ∈ C p → kd' n = kd n ∧ ky' n = ky n ∧ nv' n = nv n) → (∀ r, r < 24 → (dt_kn (C' 24) nv' mx' ip' r ↔ dt_kn (C 24) nv mx ip r ∨ r = q)) → post (ne, fn', xc', xl', xn', gn, ge, sn, us, ch, cl, bc, bk, bv, be, kd', ky', nv', od', ik', ip', gk, gv, gs, ak, av, so, sk, sv)) :
    ∀ (l : List Nat) (x : Int32) (n : Nat), dt_ch od l x → (∀ m, m ∈ l → m ∈ C 24) → (∀ m, m ∈ C 24 → m ∈ l ∨ dt_n ky m ≠ fk q) → l.length < n → wX_noteInIndex_32 post (nI (fk q)) (nI q) ne fn xc xl xn gn ge sn us ch cl bc bk bv be kd ky nv od ik ip gk gv gs ak av so sk sv n x
  | [], x, n, hc, _, hd, hn => by
    obtain ⟨n, rfl⟩ : ∃ k, n = k + 1 := ⟨n - 1, by omega⟩
    cases (hc : x = -1)
    refine xw_nii_end I hq uq (fun m hm => ?_) d2 hp
    exact (hd m hm).resolve_left (List.not_mem_nil)
  | m :: l, x, n, hc, hs, hd, hn => by
    obtain ⟨n, rfl⟩ : ∃ k, n = k + 1 := ⟨n - 1, by omega⟩
    obtain ⟨rfl, hc⟩ := hc
    have hm := hs m (List.mem_cons_self ..)
    have hb := I.1.2.2.1 24 (by decide) m hm
    have c1 : (nI m).toNatClampNeg = m := nI_clamp (by omega)
    have hi : vp_in (nI m) 160 := vp_in_nI hb (by decide)
    refine br_f (nI_pos (by omega)) ⟨hi, ?_⟩
    rw [c1]
    obtain ⟨q', hq', uq', e1, e2⟩ := I.2.2.2.2.2.2.1.2.2.2.2.2.1 m hm
    have hpar := I.2.2.1
    have f1 := hpar.1 q hq uq
    have f2 := hpar.1 q' hq' uq'
    have e3 : dt_n ky m = fk q' := dt_n_of e2 (by omega)
    refine pk_eq (fk q') (fk q) (fun e => ?_) (fun e => ?_) e2 rfl (by omega) (by omega)
    · have : q' = q := dt_par_fk hpar hq' hq uq' uq e
      refine hp C mx fn xc xl xn kd ky nv od ik ip I (fun _ _ => rfl) (fun _ _ _ _ => ⟨rfl, rfl, rfl⟩) (fun r hr => ⟨Or.inl, ?_⟩)
      rintro (h | h)
      · exact h
      · exact Or.inr ⟨m, hm, by rw [e1, this, h]⟩
    · refine ⟨hi, nm_e (xw_nii_chain I hq uq d2 hp l _ n hc (fun r hr => hs r (List.mem_cons_of_mem _ hr)) (fun r hr => ?_) (by rw [List.length_cons] at hn; omega))⟩
      rcases hd r hr with h | h
      · rcases List.mem_cons.mp h with h | h
        · right; rw [h, e3]; exact e
        · exact Or.inl h
      · exact Or.inr h
theorem xw_nii_base {post : SX → Prop} {q : Nat} (I : dt_XI C fk en M mx fn xc xl xn us ch cl bc bk bv be kd ky nv od ik ip) (hq : q < 24) (uq : us q ≠ 0)
    (hp : ∀ (C' : Nat → List Nat) (mx' : Nat) (fn' xc' xl' xn' : Int32) (kd' ky' nv' od' ik' ip' : Nat → Int32), dt_XI C' fk en M mx' fn' xc' xl' xn' us ch cl bc bk bv be kd' ky' nv' od' ik' ip' → (∀ p, p < 24 → C' p = C p) → (∀ p, p < 24 → ∀ n, n ∈ C p → kd' n = kd n ∧ ky' n = ky n ∧ nv' n = nv n) → (∀ r, r < 24 → (dt_kn (C' 24) nv' mx' ip' r ↔ dt_kn (C 24) nv mx ip r ∨ r = q)) → post (ne, fn', xc', xl', xn', gn, ge, sn, us, ch, cl, bc, bk, bv, be, kd', ky', nv', od', ik', ip', gk, gv, gs, ak, av, so, sk, sv)) :
    ∀ (d n i : Nat), i + d = mx → d < n → (∀ j, j < i → dt_n ik j ≠ fk q) → wX_noteInIndex_2 post (nI (fk q)) (nI q) ne fn xc xl xn gn ge sn us ch cl bc bk bv be kd ky nv od ik ip gk gv gs ak av so sk sv n (nI i) := by
  have hxn := I.2.2.2.2.2.1
  have hix := I.2.2.2.2.2.2.1
  have hpar := I.2.2.1
  have f1 := hpar.1 q hq uq
  intro d
  induction d with
  | zero =>
    intro n i hi hn hd
    obtain ⟨n, rfl⟩ : ∃ k, n = k + 1 := ⟨n - 1, by omega⟩
    refine br_t (by rw [hxn]; exact nI_le (by omega) (by have := hix.2.1; omega)) ⟨(C 24).length + 1, ?_⟩
    exact xw_nii_chain I hq uq (fun j hj => hd j (by omega)) hp (C 24) _ _ (I.1.1 24 (by decide)) (fun m hm => hm) (fun m hm => Or.inl hm) (Nat.lt_succ_self _)
  | succ d ih =>
    intro n i hi hn hd
    obtain ⟨n, rfl⟩ : ∃ k, n = k + 1 := ⟨n - 1, by omega⟩
    have hm24 := hix.2.1
    refine br_f (by rw [hxn]; exact nI_ge (by omega) (by omega)) ⟨vp_in_nI (by omega) (by decide), ?_⟩
    rw [nI_clamp (by omega)]
    obtain ⟨q', hq', uq', e1, e2⟩ := hix.2.2.1 i (by omega)
    have f2 := hpar.1 q' hq' uq'
    have e3 : dt_n ik i = fk q' := dt_n_of e2 (by omega)
    refine pk_eq (fk q') (fk q) (fun e => ?_) (fun e => ?_) e2 rfl (by omega) (by omega)
    · have : q' = q := dt_par_fk hpar hq' hq uq' uq e
      refine hp C mx fn xc xl xn kd ky nv od ik ip I (fun _ _ => rfl) (fun _ _ _ _ => ⟨rfl, rfl, rfl⟩) (fun r hr => ⟨Or.inl, ?_⟩)
      rintro (h | h)
      · exact h
      · exact Or.inl ⟨i, by omega, by rw [e1, this, h]⟩
    · refine nm_r (nI_1 i) (ih n (i + 1) (by omega) (by omega) (fun j hj => ?_))
      by_cases e4 : j = i
      · rw [e4, e3]; exact e
      · exact hd j (by omega)
theorem xw_noteInIndex {post : SX → Prop} {q : Nat} (I : dt_XI C fk en M mx fn xc xl xn us ch cl bc bk bv be kd ky nv od ik ip) (hq : q < 24) (uq : us q ≠ 0)
    (hp : ∀ (C' : Nat → List Nat) (mx' : Nat) (fn' xc' xl' xn' : Int32) (kd' ky' nv' od' ik' ip' : Nat → Int32), dt_XI C' fk en M mx' fn' xc' xl' xn' us ch cl bc bk bv be kd' ky' nv' od' ik' ip' → (∀ p, p < 24 → C' p = C p) → (∀ p, p < 24 → ∀ n, n ∈ C p → kd' n = kd n ∧ ky' n = ky n ∧ nv' n = nv n) → (∀ r, r < 24 → (dt_kn (C' 24) nv' mx' ip' r ↔ dt_kn (C 24) nv mx ip r ∨ r = q)) → post (ne, fn', xc', xl', xn', gn, ge, sn, us, ch, cl, bc, bk, bv, be, kd', ky', nv', od', ik', ip', gk, gv, gs, ak, av, so, sk, sv)) :
    wpX_noteInIndex post (ne, fn, xc, xl, xn, gn, ge, sn, us, ch, cl, bc, bk, bv, be, kd, ky, nv, od, ik, ip, gk, gv, gs, ak, av, so, sk, sv) (nI (fk q)) (nI q) :=
  ⟨mx + 1, xw_nii_base I hq uq hp mx (mx + 1) 0 (by omega) (by omega) (fun j hj => by omega)⟩
end
end
section
section
variable {ne fn xc xl xn gn ge sn ye yw : Int32} {us ch cl bc bk bv be kd ky nv od ik ip gk gv gs ak av so sk sv yh yv yp yk yn hb vb : Nat → Int32}
variable {C : Nat → List Nat} {fk en : Nat → Nat} {M : Nat → Option Int32} {mx : Nat}
/-- the last page that the index knows and that doesn't begin behind the key, and there is no division before the key: it is the key's page -/
theorem dt_pf_end {key pg : Nat} (I : dt_XI C fk en M mx fn xc xl xn us ch cl bc bk bv be kd ky nv od ik ip) (hk : key < 4096) (hp : pg < 24) (up : us pg ≠ 0) (h1 : fk pg ≤ key) (hmax : ∀ r, r < 24 → us r ≠ 0 → dt_kn (C 24) nv mx ip r → fk r ≤ key → fk r ≤ fk pg) (hno : ∀ n, n ∈ C pg → kd n ≠ 2) : key < en pg := by
  obtain ⟨hP, hlen, hpar, hpg, hun, hxn, hix, hrc⟩ := I
  apply Nat.lt_of_not_le
  intro hc
  have hpp := hpar.1 pg hp up
  obtain ⟨q, hq, uq, e⟩ := dt_par_next hpar hp up (by omega)
  rcases hrc q hq uq with g | ⟨p, hp', up', n, hn, k2, ev⟩
  · have := hmax q hq uq g (by omega)
    omega
  · obtain ⟨b, c, _, _, _, hck, _⟩ := hpg p hp' up'
    rcases dt_cok_dv hck with g | ⟨m, hm, g1, g2, g3, g4, ⟨q', hq', uq', e1, e2⟩, _, g7⟩
    · exact g.2.1 n hn k2
    · have hmn := g7 n hn k2
      rw [← hmn, ev] at e1
      have : q = q' := dt_im e1 (by omega) (by omega)
      rw [← this, e] at e2
      have : p = pg := dt_par_en hpar hp' hp up' up e2.symm
      exact hno n (this ▸ hn) k2
theorem xw_pf_loop {post : Int32 → SX → Prop} {key : Nat} (hk : key < 4096) : ∀ (d n pg st : Nat) (C : Nat → List Nat) (mx : Nat) (fn xc xl xn : Int32) (kd ky nv od ik ip : Nat → Int32),
    (∀ (C' : Nat → List Nat) (mx' : Nat) (fn' xc' xl' xn' : Int32) (kd' ky' nv' od' ik' ip' : Nat → Int32) (p : Nat), dt_XI C' fk en M mx' fn' xc' xl' xn' us ch cl bc bk bv be kd' ky' nv' od' ik' ip' → (∀ p, p < 24 → C' p = C p) → p < 24 → us p ≠ 0 → fk p ≤ key → key < en p → dt_kn (C' 24) nv' mx' ip' p → post (nI p) (ne, fn', xc', xl', xn', gn, ge, sn, us, ch, cl, bc, bk, bv, be, kd', ky', nv', od', ik', ip', gk, gv, gs, ak, av, so, sk, sv)) →
    dt_XI C fk en M mx fn xc xl xn us ch cl bc bk bv be kd ky nv od ik ip → pg < 24 → us pg ≠ 0 → fk pg ≤ key → dt_kn (C 24) nv mx ip pg → (∀ r, r < 24 → us r ≠ 0 → dt_kn (C 24) nv mx ip r → fk r ≤ key → fk r ≤ fk pg) →
    dt_cn (fun r => decide (us r ≠ 0 ∧ en pg < en r)) 24 ≤ d → st + d ≤ 23 → d < n → wX_pageFor_93 post (nI key) n (nI pg) (dt_dv kd (C pg)) (nI st) ne fn xc xl xn gn ge sn us ch cl bc bk bv be kd ky nv od ik ip gk gv gs ak av so sk sv := by
  intro d
  induction d with
  | zero =>
    intro n pg st C mx fn xc xl xn kd ky nv od ik ip hp I hpg up h1 hkn hmax hcn hst hn
    obtain ⟨n, rfl⟩ : ∃ k, n = k + 1 := ⟨n - 1, by omega⟩
    refine br_f (nI_ge (b := 24) (by omega) (by decide)) ?_
    have hpp := I.2.2.1.1 pg hpg up
    obtain ⟨b, c, _, _, _, hck, _⟩ := I.2.2.2.1 pg hpg up
    rcases dt_cok_dv hck with g | ⟨m, hm, g1, g2, g3, g4, ⟨q, hq, uq, e1, e2⟩, _, g7⟩
    · rw [g.1]
      exact br_t dt_m1lt (hp C mx fn xc xl xn kd ky nv od ik ip pg I (fun _ _ => rfl) hpg up h1 (dt_pf_end I hk hpg up h1 hmax g.2.1) hkn)
    · exfalso
      have hqq := I.2.2.1.1 q hq uq
      have := dt_cn_upt (f := fun r => decide (us r ≠ 0 ∧ en pg < en r)) (a := 0) (b := 24) (k := q) (by omega) hq (by simp only [decide_eq_true_eq]; exact ⟨uq, by omega⟩)
      omega
  | succ d ih =>
    intro n pg st C mx fn xc xl xn kd ky nv od ik ip hp I hpg up h1 hkn hmax hcn hst hn
    obtain ⟨n, rfl⟩ : ∃ k, n = k + 1 := ⟨n - 1, by omega⟩
    refine br_f (nI_ge (b := 24) (by omega) (by decide)) ?_
    have hpp := I.2.2.1.1 pg hpg up
    obtain ⟨b, c, _, _, _, hck, _⟩ := I.2.2.2.1 pg hpg up
    rcases dt_cok_dv hck with g | ⟨m, hm, g1, g2, g3, g4, ⟨q, hq, uq, e1, e2⟩, _, g7⟩
    · rw [g.1]
      exact br_t dt_m1lt (hp C mx fn xc xl xn kd ky nv od ik ip pg I (fun _ _ => rfl) hpg up h1 (dt_pf_end I hk hpg up h1 hmax g.2.1) hkn)
    · rw [g1]
      have hb := I.1.2.2.1 pg (by omega) m hm
      have c1 : (nI m).toNatClampNeg = m := nI_clamp (by omega)
      have hi : vp_in (nI m) 160 := vp_in_nI hb (by decide)
      have hqq := I.2.2.1.1 q hq uq
      refine br_f (nI_pos (by omega)) ⟨hi, ?_⟩
      rw [c1, g3, e1]
      refine pk_lt key (en pg) (fun hlt => hp C mx fn xc xl xn kd ky nv od ik ip pg I (fun _ _ => rfl) hpg up h1 hlt hkn) (fun hge => ⟨hi, hi, ?_⟩) rfl rfl (by omega) (by omega)
      rw [← e2]
      refine xw_noteInIndex I hq uq ?_
      intro C' mx' fn' xc' xl' xn' kd' ky' nv' od' ik' ip' I' hC hN hK
      have hnv : nv' m = nI q := by rw [(hN pg hpg m hm).2.2]; exact e1
      refine And.intro hi (nm_r (e' := nI q) hnv ?_)
      refine xw_pg_div I' hq ?_
      refine nm_r (nI_1 st) ?_
      refine ih n q (st + 1) C' mx' fn' xc' xl' xn' kd' ky' nv' od' ik' ip' ?_ I' hq uq (by omega) ((hK q hq).mpr (Or.inr rfl)) ?_ ?_ (by omega) (by omega)
      · intro C'' mx'' fn'' xc'' xl'' xn'' kd'' ky'' nv'' od'' ik'' ip'' p I'' hC'' hp' up' f1 f2 f3
        exact hp C'' mx'' fn'' xc'' xl'' xn'' kd'' ky'' nv'' od'' ik'' ip'' p I'' (fun r hr => (hC'' r hr).trans (hC r hr)) hp' up' f1 f2 f3
      · intro r hr ur hkr hle
        rcases (hK r hr).mp hkr with h | h
        · have := hmax r hr ur h hle
          omega
        · rw [h]; exact Nat.le_refl _
      · have := dt_cn_lt (f := fun r => decide (us r ≠ 0 ∧ en q < en r)) (g := fun r => decide (us r ≠ 0 ∧ en pg < en r)) (j := q) (n := 24) (fun r hr h => by
          simp only [decide_eq_true_eq] at h ⊢
          exact ⟨h.1, by omega⟩) hq (by simp) (by simp only [decide_eq_true_eq]; exact ⟨uq, by omega⟩)
        omega
theorem xw_pf_chain {post : Int32 → SX → Prop} {key : Nat} (hk : key < 4096) (I : dt_XI C fk en M mx fn xc xl xn us ch cl bc bk bv be kd ky nv od ik ip) (hend : ∀ pg, pg < 24 → us pg ≠ 0 → fk pg ≤ key → dt_kn (C 24) nv mx ip pg → (∀ r, r < 24 → us r ≠ 0 → dt_kn (C 24) nv mx ip r → fk r ≤ key → fk r ≤ fk pg) → ∃ n, wX_pageFor_93 post (nI key) n (nI pg) (dt_dv kd (C pg)) (nI 0) ne fn xc xl xn gn ge sn us ch cl bc bk bv be kd ky nv od ik ip gk gv gs ak av so sk sv) :
    ∀ (l : List Nat) (x : Int32) (n pg : Nat), dt_ch od l x → (∀ m, m ∈ l → m ∈ C 24) → l.length < n → pg < 24 → us pg ≠ 0 → fk pg ≤ key → dt_kn (C 24) nv mx ip pg → (∀ r, r < 24 → us r ≠ 0 → dt_kn (C 24) nv mx ip r → fk r ≤ key → fk r ≤ fk pg ∨ ∃ m, m ∈ l ∧ nv m = nI r) → wX_pageFor_28 post (nI key) ne fn xc xl xn gn ge sn us ch cl bc bk bv be kd ky nv od ik ip gk gv gs ak av so sk sv n (nI pg) (nI (fk pg)) x
  | [], x, n, pg, hc, _, hn, hpg, up, h1, hkn, hmax => by
    obtain ⟨n, rfl⟩ : ∃ k, n = k + 1 := ⟨n - 1, by omega⟩
    cases (hc : x = -1)
    refine br_t dt_m1lt (xw_pg_div I hpg ?_)
    refine hend pg hpg up h1 hkn (fun r hr ur hkr hle => (hmax r hr ur hkr hle).resolve_right ?_)
    rintro ⟨m, hm, _⟩
    exact List.not_mem_nil hm
  | m :: l, x, n, pg, hc, hs, hn, hpg, up, h1, hkn, hmax => by
    obtain ⟨n, rfl⟩ : ∃ k, n = k + 1 := ⟨n - 1, by omega⟩
    obtain ⟨rfl, hc⟩ := hc
    have hm := hs m (List.mem_cons_self ..)
    have hb := I.1.2.2.1 24 (by decide) m hm
    have c1 : (nI m).toNatClampNeg = m := nI_clamp (by omega)
    have hi : vp_in (nI m) 160 := vp_in_nI hb (by decide)
    obtain ⟨q, hq, uq, e1, e2⟩ := I.2.2.2.2.2.2.1.2.2.2.2.2.1 m hm
    have f1 := I.2.2.1.1 q hq uq
    have f2 := I.2.2.1.1 pg hpg up
    have ih := fun (pg' : Nat) => xw_pf_chain (post := post) hk I hend l (od m) n pg' hc (fun r hr => hs r (List.mem_cons_of_mem _ hr)) (by rw [List.length_cons] at hn; omega)
    refine br_f (nI_pos (by omega)) ⟨hi, ?_⟩
    rw [c1]
    refine pk_lt key (fk q) (fun hlt => ⟨hi, nm_e (ih pg hpg up h1 hkn ?_)⟩) (fun hge => ⟨hi, ?_⟩) rfl e2 (by omega) (by omega)
    · intro r hr ur hkr hle
      rcases hmax r hr ur hkr hle with h | ⟨m', hm', e⟩
      · exact Or.inl h
      · rcases List.mem_cons.mp hm' with h | h
        · rw [h, e1] at e
          have : q = r := dt_im e (by omega) (by omega)
          rw [this] at hlt; omega
        · exact Or.inr ⟨m', h, e⟩
    · refine pk_le (fk q) (fk pg) (fun hle2 => ⟨hi, nm_e (ih pg hpg up h1 hkn ?_)⟩) (fun hgt => ⟨hi, nm_r e2 ⟨hi, nm_r e1 ⟨hi, nm_e (ih q hq uq hge (Or.inr ⟨m, hm, e1⟩) ?_)⟩⟩⟩) e2 rfl (by omega) (by omega)
      · intro r hr ur hkr hle
        rcases hmax r hr ur hkr hle with h | ⟨m', hm', e⟩
        · exact Or.inl h
        · rcases List.mem_cons.mp hm' with h | h
          · rw [h, e1] at e
            have : q = r := dt_im e (by omega) (by omega)
            rw [← this]; exact Or.inl hle2
          · exact Or.inr ⟨m', h, e⟩
      · intro r hr ur hkr hle
        rcases hmax r hr ur hkr hle with h | ⟨m', hm', e⟩
        · left; omega
        · rcases List.mem_cons.mp hm' with h | h
          · rw [h, e1] at e
            have : q = r := dt_im e (by omega) (by omega)
            rw [← this]; exact Or.inl (Nat.le_refl _)
          · exact Or.inr ⟨m', h, e⟩
theorem xw_pageFor {post : Int32 → SX → Prop} {key : Nat} (hk : key < 4096) (I : dt_XI C fk en M mx fn xc xl xn us ch cl bc bk bv be kd ky nv od ik ip)
    (hp : ∀ (C' : Nat → List Nat) (mx' : Nat) (fn' xc' xl' xn' : Int32) (kd' ky' nv' od' ik' ip' : Nat → Int32) (p : Nat), dt_XI C' fk en M mx' fn' xc' xl' xn' us ch cl bc bk bv be kd' ky' nv' od' ik' ip' → (∀ p, p < 24 → C' p = C p) → p < 24 → us p ≠ 0 → fk p ≤ key → key < en p → dt_kn (C' 24) nv' mx' ip' p → post (nI p) (ne, fn', xc', xl', xn', gn, ge, sn, us, ch, cl, bc, bk, bv, be, kd', ky', nv', od', ik', ip', gk, gv, gs, ak, av, so, sk, sv)) : wpX_pageFor post (ne, fn, xc, xl, xn, gn, ge, sn, us, ch, cl, bc, bk, bv, be, kd, ky, nv, od, ik, ip, gk, gv, gs, ak, av, so, sk, sv) (nI key) := by
  have hix := I.2.2.2.2.2.2.1
  have hxn := I.2.2.2.2.2.1
  have hpar := I.2.2.1
  have hik := dt_ix_key hpar hix
  have hm := hix.2.1
  refine xw_placeInIndex hxn hix.1 hix.2.1 hk hik hix.2.2.2.1 hix.2.2.2.2.1 ?_
  intro r hr h1 h2
  obtain ⟨q, hq, uq, e1, e2⟩ := hix.2.2.1 r hr
  refine And.intro (vp_in_nI (by omega) (by decide)) (nm_r (e' := nI q) (by rw [nI_clamp (by omega)]; exact e1) ?_)
  refine xw_placeInIndex hxn hix.1 hix.2.1 hk hik hix.2.2.2.1 hix.2.2.2.2.1 ?_
  intro r' hr' h1' h2'
  have er : r' = r := by
    rcases Nat.lt_trichotomy r r' with h | h | h
    · have := h2 r' h hr'; omega
    · exact h.symm
    · have := h2' r h hr; omega
  subst er
  have f1 := hpar.1 q hq uq
  have e3 : dt_n ik r' = fk q := dt_n_of e2 (by omega)
  refine And.intro (vp_in_nI (by omega) (by decide)) (nm_r (e' := nI (fk q)) (by rw [nI_clamp (by omega)]; exact e2) ⟨(C 24).length + 1, ?_⟩)
  refine xw_pf_chain hk I ?_ (C 24) xc _ q (I.1.1 24 (by decide)) (fun m hm => hm) (Nat.lt_succ_self _) hq uq (by omega) (Or.inl ⟨r', hr, e1⟩) ?_
  · intro pg hpg up g1 g2 g3
    refine ⟨24, xw_pf_loop hk 23 24 pg 0 C mx fn xc xl xn kd ky nv od ik ip hp I hpg up g1 g2 g3 ?_ (by omega) (by omega)⟩
    have h3 := dt_cn_lt (f := fun r => decide (us r ≠ 0 ∧ en pg < en r)) (g := fun _ => true) (j := pg) (n := 24) (fun _ _ _ => rfl) hpg (by simp) rfl
    have h4 := dt_cn_le (fun _ => true) 24
    omega
  · intro s hs us' hks hle
    rcases hks with ⟨j, hj, e⟩ | h
    · left
      obtain ⟨q', hq', uq', e4, e5⟩ := hix.2.2.1 j hj
      have : q' = s := dt_im (e4.symm.trans e) (by omega) (by omega)
      subst this
      have f3 := hpar.1 q' hq' uq'
      have e6 : dt_n ik j = fk q' := dt_n_of e5 (by omega)
      rcases Nat.lt_trichotomy r' j with h | h | h
      · have := h2 j h hj; omega
      · rw [← e6, ← e3, h]; exact Nat.le_refl _
      · have := hix.2.2.2.1 j r' h hr; omega
    · exact Or.inr h
end
end
section
section
variable {ne fn xc xl xn gn ge sn ye yw : Int32} {us ch cl bc bk bv be kd ky nv od ik ip gk gv gs ak av so sk sv yh yv yp yk yn hb vb : Nat → Int32}
/-! one note applied to the gathered entries -/
theorem xw_ap_cut {post : SX → Prop} {m : Nat → Option Int32} {k g0 : Nat} (hk : k < 4096) (G : dt_gat m g0 gk gv) (hp : ∀ g', g' ≤ g0 → (∀ j, j < g' → dt_n gk j < k) → dt_gat (dt_lt m k) g' gk gv → post (ne, fn, xc, xl, xn, nI g', nI k, sn, us, ch, cl, bc, bk, bv, be, kd, ky, nv, od, ik, ip, gk, gv, gs, ak, av, so, sk, sv)) : ∀ g n st, g ≤ g0 → g < n → st + g ≤ 15 → (∀ j, g ≤ j → j < g0 → k ≤ dt_n gk j) → wX_apply_19 post (nI k) ne fn xc xl xn ge sn us ch cl bc bk bv be kd ky nv od ik ip gk gv gs ak av so sk sv n (nI st) (nI g) := by
  intro g
  induction g with
  | zero =>
    intro n st hg hn hst hh
    obtain ⟨n, rfl⟩ : ∃ k, n = k + 1 := ⟨n - 1, by omega⟩
    exact br_f (nI_ge (b := 16) (by omega) (by decide)) (br_t (nI_le (a := 0) (b := 0) (by decide) (by decide)) (hp 0 hg (fun j hj => by omega) (dt_gat_cut G hg (fun j hj => by omega) hh)))
  | succ g ih =>
    intro n st hg hn hst hh
    obtain ⟨n, rfl⟩ : ∃ k, n = k + 1 := ⟨n - 1, by omega⟩
    refine br_f (nI_ge (b := 16) (by omega) (by decide)) (br_f (nI_nle (by omega) (by omega)) ?_)
    have e1 := G.1 g (by omega)
    rw [nI_pred, nI_clamp (by omega)]
    refine ⟨vp_in_nI (by omega) (by decide), ?_⟩
    refine pk_lt (dt_n gk g) k (fun hlt => ?_) (fun hge => ?_) e1.1 rfl (by omega) (by omega)
    · have hlo : ∀ j, j < g + 1 → dt_n gk j < k := fun j hj => by
        by_cases e : j = g
        · rw [e]; exact hlt
        · have := G.2.1 j g (by omega) (by omega)
          omega
      exact hp (g + 1) hg hlo (dt_gat_cut G hg hlo hh)
    · refine nm_e (nm_r (nI_1 st) (ih n (st + 1) (by omega) (by omega) (by omega) (fun j h1 h2 => ?_)))
      by_cases e : j = g
      · rw [e]; exact hge
      · exact hh j (by omega) h2
theorem xw_ap_rem {post : SX → Prop} {a e : Nat} (he : e ≤ 15) (hgn : gn = nI e) (hp : post (ne, fn, xc, xl, xn, gn, ge, sn, us, ch, cl, bc, bk, bv, be, kd, ky, nv, od, ik, ip, dt_sl gk a e, dt_sl gv a e, gs, ak, av, so, sk, sv)) : ∀ d n i, i + d = e → a ≤ i → d < n → wX_apply_256 post ne fn xc xl xn gn ge sn n (nI i) us ch cl bc bk bv be kd ky nv od ik ip (dt_sl gk a i) (dt_sl gv a i) gs ak av so sk sv := by
  subst hgn
  intro d
  induction d with
  | zero =>
    intro n i hi ha hn
    obtain ⟨n, rfl⟩ : ∃ k, n = k + 1 := ⟨n - 1, by omega⟩
    obtain rfl : i = e := by omega
    exact br_t (nI_le (by omega) (by omega)) hp
  | succ d ih =>
    intro n i hi ha hn
    obtain ⟨n, rfl⟩ : ∃ k, n = k + 1 := ⟨n - 1, by omega⟩
    have c1 : (nI i).toNatClampNeg = i := nI_clamp (by omega)
    have c2 : (nI i + 1).toNatClampNeg = i + 1 := by rw [nI_1]; exact nI_clamp (by omega)
    have v1 : vp_in (nI i) 16 := vp_in_nI (by omega) (by decide)
    have v2 : vp_in (nI i + 1) 16 := by rw [nI_1]; exact vp_in_nI (by omega) (by decide)
    refine br_f (nI_ge (by omega) (by omega)) ⟨v2, v1, nm_r (e' := dt_sl gk a (i + 1)) (by rw [c1, c2]; exact dt_sl_s ha) ⟨v2, v1, nm_r (e' := dt_sl gv a (i + 1)) (by rw [c1, c2]; exact dt_sl_s ha) (nm_r (nI_1 i) ?_)⟩⟩
    exact ih n (i + 1) (by omega) (by omega) (by omega)
theorem xw_ap_212 {post : SX → Prop} {r a k g' : Nat} {z0 z1 : Int32} (hr : r < 160) (ha : a < 16) (hz : z1 + z0 = nI g') (hp : post (ne, fn, xc, xl, xn, nI g', ge, sn, us, ch, cl, bc, bk, bv, be, kd, ky, nv, od, ik, ip, upd gk a (nI k), upd gv a (nv r), gs, ak, av, so, sk, sv)) : wX_apply_212 post (nI r) (nI k) (nI a) z0 z1 ne fn xc xl xn gn ge sn us ch cl bc bk bv be kd ky nv od ik ip gk gv gs ak av so sk sv := by
  have c1 : (nI a).toNatClampNeg = a := nI_clamp (by omega)
  have c2 : (nI r).toNatClampNeg = r := nI_clamp (by omega)
  have v1 : vp_in (nI a) 16 := vp_in_nI ha (by decide)
  refine nm_r hz (And.intro v1 (nm_r (by rw [c1]) ⟨vp_in_nI hr (by decide), v1, nm_r (by rw [c1, c2]) hp⟩))
theorem xw_ap_ins {post : SX → Prop} {r a k g : Nat} (hr : r < 160) (hg : g ≤ 15) (hgn : gn = nI g) (hp : post (ne, fn, xc, xl, xn, nI (g + 1), ge, sn, us, ch, cl, bc, bk, bv, be, kd, ky, nv, od, ik, ip, upd (dt_sh gk a g) a (nI k), upd (dt_sh gv a g) a (nv r), gs, ak, av, so, sk, sv)) : ∀ i d n, i = a + d → i ≤ g → d < n → wX_apply_148 post (nI r) (nI k) (nI a) 0 ne fn xc xl xn gn ge sn n (nI i) us ch cl bc bk bv be kd ky nv od ik ip (dt_sh gk i g) (dt_sh gv i g) gs ak av so sk sv := by
  subst hgn
  intro i d
  induction d generalizing i with
  | zero =>
    intro n hi hig hn
    obtain ⟨n, rfl⟩ : ∃ k, n = k + 1 := ⟨n - 1, by omega⟩
    obtain rfl : i = a := by omega
    refine br_t (nI_le (by omega) (by omega)) (br_t rfl ?_)
    exact xw_ap_212 hr (by omega) (nI_1 g) hp
  | succ d ih =>
    intro n hi hig hn
    obtain ⟨n, rfl⟩ : ∃ k, n = k + 1 := ⟨n - 1, by omega⟩
    obtain ⟨i, rfl⟩ : ∃ k, i = k + 1 := ⟨i - 1, by omega⟩
    have c1 : (nI (i + 1)).toNatClampNeg = i + 1 := nI_clamp (by omega)
    have c2 : (nI (i + 1) - 1).toNatClampNeg = i := by rw [nI_pred]; exact nI_clamp (by omega)
    have v1 : vp_in (nI (i + 1)) 16 := vp_in_nI (by omega) (by decide)
    have v2 : vp_in (nI (i + 1) - 1) 16 := by rw [nI_pred]; exact vp_in_nI (by omega) (by decide)
    refine br_f (nI_ge (by omega) (by omega)) (br_t rfl ⟨v2, v1, nm_r (e' := dt_sh gk i g) (by rw [c1, c2]; exact dt_sh_s (by omega)) ⟨v2, v1, nm_r (e' := dt_sh gv i g) (by rw [c1, c2]; exact dt_sh_s (by omega)) (nm_r (pk_m1 i) ?_)⟩⟩)
    exact ih i n (by omega) (by omega) (by omega)
theorem xw_ap_131 {post : SX → Prop} {m : Nat → Option Int32} {r a k g : Nat} (z : Int32) (hr : r < 160) (k2 : kd r ≠ 2) (hky : ky r = nI k) (hk : k < 4096) (hg : g ≤ 15) (hgn : gn = nI g) (G : dt_gat m g gk gv) (ha : a ≤ g) (hlo : ∀ j, j < a → dt_n gk j < k) (hhi : ∀ j, a ≤ j → j < g → k ≤ dt_n gk j) (hz : (z = 0 ∧ (a < g → dt_n gk a ≠ k)) ∨ (z = 1 ∧ a < g ∧ dt_n gk a = k)) (hp : ∀ g' gk' gv', dt_gat (dt_ap kd ky nv r m) g' gk' gv' → g' ≤ g + 1 → post (ne, fn, xc, xl, xn, nI g', ge, sn, us, ch, cl, bc, bk, bv, be, kd, ky, nv, od, ik, ip, gk', gv', gs, ak, av, so, sk, sv)) : wX_apply_131 post (nI r) (nI k) (nI a) z ne fn xc xl xn gn ge sn us ch cl bc bk bv be kd ky nv od ik ip gk gv gs ak av so sk sv := by
  have c2 : (nI r).toNatClampNeg = r := nI_clamp (by omega)
  have eap : dt_ap kd ky nv r m = dt_set m k (if kd r = 0 then some (nv r) else none) := by
    rw [dt_ap, if_neg k2, dt_n_of hky (by omega)]
  rw [eap] at hp
  refine And.intro (vp_in_nI hr (by decide)) ?_
  rw [c2]
  rcases hz with ⟨rfl, hne⟩ | ⟨rfl, hag, heq⟩
  · have hhi' : ∀ j, a ≤ j → j < g → k < dt_n gk j := fun j h1 h2 => by
      have h3 := hhi j h1 h2
      by_cases e : j = a
      · have := hne (by omega)
        rw [e]; rw [e] at h3; omega
      · have h4 := G.2.1 a j (by omega) h2
        have := hhi a (by omega) (by omega)
        omega
    by_cases k0 : kd r = 0
    · rw [if_pos k0] at hp
      refine br_t k0 ⟨g - a + 1, ?_⟩
      have key := xw_ap_ins (post := post) (ne := ne) (fn := fn) (xc := xc) (xl := xl) (xn := xn) (gn := gn) (ge := ge) (sn := sn) (us := us) (ch := ch) (cl := cl) (bc := bc) (bk := bk) (bv := bv) (be := be) (kd := kd) (ky := ky) (nv := nv) (od := od) (ik := ik) (ip := ip) (gk := gk) (gv := gv) (gs := gs) (ak := ak) (av := av) (so := so) (sk := sk) (sv := sv) (r := r) (a := a) (k := k) (g := g) hr hg hgn (hp _ _ _ (dt_gat_ins G ha hlo hhi' hk) (by omega)) g (g - a) (g - a + 1) (by omega) (by omega) (by omega)
      rw [dt_sh_0, dt_sh_0] at key
      rw [hgn] at key ⊢
      exact key
    · rw [if_neg k0] at hp
      refine br_f k0 (br_t rfl ?_)
      have := hp g gk gv (dt_gat_map G (fun k' => ?_)) (by omega)
      · rw [← hgn] at this; exact this
      · by_cases e : k = k'
        · rw [← e, dt_set_s]
          refine (dt_gat_none G fun j hj hc => ?_).symm
          by_cases hl : j < a
          · have := hlo j hl; omega
          · have := hhi' j (by omega) hj; omega
        · rw [dt_set_n e]
  · have ek := (G.1 a hag).1
    rw [heq] at ek
    by_cases k0 : kd r = 0
    · rw [if_pos k0] at hp
      refine br_t k0 ⟨1, ?_⟩
      refine br_c (fun _ => br_f (by decide) ?_) (fun _ => br_f (by decide) (br_f (by decide) ?_))
      · exact xw_ap_212 hr (by omega) (by rw [hgn, Int32.add_zero]) (hp _ _ _ (dt_gat_set G hag ek hk) (by omega))
      · exact xw_ap_212 hr (by omega) (by rw [hgn, Int32.add_zero]) (hp _ _ _ (dt_gat_set G hag ek hk) (by omega))
    · rw [if_neg k0] at hp
      refine br_f k0 (br_f (by decide) (nm_r (e' := nI (g - 1)) (by rw [hgn]; exact dt_s (by omega)) ⟨g - a + 1, ?_⟩))
      have key := xw_ap_rem (post := post) (ne := ne) (fn := fn) (xc := xc) (xl := xl) (xn := xn) (gn := nI (g - 1)) (ge := ge) (sn := sn) (us := us) (ch := ch) (cl := cl) (bc := bc) (bk := bk) (bv := bv) (be := be) (kd := kd) (ky := ky) (nv := nv) (od := od) (ik := ik) (ip := ip) (gk := gk) (gv := gv) (gs := gs) (ak := ak) (av := av) (so := so) (sk := sk) (sv := sv) (a := a) (e := g - 1) (by omega) rfl (hp _ _ _ (dt_gat_rem G hag heq) (by omega)) (g - 1 - a) (g - a + 1) a (by omega) (by omega) (by omega)
      rw [dt_sl_0, dt_sl_0] at key
      exact key
theorem xw_ap_74 {post : SX → Prop} {m : Nat → Option Int32} {r k g : Nat} (hr : r < 160) (k2 : kd r ≠ 2) (hky : ky r = nI k) (hk : k < 4096) (hg : g ≤ 15) (hgn : gn = nI g) (G : dt_gat m g gk gv) (hp : ∀ g' gk' gv', dt_gat (dt_ap kd ky nv r m) g' gk' gv' → g' ≤ g + 1 → post (ne, fn, xc, xl, xn, nI g', ge, sn, us, ch, cl, bc, bk, bv, be, kd, ky, nv, od, ik, ip, gk', gv', gs, ak, av, so, sk, sv)) : ∀ d n i a, i + d = g → a ≤ i → d < n → (∀ j, j < a → dt_n gk j < k) → (∀ j, a ≤ j → j < i → k ≤ dt_n gk j) → wX_apply_74 post (nI r) (nI k) ne fn xc xl xn gn ge sn us ch cl bc bk bv be kd ky nv od ik ip gk gv gs ak av so sk sv n (nI a) (nI i) := by
  intro d
  induction d with
  | zero =>
    intro n i a hi ha hn hlo hhi
    obtain ⟨n, rfl⟩ : ∃ k, n = k + 1 := ⟨n - 1, by omega⟩
    obtain rfl : i = g := by omega
    refine br_t (by rw [hgn]; exact nI_le (by omega) (by omega)) ?_
    refine pk_le i a (fun h => ?_) (fun h => ⟨vp_in_nI (by omega) (by decide), ?_⟩) hgn rfl (by omega) (by omega)
    · exact xw_ap_131 0 hr k2 hky hk hg hgn G ha hlo hhi (Or.inl ⟨rfl, fun h => by omega⟩) hp
    · rw [nI_clamp (by omega)]
      have e1 := G.1 a h
      refine pk_eq (dt_n gk a) k (fun e => ?_) (fun e => ?_) e1.1 rfl (by omega) (by omega)
      · exact xw_ap_131 1 hr k2 hky hk hg hgn G ha hlo hhi (Or.inr ⟨rfl, h, e⟩) hp
      · exact xw_ap_131 0 hr k2 hky hk hg hgn G ha hlo hhi (Or.inl ⟨rfl, fun _ => e⟩) hp
  | succ d ih =>
    intro n i a hi ha hn hlo hhi
    obtain ⟨n, rfl⟩ : ∃ k, n = k + 1 := ⟨n - 1, by omega⟩
    refine br_f (by rw [hgn]; exact nI_ge (by omega) (by omega)) ⟨vp_in_nI (by omega) (by decide), ?_⟩
    rw [nI_clamp (by omega)]
    have e1 := G.1 i (by omega)
    refine pk_le k (dt_n gk i) (fun h => ?_) (fun h => ?_) rfl e1.1 (by omega) (by omega)
    · refine nm_r (Int32.add_zero _) (nm_r (nI_1 i) (ih n (i + 1) a (by omega) (by omega) (by omega) hlo (fun j h1 h2 => ?_)))
      by_cases e : j = i
      · rw [e]; exact h
      · exact hhi j h1 (by omega)
    · have hai : a = i := by
        apply Nat.le_antisymm ha
        apply Nat.le_of_not_lt
        intro hc
        have h3 := hhi a (by omega) hc
        have h4 := G.2.1 a i hc (by omega)
        omega
      subst hai
      refine nm_r (nI_1 a) (nm_r (nI_1 a) (ih n (a + 1) (a + 1) (by omega) (by omega) (by omega) (fun j hj => ?_) (fun j h1 h2 => by omega)))
      by_cases e : j = a
      · rw [e]; exact h
      · exact hlo j (by omega)
theorem xw_apply {post : SX → Prop} {m : Nat → Option Int32} {r k g : Nat} (hr : r < 160) (hky : ky r = nI k) (hk : k < 4096) (hg : g ≤ 15) (hgn : gn = nI g) (G : dt_gat m g gk gv)
    (hp2 : kd r = 2 → ∀ g', g' ≤ g → (∀ j, j < g' → dt_n gk j < k) → dt_gat (dt_ap kd ky nv r m) g' gk gv → post (ne, fn, xc, xl, xn, nI g', nI k, sn, us, ch, cl, bc, bk, bv, be, kd, ky, nv, od, ik, ip, gk, gv, gs, ak, av, so, sk, sv))
    (hp : kd r ≠ 2 → ∀ g' gk' gv', dt_gat (dt_ap kd ky nv r m) g' gk' gv' → g' ≤ g + 1 → post (ne, fn, xc, xl, xn, nI g', ge, sn, us, ch, cl, bc, bk, bv, be, kd, ky, nv, od, ik, ip, gk', gv', gs, ak, av, so, sk, sv)) : wpX_apply post (ne, fn, xc, xl, xn, gn, ge, sn, us, ch, cl, bc, bk, bv, be, kd, ky, nv, od, ik, ip, gk, gv, gs, ak, av, so, sk, sv) (nI r) := by
  have c2 : (nI r).toNatClampNeg = r := nI_clamp (by omega)
  have v1 : vp_in (nI r) 160 := vp_in_nI hr (by decide)
  refine And.intro v1 (nm_r (e' := nI k) (by rw [c2]; exact hky) ⟨v1, ?_⟩)
  rw [c2]
  by_cases k2 : kd r = 2
  · have eap : dt_ap kd ky nv r m = dt_lt m k := by rw [dt_ap, if_pos k2, dt_n_of hky (by omega)]
    rw [eap] at hp2
    refine br_t k2 ⟨g + 1, ?_⟩
    rw [hgn]
    exact xw_ap_cut hk G (hp2 k2) g (g + 1) 0 (by omega) (by omega) (by omega) (fun j h1 h2 => by omega)
  · refine br_f k2 ⟨g + 1, ?_⟩
    exact xw_ap_74 hr k2 hky hk hg hgn G (hp k2) g (g + 1) 0 0 (by omega) (by omega) (by omega) (fun j hj => by omega) (fun j h1 h2 => by omega)
end
end
section
/-- the first i places copied -/
def dt_cp (g s : Nat → Int32) (i : Nat) : Nat → Int32 := fun j => if j < i then s j else g j
theorem dt_cp_0 (g s : Nat → Int32) : dt_cp g s 0 = g := by
  funext j
  exact if_neg (by omega)
theorem dt_cp_lo {g s : Nat → Int32} {i j : Nat} (h : j < i) : dt_cp g s i j = s j := if_pos h
theorem dt_cp_s {g s : Nat → Int32} {i : Nat} {x : Int32} (hx : x = s i) : upd (dt_cp g s i) i x = dt_cp g s (i + 1) := by
  funext j
  by_cases e : j = i
  · subst e
    rw [pk_us, dt_cp_lo (by omega), hx]
  · rw [pk_un e]
    by_cases h : j < i
    · rw [dt_cp_lo h, dt_cp_lo (by omega)]
    · rw [dt_cp, dt_cp, if_neg h, if_neg (by omega)]
/-- the notes' row holds a list, from its end on -/
def dt_gs (gs : Nat → Int32) : List Nat → Prop
  | [] => True
  | n :: R => gs R.length = nI n ∧ dt_gs gs R
theorem dt_gs_up {gs : Nat → Int32} {i : Nat} {x : Int32} : ∀ {R : List Nat}, R.length ≤ i → dt_gs gs R → dt_gs (upd gs i x) R
  | [], _, _ => trivial
  | n :: R, h, hg => by
    rw [List.length_cons] at h
    exact ⟨by rw [pk_un (by omega)]; exact hg.1, dt_gs_up (by omega) hg.2⟩
def dt_xo : List Nat → Int32
  | [] => -1
  | _ :: R => nI R.length
theorem dt_xo_s (R : List Nat) : nI R.length - 1 = dt_xo R := by
  cases R with
  | nil => exact dt_0m1
  | cons n R => exact nI_pred _
theorem dt_xo_m (R : List Nat) : nI R.length + (-1) = dt_xo R := by
  cases R with
  | nil => decide
  | cons n R => exact pk_m1 _
theorem dt_cok_suf {kd ky : Nat → Int32} {lo hi : Nat} {E D : Prop} {Q : Nat → Prop} {s : List Nat} (hs : s ≠ []) : ∀ {l : List Nat}, dt_cok kd ky lo hi E D Q (l ++ s) → dt_cok kd ky lo hi E D Q s
  | [], h => h
  | n :: l, h => by
    rcases h.2 with g | g
    · exact dt_cok_suf hs g.2.2.2
    · have := (List.append_eq_nil_iff.mp g.2.1).2
      exact absurd this hs
section
variable {ne fn xc xl xn gn ge sn ye yw : Int32} {us ch cl bc bk bv be kd ky nv od ik ip gk gv gs ak av so sk sv yh yv yp yk yn hb vb : Nat → Int32}
variable {C : Nat → List Nat} {fk en : Nat → Nat} {M : Nat → Option Int32} {mx : Nat}
theorem xw_ga_apply {post : SX → Prop} {p c : Nat} {b : Nat → Option Int32} {lo hi : Nat} {Q : Nat → Prop} {L : List Nat} {be0 : Int32} (hhi : hi ≤ 4096) (hQ : ∀ n, Q n → hi < 4096) (hc : c ≤ 12) (hL : L.length ≤ 5) (hLb : ∀ m, m ∈ L → m < 160)
    (hck : dt_cok kd ky lo hi (be0 = nI hi ∧ c ≤ 8) (∃ h, h ≤ 8 ∧ ∀ j, h ≤ j → j < c → hi ≤ dt_n bk (12 * p + j)) Q L)
    (hp : ∀ g (gk' gv' : Nat → Int32), dt_gat (dt_pm kd ky nv b L) g gk' gv' → g ≤ 8 + L.length → post (ne, fn, xc, xl, xn, nI g, nI hi, sn, us, ch, cl, bc, bk, bv, be, kd, ky, nv, od, ik, ip, gk', gv', gs, ak, av, so, sk, sv)) :
    ∀ (R s : List Nat) (g n : Nat) (gn ge : Int32) (gk gv : Nat → Int32), L = R.reverse ++ s → gn = nI g → dt_gs gs R → dt_gat (dt_pm kd ky nv b s) g gk gv → ((s = [] ∧ g = c ∧ (∀ j, j < c → dt_n gk j = dt_n bk (12 * p + j)) ∧ ge = be0) ∨ (s ≠ [] ∧ g ≤ 8 + s.length ∧ ge = nI hi)) → R.length < n → wX_gather_113 post n (dt_xo R) ne fn xc xl xn gn ge sn us ch cl bc bk bv be kd ky nv od ik ip gk gv gs ak av so sk sv := by
  intro R
  induction R with
  | nil =>
    intro s g n gn ge gk gv e hgn hgs G hJ hn
    obtain ⟨n, rfl⟩ : ∃ k, n = k + 1 := ⟨n - 1, by omega⟩
    have e : L = s := e
    subst e hgn
    refine br_t dt_m1lt ?_
    rcases hJ with ⟨h1, h2, _, h4⟩ | ⟨h1, h2, h3⟩
    · subst h1
      have hE : be0 = nI hi ∧ c ≤ 8 := hck
      rw [h4, hE.1]
      exact hp g gk gv G (by omega)
    · rw [h3]
      exact hp g gk gv G h2
  | cons r R ih =>
    intro s g n gn ge gk gv e hgn hgs G hJ hn
    obtain ⟨n, rfl⟩ : ∃ k, n = k + 1 := ⟨n - 1, by omega⟩
    rw [List.length_cons] at hn
    have e' : L = R.reverse ++ (r :: s) := by rw [e, List.reverse_cons, List.append_assoc]; rfl
    have hlen : L.length = R.length + (s.length + 1) := by rw [e', List.length_append, List.length_reverse, List.length_cons]
    have hr : r ∈ L := by rw [e']; exact List.mem_append_right _ (List.mem_cons_self ..)
    have hrb := hLb r hr
    have hck' := hck
    rw [e'] at hck'
    have hcr := dt_cok_suf (by simp) hck'
    have hkr := dt_cok_key hck r hr
    have hk : dt_n ky r < 4096 := by
      rcases hcr.2 with h | h
      · omega
      · have := hQ r h.2.2.2.1
        omega
    have hg15 : g ≤ 15 := by
      rcases hJ with h | h
      · omega
      · have := h.2.1; omega
    have hrl : R.length < 8 := by omega
    refine br_f (nI_pos (by omega)) (And.intro (vp_in_nI (by omega) (by decide)) ?_)
    have cR : (nI R.length).toNatClampNeg = R.length := nI_clamp (by omega)
    show wpX_apply _ _ (gs (nI R.length).toNatClampNeg)
    rw [cR, hgs.1]
    refine xw_apply hrb hkr.1 hk hg15 hgn G ?_ ?_
    · intro k2 g' h1 h2 G'
      refine nm_r (dt_xo_m R) ?_
      rcases hcr.2 with h | h
      · exact absurd k2 h.1
      · obtain ⟨_, hs, hkk, _, ⟨hh, h8, hD⟩⟩ := h
        rw [hkk]
        refine ih (r :: s) g' n (nI g') (nI hi) gk gv e' rfl hgs.2 G' (Or.inr ⟨by simp, ?_, rfl⟩) (by omega)
        rcases hJ with ⟨_, hgc, hgk, _⟩ | ⟨h3, _⟩
        · subst hgc
          have : g' ≤ hh := by
            apply Nat.le_of_not_lt
            intro hc2
            have h4 := h2 hh hc2
            have h5 := hD hh (Nat.le_refl _) (by omega)
            rw [hgk hh (by omega)] at h4
            omega
          omega
        · exact absurd hs h3
    · intro k2 g' gk' gv' G' h1
      refine nm_r (dt_xo_m R) ?_
      refine ih (r :: s) g' n (nI g') ge gk' gv' e' rfl hgs.2 G' (Or.inr ⟨by simp, ?_, ?_⟩) (by omega)
      · rw [List.length_cons]
        rcases hJ with ⟨hs, hgc, _, _⟩ | ⟨_, h3, _⟩
        · subst hs
          rcases hcr.2 with h | h
          · have hE : be0 = nI hi ∧ c ≤ 8 := h.2.2.2
            omega
          · exact absurd h.1 k2
        · omega
      · rcases hJ with ⟨hs, hgc, _, h4⟩ | ⟨_, _, h3⟩
        · subst hs
          rcases hcr.2 with h | h
          · have hE : be0 = nI hi ∧ c ≤ 8 := h.2.2.2
            rw [h4]; exact hE.1
          · exact absurd h.1 k2
        · exact h3
theorem xw_ga_notes {post : SX → Prop} (hp : ∀ (R : List Nat) (gs' : Nat → Int32), True → True) : ∀ (l R : List Nat) (x : Int32) (n : Nat) (gs : Nat → Int32), dt_ch od l x → (∀ m, m ∈ l → m < 160) → dt_gs gs R → R.length + l.length ≤ 8 → l.length < n → (∀ gs', dt_gs gs' (l.reverse ++ R) → ∃ n, wX_gather_113 post n (dt_xo (l.reverse ++ R)) ne fn xc xl xn gn ge sn us ch cl bc bk bv be kd ky nv od ik ip gk gv gs' ak av so sk sv) → wX_gather_79 post ne fn xc xl xn gn ge sn n (nI R.length) x us ch cl bc bk bv be kd ky nv od ik ip gk gv gs ak av so sk sv
  | [], R, x, n, gs, hc, _, hg, hl, hn, hE => by
    obtain ⟨n, rfl⟩ : ∃ k, n = k + 1 := ⟨n - 1, by omega⟩
    cases (hc : x = -1)
    exact br_t dt_m1lt (nm_r (dt_xo_s R) (hE gs hg))
  | m :: l, R, x, n, gs, hc, hb, hg, hl, hn, hE => by
    obtain ⟨n, rfl⟩ : ∃ k, n = k + 1 := ⟨n - 1, by omega⟩
    obtain ⟨rfl, hc⟩ := hc
    rw [List.length_cons] at hl hn
    have hm := hb m (List.mem_cons_self ..)
    have c1 : (nI m).toNatClampNeg = m := nI_clamp (by omega)
    have c2 : (nI R.length).toNatClampNeg = R.length := nI_clamp (by omega)
    refine br_f (nI_pos (by omega)) (br_f (nI_ge (b := 8) (by omega) (by decide)) ⟨vp_in_nI (by omega) (by decide), nm_r (e' := upd gs R.length (nI m)) (by rw [c2]) (nm_r (nI_1 _) ⟨vp_in_nI hm (by decide), nm_r (congrArg od c1) ?_⟩)⟩)
    refine xw_ga_notes hp l (m :: R) _ n (upd gs R.length (nI m)) hc (fun r hr => hb r (List.mem_cons_of_mem _ hr)) ⟨pk_us, dt_gs_up (Nat.le_refl _) hg⟩ (by rw [List.length_cons]; omega) (by omega) ?_
    intro gs' h'
    rw [List.reverse_cons, List.append_assoc] at hE
    exact hE gs' h'
theorem xw_ga_copy {post : SX → Prop} {p c : Nat} (hp : p < 24) (hc : c ≤ 12) (hgn : gn = nI c) (hE : ∃ n, wX_gather_79 post ne fn xc xl xn gn ge sn n 0 (ch p) us ch cl bc bk bv be kd ky nv od ik ip (dt_cp gk (fun j => bk (12 * p + j)) c) (dt_cp gv (fun j => bv (12 * p + j)) c) gs ak av so sk sv) : ∀ d n i, i + d = c → d < n → wX_gather_22 post (nI p) ne fn xc xl xn gn ge sn n (nI i) us ch cl bc bk bv be kd ky nv od ik ip (dt_cp gk (fun j => bk (12 * p + j)) i) (dt_cp gv (fun j => bv (12 * p + j)) i) gs ak av so sk sv := by
  subst hgn
  intro d
  induction d with
  | zero =>
    intro n i hi hn
    obtain ⟨n, rfl⟩ : ∃ k, n = k + 1 := ⟨n - 1, by omega⟩
    obtain rfl : i = c := by omega
    exact br_t (nI_le (by omega) (by omega)) ⟨vp_in_nI hp (by decide), nm_r (e' := ch p) (by rw [nI_clamp (by omega)]) hE⟩
  | succ d ih =>
    intro n i hi hn
    obtain ⟨n, rfl⟩ : ∃ k, n = k + 1 := ⟨n - 1, by omega⟩
    have c1 : (nI i).toNatClampNeg = i := nI_clamp (by omega)
    have e2 : 12 * nI p + nI i = nI (12 * p + i) := by rw [dt_12, nI_add]
    have c2 : (12 * nI p + nI i).toNatClampNeg = 12 * p + i := by rw [e2]; exact nI_clamp (by omega)
    have v1 : vp_in (nI i) 16 := vp_in_nI (by omega) (by decide)
    have v2 : vp_in (12 * nI p + nI i) 288 := by rw [e2]; exact vp_in_nI (by omega) (by decide)
    refine br_f (nI_ge (by omega) (by omega)) ⟨v2, v1, nm_r (e' := dt_cp gk (fun j => bk (12 * p + j)) (i + 1)) (by rw [c1, c2]; exact dt_cp_s rfl) ⟨v2, v1, nm_r (e' := dt_cp gv (fun j => bv (12 * p + j)) (i + 1)) (by rw [c1, c2]; exact dt_cp_s rfl) (nm_r (nI_1 i) ?_)⟩⟩
    exact ih n (i + 1) (by omega) (by omega)
theorem xw_gather {post : SX → Prop} {p : Nat} (I : dt_XI C fk en M mx fn xc xl xn us ch cl bc bk bv be kd ky nv od ik ip) (hp : p < 24) (up : us p ≠ 0) (h : ∀ g (gk' gv' gs' : Nat → Int32), dt_gat (dt_rs M (fk p) (en p)) g gk' gv' → g ≤ 8 + (C p).length → post (ne, fn, xc, xl, xn, nI g, nI (en p), sn, us, ch, cl, bc, bk, bv, be, kd, ky, nv, od, ik, ip, gk', gv', gs', ak, av, so, sk, sv)) : wpX_gather post (ne, fn, xc, xl, xn, gn, ge, sn, us, ch, cl, bc, bk, bv, be, kd, ky, nv, od, ik, ip, gk, gv, gs, ak, av, so, sk, sv) (nI p) := by
  have c1 : (nI p).toNatClampNeg = p := nI_clamp (by omega)
  have v1 : vp_in (nI p) 24 := vp_in_nI hp (by decide)
  have hpp := I.2.2.1.1 p hp up
  have hl := (I.2.1.1 p hp).2
  have hch := I.1.1 p (by omega)
  rw [dt_hd_p hp] at hch
  have hb := I.1.2.2.1 p (by omega)
  obtain ⟨b, c, hc, hbc, hg, hck, hpm⟩ := I.2.2.2.1 p hp up
  rw [← hpm] at h
  have hQ : ∀ n, (∃ q, q < 24 ∧ us q ≠ 0 ∧ nv n = nI q ∧ fk q = en p) → en p < 4096 := by
    rintro n ⟨q, hq, uq, _, e⟩
    have := I.2.2.1.1 q hq uq
    omega
  refine And.intro v1 (nm_r (e' := nI c) (by rw [c1]; exact hbc) ⟨v1, nm_r (e' := be p) (by rw [c1]) ⟨c + 1, ?_⟩⟩)
  have key := xw_ga_copy (post := post) (ne := ne) (fn := fn) (xc := xc) (xl := xl) (xn := xn) (gn := nI c) (ge := be p) (sn := sn) (us := us) (ch := ch) (cl := cl) (bc := bc) (bk := bk) (bv := bv) (be := be) (kd := kd) (ky := ky) (nv := nv) (od := od) (ik := ik) (ip := ip) (gk := gk) (gv := gv) (gs := gs) (ak := ak) (av := av) (so := so) (sk := sk) (sv := sv) (p := p) (c := c) hp hc rfl ?_ c (c + 1) 0 (by omega) (by omega)
  · rw [dt_cp_0, dt_cp_0] at key
    exact key
  · refine ⟨(C p).length + 1, ?_⟩
    refine xw_ga_notes (fun _ _ _ => trivial) (C p) [] _ _ _ hch hb trivial (by rw [List.length_nil]; omega) (Nat.lt_succ_self _) ?_
    intro gs' hgs
    rw [List.append_nil] at hgs ⊢
    refine ⟨(C p).reverse.length + 1, ?_⟩
    refine xw_ga_apply (L := C p) (b := b) (p := p) (c := c) hpp.2 hQ hc hl hb hck ?_ (C p).reverse [] c _ (nI c) (be p) _ _ (by rw [List.reverse_reverse, List.append_nil]) rfl hgs ?_ (Or.inl ⟨rfl, rfl, ?_, rfl⟩) (Nat.lt_succ_self _)
    · intro g gk' gv' G' hg'
      exact h g gk' gv' gs' G' hg'
    · exact dt_gat_congr hg (fun j hj => dt_cp_lo hj) (fun j hj => dt_cp_lo hj)
    · intro j hj
      exact dt_n_eq (dt_cp_lo hj)
end
end
section
/-- i places from o on written -/
def dt_wr (g : Nat → Int32) (o : Nat) (s : Nat → Int32) (i : Nat) : Nat → Int32 := fun j => if o ≤ j ∧ j < o + i then s (j - o) else g j
theorem dt_wr_0 (g s : Nat → Int32) (o : Nat) : dt_wr g o s 0 = g := by
  funext j
  exact if_neg (by omega)
theorem dt_wr_in {g s : Nat → Int32} {o i j : Nat} (h : j < i) : dt_wr g o s i (o + j) = s j := by
  rw [dt_wr, if_pos (by omega), show o + j - o = j by omega]
theorem dt_wr_out {g s : Nat → Int32} {o i j : Nat} (h : j < o ∨ o + i ≤ j) : dt_wr g o s i j = g j := if_neg (by omega)
theorem dt_wr_s {g s : Nat → Int32} {o i : Nat} {x : Int32} (hx : x = s i) : upd (dt_wr g o s i) (o + i) x = dt_wr g o s (i + 1) := by
  funext j
  by_cases e : j = o + i
  · subst e
    rw [pk_us, dt_wr_in (by omega), hx]
  · rw [pk_un e]
    by_cases h : o ≤ j ∧ j < o + i
    · rw [dt_wr, dt_wr, if_pos h, if_pos (by omega)]
    · rw [dt_wr, dt_wr, if_neg h, if_neg (by omega)]
theorem dt_uu {g : Nat → Int32} {i : Nat} {x y : Int32} : upd (upd g i x) i y = upd g i y := by
  funext j
  by_cases e : j = i
  · subst e; rw [pk_us, pk_us]
  · rw [pk_un e, pk_un e, pk_un e]
section
variable {ne fn xc xl xn gn ge sn ye yw : Int32} {us ch cl bc bk bv be kd ky nv od ik ip gk gv gs ak av so sk sv yh yv yp yk yn hb vb : Nat → Int32}
theorem xw_kb_loop {post : SX → Prop} {p f t c : Nat} (hp : p < 24) (ht : t ≤ 16) (hf : f ≤ t) (hc : c = min (t - f) 12) (h : post (ne, fn, xc, xl, xn, gn, ge, sn, us, ch, cl, upd bc p (nI c), dt_wr bk (12 * p) (fun j => gk (f + j)) c, dt_wr bv (12 * p) (fun j => gv (f + j)) c, upd be p ge, kd, ky, nv, od, ik, ip, gk, gv, gs, ak, av, so, sk, sv)) : ∀ d n i, i + d = c → d < n → wX_keepBase_10 post (nI p) (nI f) (nI t) ne fn xc xl xn gn ge sn n (nI (f + i)) us ch cl (upd bc p (nI i)) (dt_wr bk (12 * p) (fun j => gk (f + j)) i) (dt_wr bv (12 * p) (fun j => gv (f + j)) i) be kd ky nv od ik ip gk gv gs ak av so sk sv := by
  have v1 : vp_in (nI p) 24 := vp_in_nI hp (by decide)
  have c1 : (nI p).toNatClampNeg = p := nI_clamp (by omega)
  intro d
  induction d with
  | zero =>
    intro n i hi hn
    obtain ⟨n, rfl⟩ : ∃ k, n = k + 1 := ⟨n - 1, by omega⟩
    obtain rfl : i = c := by omega
    refine pk_le t (f + i) (fun h1 => ⟨v1, nm_r (by rw [c1]) h⟩) (fun h1 => ?_)
    exact br_t (by rw [dt_a12]; exact nI_le (by omega) (by omega)) ⟨v1, nm_r (by rw [c1]) h⟩
  | succ d ih =>
    intro n i hi hn
    obtain ⟨n, rfl⟩ : ∃ k, n = k + 1 := ⟨n - 1, by omega⟩
    have e2 : 12 * nI p + nI (f + i) - nI f = nI (12 * p + i) := by
      rw [dt_12, nI_add, pk_sub (by omega)]; exact congrArg nI (by omega)
    have c2 : (12 * nI p + nI (f + i) - nI f).toNatClampNeg = 12 * p + i := by rw [e2]; exact nI_clamp (by omega)
    have c3 : (nI (f + i)).toNatClampNeg = f + i := nI_clamp (by omega)
    have v2 : vp_in (12 * nI p + nI (f + i) - nI f) 288 := by rw [e2]; exact vp_in_nI (by omega) (by decide)
    have v3 : vp_in (nI (f + i)) 16 := vp_in_nI (by omega) (by decide)
    refine br_f (nI_ge (by omega) (by omega)) (br_f (by rw [dt_a12]; exact nI_ge (by omega) (by omega)) ⟨v3, v2, nm_r (e' := dt_wr bk (12 * p) (fun j => gk (f + j)) (i + 1)) (by rw [c2, c3]; exact dt_wr_s rfl) ⟨v3, v2, nm_r (e' := dt_wr bv (12 * p) (fun j => gv (f + j)) (i + 1)) (by rw [c2, c3]; exact dt_wr_s rfl) ⟨v1, v1, nm_r (e' := upd bc p (nI (i + 1))) (by rw [c1, pk_us, nI_1, dt_uu]) (nm_r (nI_1 _) ?_)⟩⟩⟩)
    exact ih n (i + 1) (by omega) (by omega)
theorem xw_keepBase {post : SX → Prop} {p f t c : Nat} (hp : p < 24) (ht : t ≤ 16) (hf : f ≤ t) (hc : c = min (t - f) 12) (h : post (ne, fn, xc, xl, xn, gn, ge, sn, us, ch, cl, upd bc p (nI c), dt_wr bk (12 * p) (fun j => gk (f + j)) c, dt_wr bv (12 * p) (fun j => gv (f + j)) c, upd be p ge, kd, ky, nv, od, ik, ip, gk, gv, gs, ak, av, so, sk, sv)) : wpX_keepBase post (ne, fn, xc, xl, xn, gn, ge, sn, us, ch, cl, bc, bk, bv, be, kd, ky, nv, od, ik, ip, gk, gv, gs, ak, av, so, sk, sv) (nI p) (nI f) (nI t) := by
  refine And.intro (vp_in_nI hp (by decide)) (nm_r (e' := upd bc p (nI 0)) (by rw [nI_clamp (by omega)]; rfl) ⟨c + 1, ?_⟩)
  have key := xw_kb_loop hp ht hf hc h c (c + 1) 0 (by omega) (by omega)
  rw [dt_wr_0, dt_wr_0] at key
  exact key
/-- what fillPage leaves -/
theorem xw_fp_145 {post : SX → Prop} {p : Nat} {z : Int32} (hp : p < 24) (h : post (ne, fn, xc, xl, xn + 1, gn, ge, sn, us, ch, cl, bc, bk, bv, be, kd, ky, nv, od, upd ik p z, upd ip p (nI p), gk, gv, gs, ak, av, so, sk, sv)) : wX_fillPage_145 post (nI p) z (nI p) ne fn xc xl xn gn ge sn us ch cl bc bk bv be kd ky nv od ik ip gk gv gs ak av so sk sv := by
  have v1 : vp_in (nI p) 24 := vp_in_nI hp (by decide)
  have c1 : (nI p).toNatClampNeg = p := nI_clamp (by omega)
  exact And.intro v1 (nm_r (by rw [c1]) ⟨v1, nm_r (by rw [c1]) (nm_e h)⟩)
theorem xw_fp_122 {post : SX → Prop} {p : Nat} {z : Int32} (hp : p < 24) (h10 : 6 * p < 60) (h : post (ne, fn, xc, xl, xn + 1, gn, ge, sn, us, ch, cl, bc, bk, bv, upd be p z, kd, ky, nv, od, upd ik p (if p = 0 then 0 else ak (6 * p)), upd ip p (nI p), gk, gv, gs, ak, av, so, sk, sv)) : wX_fillPage_122 post (nI p) z (nI p) ne fn xc xl xn gn ge sn us ch cl bc bk bv be kd ky nv od ik ip gk gv gs ak av so sk sv := by
  have v1 : vp_in (nI p) 24 := vp_in_nI hp (by decide)
  have c1 : (nI p).toNatClampNeg = p := nI_clamp (by omega)
  refine And.intro v1 (nm_r (e' := upd be p z) (by rw [c1]) ?_)
  refine pk_eq p 0 (fun e => ?_) (fun e => ?_)
  · rw [if_pos e] at h
    exact xw_fp_145 hp h
  · rw [if_neg e] at h
    rw [dt_6, nI_clamp (by omega)]
    exact ⟨vp_in_nI (by omega) (by decide), xw_fp_145 hp h⟩
theorem xw_fp_88 {post : SX → Prop} {p t : Nat} (hp : p < 24) (h10 : 6 * p < 60) (ht : t ≤ 60) (h : post (ne, fn, xc, xl, xn + 1, gn, ge, sn, us, ch, cl, bc, bk, bv, upd be p (if t ≤ 6 * p + 6 then nI 4096 else ak (6 * p + 6)), kd, ky, nv, od, upd ik p (if p = 0 then 0 else ak (6 * p)), upd ip p (nI p), gk, gv, gs, ak, av, so, sk, sv)) : wX_fillPage_88 post (nI p) (nI t) ne fn xc xl xn gn ge sn us ch cl bc bk bv be kd ky nv od ik ip gk gv gs ak av so sk sv := by
  have e6 : 6 * nI p + 6 = nI (6 * p + 6) := by rw [dt_6, dt_a6]
  show (nI t ≤ 6 * nI p + 6 → _) ∧ (¬ nI t ≤ 6 * nI p + 6 → _)
  rw [e6]
  refine pk_le t (6 * p + 6) (fun e => ?_) (fun e => ?_)
  · rw [if_pos e] at h
    exact xw_fp_122 hp h10 h
  · rw [if_neg (by omega)] at h
    rw [nI_clamp (by omega)]
    exact ⟨vp_in_nI (by omega) (by decide), xw_fp_122 hp h10 h⟩
theorem xw_fp_loop {post : SX → Prop} {p t c : Nat} (hp : p < 24) (h10 : 6 * p < 60) (ht : t ≤ 60) (hpt : 6 * p ≤ t) (hc : c = min 6 (t - 6 * p)) (h : post (ne, fn, xc, xl, xn + 1, gn, ge, sn, us, ch, cl, upd bc p (nI c), dt_wr bk (12 * p) (fun j => ak (6 * p + j)) c, dt_wr bv (12 * p) (fun j => av (6 * p + j)) c, upd be p (if t ≤ 6 * p + 6 then nI 4096 else ak (6 * p + 6)), kd, ky, nv, od, upd ik p (if p = 0 then 0 else ak (6 * p)), upd ip p (nI p), gk, gv, gs, ak, av, so, sk, sv)) : ∀ d n i, i + d = c → d < n → wX_fillPage_12 post (nI p) (nI t) ne fn xc xl xn gn ge sn n (nI (6 * p + i)) us ch cl (upd bc p (nI i)) (dt_wr bk (12 * p) (fun j => ak (6 * p + j)) i) (dt_wr bv (12 * p) (fun j => av (6 * p + j)) i) be kd ky nv od ik ip gk gv gs ak av so sk sv := by
  have v1 : vp_in (nI p) 24 := vp_in_nI hp (by decide)
  have c1 : (nI p).toNatClampNeg = p := nI_clamp (by omega)
  have e6 : 6 * nI p + 6 = nI (6 * p + 6) := by rw [dt_6, dt_a6]
  intro d
  induction d with
  | zero =>
    intro n i hi hn
    obtain ⟨n, rfl⟩ : ∃ k, n = k + 1 := ⟨n - 1, by omega⟩
    obtain rfl : i = c := by omega
    refine br_c (fun _ => xw_fp_88 hp h10 ht h) (fun hnot => br_t ?_ (xw_fp_88 hp h10 ht h))
    rw [e6, nI_leI (by omega) (by omega)] at hnot
    exact nI_le (by omega) (by omega)
  | succ d ih =>
    intro n i hi hn
    obtain ⟨n, rfl⟩ : ∃ k, n = k + 1 := ⟨n - 1, by omega⟩
    have e2 : 12 * nI p + upd bc p (nI i) (nI p).toNatClampNeg = nI (12 * p + i) := by
      rw [c1, pk_us, dt_12, nI_add]
    have c2 : (nI (12 * p + i)).toNatClampNeg = 12 * p + i := nI_clamp (by omega)
    have c3 : (nI (6 * p + i)).toNatClampNeg = 6 * p + i := nI_clamp (by omega)
    have v2 : vp_in (nI (12 * p + i)) 288 := vp_in_nI (by omega) (by decide)
    have v3 : vp_in (nI (6 * p + i)) 60 := vp_in_nI (by omega) (by decide)
    refine br_f (by rw [e6]; exact nI_ge (by omega) (by omega)) (br_f (nI_ge (by omega) (by omega)) ⟨v1, v3, ?_⟩)
    rw [e2, c3, c2]
    refine ⟨v2, nm_r (e' := dt_wr bk (12 * p) (fun j => ak (6 * p + j)) (i + 1)) (dt_wr_s rfl) ⟨v1, v3, v2, nm_r (e' := dt_wr bv (12 * p) (fun j => av (6 * p + j)) (i + 1)) (dt_wr_s rfl) ⟨v1, v1, nm_r (e' := upd bc p (nI (i + 1))) (by rw [c1, pk_us, nI_1, dt_uu]) (nm_r (nI_1 _) ?_)⟩⟩⟩
    exact ih n (i + 1) (by omega) (by omega)
theorem xw_fillPage {post : SX → Prop} {p t c : Nat} (hp : p < 24) (h10 : 6 * p < 60) (ht : t ≤ 60) (hpt : 6 * p ≤ t) (hc : c = min 6 (t - 6 * p)) (h : post (ne, fn, xc, xl, xn + 1, gn, ge, sn, us, ch, cl, upd bc p (nI c), dt_wr bk (12 * p) (fun j => ak (6 * p + j)) c, dt_wr bv (12 * p) (fun j => av (6 * p + j)) c, upd be p (if t ≤ 6 * p + 6 then nI 4096 else ak (6 * p + 6)), kd, ky, nv, od, upd ik p (if p = 0 then 0 else ak (6 * p)), upd ip p (nI p), gk, gv, gs, ak, av, so, sk, sv)) : wpX_fillPage post (ne, fn, xc, xl, xn, gn, ge, sn, us, ch, cl, bc, bk, bv, be, kd, ky, nv, od, ik, ip, gk, gv, gs, ak, av, so, sk, sv) (nI p) (nI t) := by
  refine And.intro (vp_in_nI hp (by decide)) (nm_r (e' := upd bc p (nI 0)) (by rw [nI_clamp (by omega)]; rfl) (nm_r (e' := nI (6 * p + 0)) (dt_6 p) ⟨c + 1, ?_⟩))
  have key := xw_fp_loop hp h10 ht hpt hc h c (c + 1) 0 (by omega) (by omega)
  rw [dt_wr_0, dt_wr_0] at key
  exact key
end
end
section
/-- pages below p are laid out; N pages in all -/
def dt_lay (t N p : Nat) (xn : Int32) (us ch cl bc bk bv be ik ip ak av : Nat → Int32) : Prop :=
  xn = nI (min p N) ∧ ∀ q, q < p → ch q = -1 ∧ cl q = 0 ∧ (N ≤ q → us q = 0) ∧ (q < N → us q = 1 ∧ bc q = nI (min 6 (t - 6 * q)) ∧
    (∀ j, j < min 6 (t - 6 * q) → bk (12 * q + j) = ak (6 * q + j) ∧ bv (12 * q + j) = av (6 * q + j)) ∧
    be q = (if t ≤ 6 * q + 6 then nI 4096 else ak (6 * q + 6)) ∧ ik q = (if q = 0 then 0 else ak (6 * q)) ∧ ip q = nI q)
def dt_lN (t N : Nat) : Prop := 1 ≤ N ∧ N ≤ 10 ∧ 6 * (N - 1) ≤ t ∧ t ≤ 6 * N ∧ (1 < N → 6 * (N - 1) < t)
theorem dt_lN_ex (t : Nat) (ht : t ≤ 60) : ∃ N, dt_lN t N := by
  by_cases e : t = 0
  · exact ⟨1, by unfold dt_lN; omega⟩
  · exact ⟨(t + 5) / 6, by unfold dt_lN; omega⟩
theorem dt_lay_s0 {t N p : Nat} {xn : Int32} {us ch cl bc bk bv be ik ip ak av : Nat → Int32} (h : dt_lay t N p xn us ch cl bc bk bv be ik ip ak av) (hp : N ≤ p) : dt_lay t N (p + 1) xn (upd us p 0) (upd ch p (-1)) (upd cl p 0) bc bk bv be ik ip ak av := by
  obtain ⟨h1, h2⟩ := h
  refine ⟨h1.trans (congrArg nI (by omega)), ?_⟩
  intro q hq
  by_cases e : q = p
  · subst e
    rw [pk_us, pk_us, pk_us]
    exact ⟨rfl, rfl, fun _ => rfl, fun h => by omega⟩
  · rw [pk_un e, pk_un e, pk_un e]
    exact h2 q (by omega)
theorem dt_lay_s1 {t N p : Nat} {xn : Int32} {us ch cl bc bk bv be ik ip ak av : Nat → Int32} (h : dt_lay t N p xn us ch cl bc bk bv be ik ip ak av) (hp : p < N) : dt_lay t N (p + 1) (xn + 1) (upd us p 1) (upd ch p (-1)) (upd cl p 0) (upd bc p (nI (min 6 (t - 6 * p)))) (dt_wr bk (12 * p) (fun j => ak (6 * p + j)) (min 6 (t - 6 * p))) (dt_wr bv (12 * p) (fun j => av (6 * p + j)) (min 6 (t - 6 * p))) (upd be p (if t ≤ 6 * p + 6 then nI 4096 else ak (6 * p + 6))) (upd ik p (if p = 0 then 0 else ak (6 * p))) (upd ip p (nI p)) ak av := by
  obtain ⟨h1, h2⟩ := h
  refine ⟨by rw [h1, nI_1]; exact congrArg nI (by omega), ?_⟩
  intro q hq
  by_cases e : q = p
  · subst e
    rw [pk_us, pk_us, pk_us, pk_us, pk_us, pk_us, pk_us]
    refine ⟨rfl, rfl, fun h => by omega, fun _ => ⟨rfl, rfl, fun j hj => ⟨dt_wr_in hj, dt_wr_in hj⟩, rfl, rfl, rfl⟩⟩
  · rw [pk_un e, pk_un e, pk_un e, pk_un e, pk_un e, pk_un e, pk_un e]
    obtain ⟨a1, a2, a3, a4⟩ := h2 q (by omega)
    refine ⟨a1, a2, a3, fun hN => ?_⟩
    obtain ⟨b1, b2, b3, b4⟩ := a4 hN
    refine ⟨b1, b2, fun j hj => ?_, b4⟩
    rw [dt_wr_out (by omega), dt_wr_out (by omega)]
    exact b3 j hj
/-- the chain of all notes -/
theorem dt_ch_all {od : Nat → Int32} (h1 : ∀ n, n < 159 → od n = nI (n + 1)) (h2 : od 159 = -1) : ∀ d a, a + d = 159 → dt_ch od (List.range' a (d + 1)) (nI a) := by
  intro d
  induction d with
  | zero =>
    intro a ha
    rw [List.range'_succ]
    refine ⟨rfl, ?_⟩
    rw [show a = 159 by omega, h2]
    exact rfl
  | succ d ih =>
    intro a ha
    rw [List.range'_succ]
    refine ⟨rfl, ?_⟩
    rw [h1 a (by omega)]
    exact ih (a + 1) (by omega)
def dt_C0 : Nat → List Nat := fun q => if q = 25 then List.range' 0 160 else []
theorem dt_C0_n {q : Nat} (h : q ≠ 25) : dt_C0 q = [] := if_neg h
theorem dt_C0_25 : dt_C0 25 = List.range' 0 160 := rfl
theorem dt_pool0 {H od : Nat → Int32} (h1 : ∀ n, n < 159 → od n = nI (n + 1)) (h2 : od 159 = -1) (hH : ∀ q, q < 25 → H q = -1) (hF : H 25 = 0) : dt_pool dt_C0 H od := by
  refine ⟨?_, ?_, ?_, ?_, ?_⟩
  · intro q hq
    by_cases e : q = 25
    · rw [e, dt_C0_25, hF]
      exact dt_ch_all h1 h2 159 0 rfl
    · rw [dt_C0_n e]
      exact hH q (by omega)
  · intro q hq
    by_cases e : q = 25
    · rw [e, dt_C0_25]
      exact List.nodup_range'
    · rw [dt_C0_n e]; exact List.nodup_nil
  · intro q hq n hn
    by_cases e : q = 25
    · rw [e, dt_C0_25, List.mem_range'_1] at hn
      omega
    · rw [dt_C0_n e] at hn
      exact absurd hn (List.not_mem_nil)
  · intro q r n hq hr h3 h4
    by_cases e : q = 25
    · by_cases e2 : r = 25
      · omega
      · rw [dt_C0_n e2] at h4
        exact absurd h4 (List.not_mem_nil)
    · rw [dt_C0_n e] at h3
      exact absurd h3 (List.not_mem_nil)
  · intro n hn
    refine ⟨25, by decide, ?_⟩
    rw [dt_C0_25, List.mem_range'_1]
    omega
def dt_fk0 (ak : Nat → Int32) : Nat → Nat := fun q => if q = 0 then 0 else dt_n ak (6 * q)
def dt_en0 (t : Nat) (ak : Nat → Int32) : Nat → Nat := fun q => if t ≤ 6 * q + 6 then 4096 else dt_n ak (6 * q + 6)
section
variable {t N : Nat} {ak av : Nat → Int32} {m : Nat → Option Int32}
theorem dt_l_en (hN : dt_lN t N) {q : Nat} (h : q + 1 < N) : dt_en0 t ak q = dt_fk0 ak (q + 1) := by
  obtain ⟨n1, n2, n3, n4, n5⟩ := hN
  have := n5 (by omega)
  rw [dt_en0, dt_fk0, if_neg (by omega), if_neg (by omega)]
  rfl
theorem dt_l_last (hN : dt_lN t N) : dt_en0 t ak (N - 1) = 4096 := by
  obtain ⟨n1, n2, n3, n4, n5⟩ := hN
  rw [dt_en0, if_pos (by omega)]
theorem dt_l_lt (hN : dt_lN t N) (G : dt_gat m t ak av) {q : Nat} (h : q < N) : dt_fk0 ak q < dt_en0 t ak q ∧ dt_en0 t ak q ≤ 4096 := by
  obtain ⟨n1, n2, n3, n4, n5⟩ := hN
  have hfk : dt_fk0 ak q < 4096 := by
    rw [dt_fk0]
    split
    · omega
    · have := n5 (by omega)
      exact (G.1 (6 * q) (by omega)).2.1
  rw [dt_en0]
  by_cases e : t ≤ 6 * q + 6
  · rw [if_pos e]; omega
  · rw [if_neg e]
    refine ⟨?_, ?_⟩
    · rw [dt_fk0]
      split
      · have := G.2.1 0 (6 * q + 6) (by omega) (by omega)
        omega
      · exact G.2.1 (6 * q) (6 * q + 6) (by omega) (by omega)
    · have := (G.1 (6 * q + 6) (by omega)).2.1
      omega
theorem dt_l_mono (hN : dt_lN t N) (G : dt_gat m t ak av) : ∀ (d p q : Nat), q = p + 1 + d → q < N → dt_en0 t ak p ≤ dt_fk0 ak q := by
  intro d
  induction d with
  | zero =>
    intro p q e hq
    rw [e, dt_l_en hN (by omega)]
    exact Nat.le_refl _
  | succ d ih =>
    intro p q e hq
    have h1 := ih p (q - 1) (by omega) (by omega)
    have h2 := dt_l_lt hN G (q := q - 1) (by omega)
    have h3 := dt_l_en (ak := ak) hN (q := q - 1) (by omega)
    rw [show q - 1 + 1 = q by omega] at h3
    omega
theorem dt_l_find (hN : dt_lN t N) {k : Nat} : ∀ n, 1 ≤ n → n ≤ N → (∃ q, q < n ∧ dt_fk0 ak q ≤ k ∧ k < dt_en0 t ak q) ∨ dt_en0 t ak (n - 1) ≤ k := by
  intro n
  induction n with
  | zero => intro h; omega
  | succ n ih =>
    intro h1 h2
    rw [show n + 1 - 1 = n by omega]
    by_cases e : n = 0
    · subst e
      by_cases e2 : k < dt_en0 t ak 0
      · exact Or.inl ⟨0, by omega, Nat.zero_le _, e2⟩
      · right; omega
    · rcases ih (by omega) (by omega) with ⟨q, hq, h3, h4⟩ | h
      · exact Or.inl ⟨q, by omega, h3, h4⟩
      · have h3 := dt_l_en (ak := ak) hN (q := n - 1) (by omega)
        rw [show n - 1 + 1 = n by omega] at h3
        by_cases e2 : k < dt_en0 t ak n
        · exact Or.inl ⟨n, by omega, by omega, e2⟩
        · right; omega
theorem dt_l_par {us : Nat → Int32} (hN : dt_lN t N) (G : dt_gat m t ak av) (hu : ∀ q, q < 24 → (us q ≠ 0 ↔ q < N)) : dt_par us (dt_fk0 ak) (dt_en0 t ak) := by
  refine ⟨?_, ?_, ?_⟩
  · intro p hp up
    exact dt_l_lt hN G ((hu p hp).mp up)
  · intro k hk
    rcases dt_l_find (ak := ak) (k := k) hN N hN.1 (Nat.le_refl N) with ⟨q, hq, h1, h2⟩ | h
    · have := hN.2.1
      exact ⟨q, by omega, (hu q (by omega)).mpr hq, h1, h2⟩
    · rw [dt_l_last hN] at h; omega
  · intro p q hp hq up uq hne
    rcases Nat.lt_or_gt_of_ne hne with h | h
    · exact Or.inl (dt_l_mono hN G (q - p - 1) p q (by omega) ((hu q hq).mp uq))
    · exact Or.inr (dt_l_mono hN G (p - q - 1) q p (by omega) ((hu p hp).mp up))
end
section
variable {ne fn xc xl xn gn ge sn ye yw : Int32} {us ch cl bc bk bv be kd ky nv od ik ip gk gv gs ak av so sk sv yh yv yp yk yn hb vb : Nat → Int32}
variable {M : Nat → Option Int32}
theorem dt_lay_XI {t N : Nat} (hN : dt_lN t N) (G : dt_gat (dt_rs M 0 4096) t ak av) (h1 : ∀ n, n < 159 → od n = nI (n + 1)) (h2 : od 159 = -1) (hfn : fn = 0) (hxc : xc = -1) (hxl : xl = 0) (h : dt_lay t N 24 xn us ch cl bc bk bv be ik ip ak av) : dt_XI dt_C0 (dt_fk0 ak) (dt_en0 t ak) M N fn xc xl xn us ch cl bc bk bv be kd ky nv od ik ip := by
  subst hfn hxc hxl
  obtain ⟨hxn, hl⟩ := h
  have hN1 := hN.1
  have hN2 := hN.2.1
  have hu : ∀ q, q < 24 → (us q ≠ 0 ↔ q < N) := fun q hq => by
    obtain ⟨_, _, a3, a4⟩ := hl q hq
    constructor
    · intro h
      apply Nat.lt_of_not_le
      intro hc
      exact h (a3 hc)
    · intro h
      rw [(a4 h).1]; decide
  have hpar := dt_l_par hN G hu
  have hfk : ∀ q, q < N → ik q = nI (dt_fk0 ak q) := fun q hq => by
    obtain ⟨_, _, _, a4⟩ := hl q (by omega)
    obtain ⟨_, _, _, _, b5, _⟩ := a4 hq
    rw [b5, dt_fk0]
    by_cases e : q = 0
    · rw [if_pos e, if_pos e]; rfl
    · rw [if_neg e, if_neg e]
      have := hN.2.2.2.2 (by omega)
      exact (G.1 (6 * q) (by omega)).1
  have hfkb : ∀ q, q < N → dt_fk0 ak q < 4096 := fun q hq => by
    have := dt_l_lt hN G hq
    omega
  refine ⟨?_, ⟨?_, ?_, ?_⟩, hpar, ?_, ?_, ?_, ?_, ?_⟩
  · refine dt_pool0 h1 h2 ?_ rfl
    intro q hq
    by_cases e : q = 24
    · rw [e]; rfl
    · rw [dt_hd_p (by omega)]
      exact (hl q (by omega)).1
  · intro q hq
    rw [dt_C0_n (by omega)]
    exact ⟨(hl q hq).2.1, by decide⟩
  · rfl
  · decide
  · intro p hp up
    have hpN := (hu p hp).mp up
    obtain ⟨_, _, _, a4⟩ := hl p hp
    obtain ⟨_, b2, b3, b4, _, _⟩ := a4 hpN
    have h5 := hN.2.2.2.2
    have h3 := hN.2.2.1
    have h4 := hN.2.2.2.1
    have hpt : 6 * p ≤ t := by
      by_cases e : p = 0
      · omega
      · have := h5 (by omega); omega
    refine ⟨dt_rs M (dt_fk0 ak p) (dt_en0 t ak p), min 6 (t - 6 * p), by omega, b2, ?_, ?_, ?_⟩
    · have hs := dt_gat_sub (a := 6 * p) (b := min t (6 * p + 6)) (lo := dt_fk0 ak p) (hi := dt_en0 t ak p) G (by omega) (by omega) ?_ ?_
      · rw [show min t (6 * p + 6) - 6 * p = min 6 (t - 6 * p) by omega] at hs
        refine dt_gat_congr (dt_gat_map hs ?_) (fun j hj => (b3 j hj).1) (fun j hj => (b3 j hj).2)
        intro k
        have hb := dt_l_lt hN G hpN
        by_cases e : dt_fk0 ak p ≤ k ∧ k < dt_en0 t ak p
        · rw [dt_rs_t e.1 e.2, dt_rs_t e.1 e.2, dt_rs_t (by omega) (by omega)]
        · rw [dt_rs_f e, dt_rs_f e]
      · intro j hj
        rw [dt_fk0]
        by_cases e : p = 0
        · rw [if_pos e]; omega
        · rw [if_neg e]
          constructor
          · intro hle
            apply Nat.le_of_not_lt
            intro hc
            have := G.2.1 j (6 * p) hc (by have := h5 (by omega); omega)
            omega
          · intro hle
            by_cases e2 : 6 * p = j
            · rw [e2]; exact Nat.le_refl _
            · exact Nat.le_of_lt (G.2.1 (6 * p) j (by omega) hj)
      · intro j hj
        rw [dt_en0]
        by_cases e : t ≤ 6 * p + 6
        · rw [if_pos e]
          have := (G.1 j hj).2.1
          omega
        · rw [if_neg e]
          constructor
          · intro hlt
            have : j < 6 * p + 6 := by
              apply Nat.lt_of_not_le
              intro hc
              by_cases e2 : j = 6 * p + 6
              · rw [e2] at hlt; omega
              · have := G.2.1 (6 * p + 6) j (by omega) hj
                omega
            omega
          · intro hlt
            exact G.2.1 j (6 * p + 6) (by omega) (by omega)
    · rw [dt_C0_n (by omega)]
      refine And.intro ?_ (by omega)
      rw [b4, dt_en0]
      by_cases e : t ≤ 6 * p + 6
      · rw [if_pos e, if_pos e]
      · rw [if_neg e, if_neg e]
        exact (G.1 (6 * p + 6) (by omega)).1
    · rw [dt_C0_n (by omega)]; rfl
  · intro p hp _
    exact dt_C0_n (by omega)
  · rw [hxn]; exact congrArg nI (by omega)
  · refine ⟨hN1, by omega, ?_, ?_, ?_, ?_, ?_, ?_⟩
    · intro j hj
      obtain ⟨_, _, _, a4⟩ := hl j (by omega)
      obtain ⟨_, _, _, _, _, b6⟩ := a4 hj
      exact ⟨j, by omega, (hu j (by omega)).mpr hj, b6, hfk j hj⟩
    · intro i j hij hj
      rw [dt_n_of (hfk i (by omega)) (by have := hfkb i (by omega); omega), dt_n_of (hfk j hj) (by have := hfkb j hj; omega)]
      have h6 := dt_l_mono hN G (j - i - 1) i j (by omega) hj
      have h7 := dt_l_lt hN G (q := i) (by omega)
      omega
    · rw [hfk 0 (by omega)]; rfl
    · intro n hn
      exact absurd hn (List.not_mem_nil)
    · exact List.nodup_nil
    · intro n hn
      exact absurd hn (List.not_mem_nil)
  · intro q hq uq
    have hqN := (hu q hq).mp uq
    obtain ⟨_, _, _, a4⟩ := hl q hq
    obtain ⟨_, _, _, _, _, b6⟩ := a4 hqN
    exact Or.inl (Or.inl ⟨q, hqN, b6⟩)
theorem xw_lo_loop {post : SX → Prop} {t N : Nat} (ht : t ≤ 60) (hN : dt_lN t N) (hp : ∀ xn' (us' ch' cl' bc' bk' bv' be' ik' ip' : Nat → Int32), dt_lay t N 24 xn' us' ch' cl' bc' bk' bv' be' ik' ip' ak av → post (ne, fn, xc, xl, xn', gn, ge, sn, us', ch', cl', bc', bk', bv', be', kd, ky, nv, od, ik', ip', gk, gv, gs, ak, av, so, sk, sv)) : ∀ d n p (xn : Int32) (us ch cl bc bk bv be ik ip : Nat → Int32), p + d = 24 → d < n → dt_lay t N p xn us ch cl bc bk bv be ik ip ak av → wX_layOut_57 post (nI t) n (nI p) ne fn xc xl xn gn ge sn us ch cl bc bk bv be kd ky nv od ik ip gk gv gs ak av so sk sv := by
  intro d
  induction d with
  | zero =>
    intro n p xn us ch cl bc bk bv be ik ip hpd hn h
    obtain ⟨n, rfl⟩ : ∃ k, n = k + 1 := ⟨n - 1, by omega⟩
    obtain rfl : p = 24 := by omega
    exact br_t (nI_le (a := 24) (by omega) (by omega)) (hp xn us ch cl bc bk bv be ik ip h)
  | succ d ih =>
    intro n p xn us ch cl bc bk bv be ik ip hpd hn h
    obtain ⟨n, rfl⟩ : ∃ k, n = k + 1 := ⟨n - 1, by omega⟩
    have v1 : vp_in (nI p) 24 := vp_in_nI (by omega) (by decide)
    have c1 : (nI p).toNatClampNeg = p := nI_clamp (by omega)
    obtain ⟨n1, n2, n3, n4, n5⟩ := hN
    have hyes : p < N → wX_layOut_85 post (wX_layOut_57 post (nI t) n) (nI t) (nI p) 1 (nI p) ne fn xc xl xn gn ge sn us ch cl bc bk bv be kd ky nv od ik ip gk gv gs ak av so sk sv := fun hpN => by
      have h6 : 6 * p ≤ t := by
        by_cases e : p = 0
        · omega
        · have := n5 (by omega); omega
      refine And.intro v1 (nm_r (e' := upd us p 1) (by rw [c1, dt_vb1]) ⟨v1, nm_r (e' := upd ch p (-1)) (by rw [c1]) ⟨v1, nm_r (e' := upd cl p 0) (by rw [c1]) ⟨v1, br_f (by rw [c1, pk_us]; decide) ?_⟩⟩⟩)
      refine xw_fillPage (c := min 6 (t - 6 * p)) (by omega) (by omega) ht h6 rfl ?_
      refine nm_r (nI_1 p) ?_
      exact ih n (p + 1) _ _ _ _ _ _ _ _ _ _ (by omega) (by omega) (dt_lay_s1 h hpN)
    have hno : N ≤ p → wX_layOut_85 post (wX_layOut_57 post (nI t) n) (nI t) (nI p) 0 (nI p) ne fn xc xl xn gn ge sn us ch cl bc bk bv be kd ky nv od ik ip gk gv gs ak av so sk sv := fun hpN => by
      refine And.intro v1 (nm_r (e' := upd us p 0) (by rw [c1, dt_vb0]) ⟨v1, nm_r (e' := upd ch p (-1)) (by rw [c1]) ⟨v1, nm_r (e' := upd cl p 0) (by rw [c1]) ⟨v1, br_t (by rw [c1, pk_us]) ?_⟩⟩⟩)
      refine nm_r (nI_1 p) ?_
      exact ih n (p + 1) _ _ _ _ _ _ _ _ _ _ (by omega) (by omega) (dt_lay_s0 h hpN)
    refine br_f (nI_ge (b := 24) (by omega) (by decide)) ?_
    refine pk_eq p 0 (fun e => ?_) (fun e => ?_)
    · exact hyes (by omega)
    · rw [dt_6]
      refine pk_le t (6 * p) (fun h2 => ?_) (fun h2 => ?_)
      · refine hno ?_
        apply Nat.le_of_not_lt
        intro hc
        have := n5 (by omega)
        omega
      · exact hyes (by omega)
def dt_od0 : Nat → Int32 := fun n => if n = 159 then -1 else nI (n + 1)
theorem xw_lo_older {post : SX → Prop} {t : Nat} (h : ∃ n, wX_layOut_57 post (nI t) n (nI 0) ne 0 (-1) 0 0 gn ge sn us ch cl bc bk bv be kd ky nv (dt_cp od dt_od0 160) ik ip gk gv gs ak av so sk sv) : ∀ d n i, i + d = 160 → d < n → wX_layOut_2 post (nI t) ne fn xc xl xn gn ge sn n (nI i) us ch cl bc bk bv be kd ky nv (dt_cp od dt_od0 i) ik ip gk gv gs ak av so sk sv := by
  intro d
  induction d with
  | zero =>
    intro n i hi hn
    obtain ⟨n, rfl⟩ : ∃ k, n = k + 1 := ⟨n - 1, by omega⟩
    obtain rfl : i = 160 := by omega
    exact br_t (nI_le (a := 160) (by omega) (by omega)) h
  | succ d ih =>
    intro n i hi hn
    obtain ⟨n, rfl⟩ : ∃ k, n = k + 1 := ⟨n - 1, by omega⟩
    have v1 : vp_in (nI i) 160 := vp_in_nI (by omega) (by decide)
    have c1 : (nI i).toNatClampNeg = i := nI_clamp (by omega)
    refine br_f (nI_ge (b := 160) (by omega) (by decide)) ?_
    refine pk_eq i 159 (fun e => ⟨v1, nm_r (e' := dt_cp od dt_od0 (i + 1)) ?_ (nm_r (nI_1 i) (ih n (i + 1) (by omega) (by omega)))⟩) (fun e => ⟨v1, nm_r (e' := dt_cp od dt_od0 (i + 1)) ?_ (nm_r (nI_1 i) (ih n (i + 1) (by omega) (by omega)))⟩)
    · rw [c1]
      refine dt_cp_s ?_
      rw [dt_od0, if_pos e]
    · rw [c1]
      refine dt_cp_s ?_
      rw [dt_od0, if_neg e, nI_1]
theorem xw_layOut {post : SX → Prop} {t : Nat} (ht : t ≤ 60) (G : dt_gat (dt_rs M 0 4096) t ak av) (hp : ∀ (C : Nat → List Nat) (fk en : Nat → Nat) (mx : Nat) (fn' xc' xl' xn' : Int32) (us' ch' cl' bc' bk' bv' be' kd' ky' nv' od' ik' ip' : Nat → Int32), dt_XI C fk en M mx fn' xc' xl' xn' us' ch' cl' bc' bk' bv' be' kd' ky' nv' od' ik' ip' → dt_q4 C → post (ne, fn', xc', xl', xn', gn, ge, sn, us', ch', cl', bc', bk', bv', be', kd', ky', nv', od', ik', ip', gk, gv, gs, ak, av, so, sk, sv)) : wpX_layOut post (ne, fn, xc, xl, xn, gn, ge, sn, us, ch, cl, bc, bk, bv, be, kd, ky, nv, od, ik, ip, gk, gv, gs, ak, av, so, sk, sv) (nI t) := by
  obtain ⟨N, hN⟩ := dt_lN_ex t ht
  refine ⟨161, ?_⟩
  have key := xw_lo_older (post := post) (ne := ne) (fn := fn) (xc := xc) (xl := xl) (xn := xn) (gn := gn) (ge := ge) (sn := sn) (us := us) (ch := ch) (cl := cl) (bc := bc) (bk := bk) (bv := bv) (be := be) (kd := kd) (ky := ky) (nv := nv) (od := od) (ik := ik) (ip := ip) (gk := gk) (gv := gv) (gs := gs) (ak := ak) (av := av) (so := so) (sk := sk) (sv := sv) (t := t) ?_ 160 161 0 (by omega) (by omega)
  · rw [dt_cp_0] at key
    exact key
  · refine ⟨25, ?_⟩
    refine xw_lo_loop ht hN ?_ 24 25 0 _ _ _ _ _ _ _ _ _ _ (by omega) (by omega) ⟨by rw [show min 0 N = 0 by omega]; rfl, fun q hq => by omega⟩
    intro xn' us' ch' cl' bc' bk' bv' be' ik' ip' hl
    refine hp dt_C0 (dt_fk0 ak) (dt_en0 t ak) N _ _ _ _ _ _ _ _ _ _ _ _ _ _ _ _ _ (dt_lay_XI hN G ?_ ?_ rfl rfl rfl hl) ?_
    · intro n hn
      rw [dt_cp_lo (by omega), dt_od0, if_neg (by omega)]
    · rw [dt_cp_lo (by omega), dt_od0, if_pos rfl]
    · intro q hq
      rw [dt_C0_n (by omega)]; exact Nat.zero_le _
end
end
section
def dt_hs (M : Nat → Option Int32) : Nat → Bool := fun k => (M k).isSome
theorem dt_hs_t {M : Nat → Option Int32} {k : Nat} {x : Int32} (h : M k = some x) : dt_hs M k = true := by
  rw [dt_hs, h]; rfl
theorem dt_hs_f {M : Nat → Option Int32} {k : Nat} (h : M k = none) : dt_hs M k = false := by
  rw [dt_hs, h]; rfl
theorem dt_gat_le {m M : Nat → Option Int32} {n : Nat} {gk gv : Nat → Int32} (G : dt_gat m n gk gv) (h : ∀ k x, m k = some x → M k = some x) : n ≤ dt_cn (dt_hs M) 4096 := by
  have ht : ∀ j, j < n → dt_hs M (dt_n gk j) = true := fun j hj => dt_hs_t (h _ _ (G.1 j hj).2.2)
  have h1 : ∀ j, j < n → j ≤ dt_cn (dt_hs M) (dt_n gk j) := by
    intro j
    induction j with
    | zero => intro _; exact Nat.zero_le _
    | succ j ih =>
      intro hj
      have h2 := ih (by omega)
      have h3 := G.2.1 j (j + 1) (by omega) hj
      have h4 := dt_cn_upt (f := dt_hs M) (a := dt_n gk j) (Nat.le_refl _) h3 (ht j (by omega))
      omega
  by_cases e : n = 0
  · omega
  · have h2 := h1 (n - 1) (by omega)
    have h4 := dt_cn_upt (f := dt_hs M) (a := dt_n gk (n - 1)) (b := 4096) (Nat.le_refl _) (G.1 (n - 1) (by omega)).2.1 (ht (n - 1) (by omega))
    omega
theorem dt_rs_some {M : Nat → Option Int32} {lo hi k : Nat} {x : Int32} (h : dt_rs M lo hi k = some x) : M k = some x ∧ lo ≤ k ∧ k < hi := by
  by_cases e : lo ≤ k ∧ k < hi
  · rw [dt_rs_t e.1 e.2] at h
    exact ⟨h, e⟩
  · rw [dt_rs_f e] at h
    exact absurd h (by simp)
theorem dt_gat_app {M : Nat → Option Int32} {T g key e : Nat} {ak av gk gv : Nat → Int32} (G1 : dt_gat (dt_rs M 0 key) T ak av) (G2 : dt_gat (dt_rs M key e) g gk gv) (hke : key ≤ e) : dt_gat (dt_rs M 0 e) (T + g) (dt_wr ak T gk g) (dt_wr av T gv g) := by
  have lo : ∀ j, j < T → dt_wr ak T gk g j = ak j ∧ dt_wr av T gv g j = av j := fun j hj => ⟨dt_wr_out (by omega), dt_wr_out (by omega)⟩
  have hi : ∀ j, j < g → dt_wr ak T gk g (T + j) = gk j ∧ dt_wr av T gv g (T + j) = gv j := fun j hj => ⟨dt_wr_in hj, dt_wr_in hj⟩
  have k1 : ∀ j, j < T → dt_n ak j < key := fun j hj => (dt_rs_some (G1.1 j hj).2.2).2.2
  have k2 : ∀ j, j < g → key ≤ dt_n gk j ∧ dt_n gk j < e := fun j hj => (dt_rs_some (G2.1 j hj).2.2).2
  have n1 : ∀ j, j < T → dt_n (dt_wr ak T gk g) j = dt_n ak j := fun j hj => dt_n_eq (lo j hj).1
  have n2 : ∀ j, j < g → dt_n (dt_wr ak T gk g) (T + j) = dt_n gk j := fun j hj => dt_n_eq (hi j hj).1
  refine ⟨?_, ?_, ?_⟩
  · intro j hj
    by_cases h : j < T
    · rw [n1 j h, (lo j h).1, (lo j h).2]
      have h3 := G1.1 j h
      have h4 := k1 j h
      refine ⟨h3.1, h3.2.1, ?_⟩
      rw [dt_rs_t (by omega) (by omega)]
      exact (dt_rs_some h3.2.2).1
    · obtain ⟨i, rfl⟩ : ∃ i, j = T + i := ⟨j - T, by omega⟩
      rw [n2 i (by omega), (hi i (by omega)).1, (hi i (by omega)).2]
      have h3 := G2.1 i (by omega)
      have h4 := k2 i (by omega)
      refine ⟨h3.1, h3.2.1, ?_⟩
      rw [dt_rs_t (by omega) (by omega)]
      exact (dt_rs_some h3.2.2).1
  · intro i j hij hj
    by_cases h : j < T
    · rw [n1 j h, n1 i (by omega)]
      exact G1.2.1 i j hij h
    · obtain ⟨j, rfl⟩ : ∃ i, j = T + i := ⟨j - T, by omega⟩
      rw [n2 j (by omega)]
      by_cases h2 : i < T
      · rw [n1 i h2]
        have := k1 i h2
        have := k2 j (by omega)
        omega
      · obtain ⟨i, rfl⟩ : ∃ j, i = T + j := ⟨i - T, by omega⟩
        rw [n2 i (by omega)]
        exact G2.2.1 i j (by omega) (by omega)
  · intro k x hx
    obtain ⟨hM, _, hk⟩ := dt_rs_some hx
    by_cases h : k < key
    · obtain ⟨j, hj, e2⟩ := G1.2.2 k x (by rw [dt_rs_t (by omega) h]; exact hM)
      exact ⟨j, by omega, by rw [n1 j hj]; exact e2⟩
    · obtain ⟨j, hj, e2⟩ := G2.2.2 k x (by rw [dt_rs_t (by omega) hk]; exact hM)
      exact ⟨T + j, by omega, by rw [n2 j hj]; exact e2⟩
section
variable {ne fn xc xl xn gn ge sn ye yw : Int32} {us ch cl bc bk bv be kd ky nv od ik ip gk gv gs ak av so sk sv yh yv yp yk yn hb vb : Nat → Int32}
variable {fk en : Nat → Nat} {M : Nat → Option Int32}
theorem xw_ma_copy {post : SX → Prop} {J : Int32 → Int32 → Int32 → Int32 → Int32 → Int32 → Int32 → Int32 → Int32 → Int32 → Int32 → (Nat → Int32) → (Nat → Int32) → (Nat → Int32) → (Nat → Int32) → (Nat → Int32) → (Nat → Int32) → (Nat → Int32) → (Nat → Int32) → (Nat → Int32) → (Nat → Int32) → (Nat → Int32) → (Nat → Int32) → (Nat → Int32) → (Nat → Int32) → (Nat → Int32) → (Nat → Int32) → (Nat → Int32) → (Nat → Int32) → (Nat → Int32) → (Nat → Int32) → (Nat → Int32) → Prop} {T g st : Nat} (hgn : gn = nI g) (hT : T + g ≤ 60) (hg : g ≤ 16) (hJ : J (nI (T + g)) ge (nI (st + 1)) ne fn xc xl xn gn ge sn us ch cl bc bk bv be kd ky nv od ik ip gk gv gs (dt_wr ak T gk g) (dt_wr av T gv g) so sk sv) : ∀ d n i, i + d = g → d < n → wX_makeAnew_35 post J (nI st) ne fn xc xl xn gn ge sn n (nI (T + i)) (nI i) us ch cl bc bk bv be kd ky nv od ik ip gk gv gs (dt_wr ak T gk i) (dt_wr av T gv i) so sk sv := by
  subst hgn
  intro d
  induction d with
  | zero =>
    intro n i hi hn
    obtain ⟨n, rfl⟩ : ∃ k, n = k + 1 := ⟨n - 1, by omega⟩
    obtain rfl : i = g := by omega
    exact br_t (nI_le (by omega) (by omega)) (nm_r (nI_1 st) hJ)
  | succ d ih =>
    intro n i hi hn
    obtain ⟨n, rfl⟩ : ∃ k, n = k + 1 := ⟨n - 1, by omega⟩
    have c1 : (nI i).toNatClampNeg = i := nI_clamp (by omega)
    have c2 : (nI (T + i)).toNatClampNeg = T + i := nI_clamp (by omega)
    have v1 : vp_in (nI i) 16 := vp_in_nI (by omega) (by decide)
    have v2 : vp_in (nI (T + i)) 60 := vp_in_nI (by omega) (by decide)
    refine br_f (nI_ge (by omega) (by omega)) ⟨v1, v2, nm_r (e' := dt_wr ak T gk (i + 1)) (by rw [c1, c2]; exact dt_wr_s rfl) ⟨v1, v2, nm_r (e' := dt_wr av T gv (i + 1)) (by rw [c1, c2]; exact dt_wr_s rfl) (nm_r (nI_1 _) (nm_r (nI_1 _) ?_))⟩⟩
    exact ih n (i + 1) (by omega) (by omega)
theorem xw_ma_end {post : SX → Prop} {T : Nat} (hM : dt_cn (dt_hs M) 4096 ≤ 60) (G : dt_gat (dt_rs M 0 4096) T ak av) (hp : ∀ (C' : Nat → List Nat) (fk' en' : Nat → Nat) (mx' : Nat) (fn' xc' xl' xn' : Int32) (us' ch' cl' bc' bk' bv' be' kd' ky' nv' od' ik' ip' : Nat → Int32), dt_XI C' fk' en' M mx' fn' xc' xl' xn' us' ch' cl' bc' bk' bv' be' kd' ky' nv' od' ik' ip' → dt_q4 C' → post (ne, fn', xc', xl', xn', gn, ge, sn, us', ch', cl', bc', bk', bv', be', kd', ky', nv', od', ik', ip', gk, gv, gs, ak, av, so, sk, sv)) : wX_makeAnew_90 post (nI T) ne fn xc xl xn gn ge sn us ch cl bc bk bv be kd ky nv od ik ip gk gv gs ak av so sk sv := by
  have hT := dt_gat_le (M := M) G (fun k x h => (dt_rs_some h).1)
  unfold wX_makeAnew_90
  exact xw_layOut (by omega) G hp
theorem xw_ma_loop {post : SX → Prop} (hM : dt_cn (dt_hs M) 4096 ≤ 60) : ∀ d n st T key (C : Nat → List Nat) (mx : Nat) (fn xc xl xn gn ge : Int32) (kd ky nv od ik ip gk gv gs ak av : Nat → Int32),
    (∀ (C' : Nat → List Nat) (fk' en' : Nat → Nat) (mx' : Nat) (fn' xc' xl' xn' gn' ge' : Int32) (us' ch' cl' bc' bk' bv' be' kd' ky' nv' od' ik' ip' gk' gv' gs' ak' av' : Nat → Int32), dt_XI C' fk' en' M mx' fn' xc' xl' xn' us' ch' cl' bc' bk' bv' be' kd' ky' nv' od' ik' ip' → dt_q4 C' → post (ne, fn', xc', xl', xn', gn', ge', sn, us', ch', cl', bc', bk', bv', be', kd', ky', nv', od', ik', ip', gk', gv', gs', ak', av', so, sk, sv)) →
    dt_XI C fk en M mx fn xc xl xn us ch cl bc bk bv be kd ky nv od ik ip → dt_gat (dt_rs M 0 key) T ak av → key ≤ 4096 → (key < 4096 → ∃ p, p < 24 ∧ us p ≠ 0 ∧ fk p = key) → dt_cn (fun r => decide (us r ≠ 0 ∧ key < en r)) 24 ≤ d → st + d ≤ 24 → d < n → wX_makeAnew_6 post n (nI T) (nI key) (nI st) ne fn xc xl xn gn ge sn us ch cl bc bk bv be kd ky nv od ik ip gk gv gs ak av so sk sv := by
  intro d
  induction d with
  | zero =>
    intro n st T key C mx fn xc xl xn gn ge kd ky nv od ik ip gk gv gs ak av hp I G hk hb hcn hst hn
    obtain ⟨n, rfl⟩ : ∃ k, n = k + 1 := ⟨n - 1, by omega⟩
    have hk4 : key = 4096 := by
      apply Nat.le_antisymm hk
      apply Nat.le_of_not_lt
      intro hc
      obtain ⟨p, hp', up, h1, h2⟩ := I.2.2.1.2.1 key hc
      have := dt_cn_upt (f := fun r => decide (us r ≠ 0 ∧ key < en r)) (a := 0) (b := 24) (k := p) (by omega) hp' (by simp only [decide_eq_true_eq]; exact ⟨up, h2⟩)
      omega
    subst hk4
    have hE := xw_ma_end (post := post) (ne := ne) (fn := fn) (xc := xc) (xl := xl) (xn := xn) (gn := gn) (ge := ge) (sn := sn) (us := us) (ch := ch) (cl := cl) (bc := bc) (bk := bk) (bv := bv) (be := be) (kd := kd) (ky := ky) (nv := nv) (od := od) (ik := ik) (ip := ip) (gk := gk) (gv := gv) (gs := gs) (ak := ak) (av := av) (so := so) (sk := sk) (sv := sv) (T := T) hM G (fun C' fk' en' mx' fn' xc' xl' xn' us' ch' cl' bc' bk' bv' be' kd' ky' nv' od' ik' ip' => hp C' fk' en' mx' fn' xc' xl' xn' gn ge us' ch' cl' bc' bk' bv' be' kd' ky' nv' od' ik' ip' gk gv gs ak av)
    exact br_c (fun _ => hE) (fun _ => br_t (nI_le (a := 4096) (b := 4096) (by omega) (by omega)) hE)
  | succ d ih =>
    intro n st T key C mx fn xc xl xn gn ge kd ky nv od ik ip gk gv gs ak av hp I G hk hb hcn hst hn
    obtain ⟨n, rfl⟩ : ∃ k, n = k + 1 := ⟨n - 1, by omega⟩
    by_cases hk4 : key = 4096
    · subst hk4
      have hE := xw_ma_end (post := post) (ne := ne) (fn := fn) (xc := xc) (xl := xl) (xn := xn) (gn := gn) (ge := ge) (sn := sn) (us := us) (ch := ch) (cl := cl) (bc := bc) (bk := bk) (bv := bv) (be := be) (kd := kd) (ky := ky) (nv := nv) (od := od) (ik := ik) (ip := ip) (gk := gk) (gv := gv) (gs := gs) (ak := ak) (av := av) (so := so) (sk := sk) (sv := sv) (T := T) hM G (fun C' fk' en' mx' fn' xc' xl' xn' us' ch' cl' bc' bk' bv' be' kd' ky' nv' od' ik' ip' => hp C' fk' en' mx' fn' xc' xl' xn' gn ge us' ch' cl' bc' bk' bv' be' kd' ky' nv' od' ik' ip' gk gv gs ak av)
      exact br_c (fun _ => hE) (fun _ => br_t (nI_le (a := 4096) (b := 4096) (by omega) (by omega)) hE)
    · refine br_f (nI_ge (b := 24) (by omega) (by decide)) (br_f (nI_ge (b := 4096) (by omega) (by decide)) ?_)
      refine xw_pageFor (by omega) I ?_
      intro C' mx' fn' xc' xl' xn' kd' ky' nv' od' ik' ip' p I' hC hp' up f1 f2 hkn
      have hpp := I'.2.2.1.1 p hp' up
      obtain ⟨p0, hp0, up0, e0⟩ := hb (by omega)
      have hpp0 := I'.2.2.1.1 p0 hp0 up0
      have ep : p0 = p := dt_par_uniq I'.2.2.1 hp0 hp' up0 up (k := key) (by omega) (by omega) f1 f2
      subst ep
      refine xw_gather I' hp' up ?_
      intro g gk' gv' gs' G' hg
      rw [e0] at G'
      have hl := (I'.2.1.1 p0 hp').2
      have GA := dt_gat_app G G' (by omega)
      have hT := dt_gat_le (M := M) GA (fun k x h => (dt_rs_some h).1)
      refine ⟨g + 1, ?_⟩
      have key2 := xw_ma_copy (post := post) (J := wX_makeAnew_6 post n) (ne := ne) (fn := fn') (xc := xc') (xl := xl') (xn := xn') (gn := nI g) (ge := nI (en p0)) (sn := sn) (us := us) (ch := ch) (cl := cl) (bc := bc) (bk := bk) (bv := bv) (be := be) (kd := kd') (ky := ky') (nv := nv') (od := od') (ik := ik') (ip := ip') (gk := gk') (gv := gv') (gs := gs') (ak := ak) (av := av) (so := so) (sk := sk) (sv := sv) (T := T) (g := g) (st := st) rfl (by omega) (by omega) ?_ g (g + 1) 0 (by omega) (by omega)
      · rw [dt_wr_0, dt_wr_0] at key2
        exact key2
      · refine ih n (st + 1) (T + g) (en p0) C' mx' fn' xc' xl' xn' (nI g) (nI (en p0)) kd' ky' nv' od' ik' ip' gk' gv' gs' (dt_wr ak T gk' g) (dt_wr av T gv' g) hp I' GA (by omega) (fun h => dt_par_next I'.2.2.1 hp' up h) ?_ (by omega) (by omega)
        have := dt_cn_lt (f := fun r => decide (us r ≠ 0 ∧ en p0 < en r)) (g := fun r => decide (us r ≠ 0 ∧ key < en r)) (j := p0) (n := 24) (fun r hr h => by
          simp only [decide_eq_true_eq] at h ⊢
          exact ⟨h.1, by omega⟩) hp' (by simp) (by simp only [decide_eq_true_eq]; exact ⟨up, by omega⟩)
        omega
theorem xw_makeAnew {post : SX → Prop} {C : Nat → List Nat} {mx : Nat} (hM : dt_cn (dt_hs M) 4096 ≤ 60) (I : dt_XI C fk en M mx fn xc xl xn us ch cl bc bk bv be kd ky nv od ik ip) (hp : ∀ (C' : Nat → List Nat) (fk' en' : Nat → Nat) (mx' : Nat) (fn' xc' xl' xn' gn' ge' : Int32) (us' ch' cl' bc' bk' bv' be' kd' ky' nv' od' ik' ip' gk' gv' gs' ak' av' : Nat → Int32), dt_XI C' fk' en' M mx' fn' xc' xl' xn' us' ch' cl' bc' bk' bv' be' kd' ky' nv' od' ik' ip' → dt_q4 C' → post (ne, fn', xc', xl', xn', gn', ge', sn, us', ch', cl', bc', bk', bv', be', kd', ky', nv', od', ik', ip', gk', gv', gs', ak', av', so, sk, sv)) : wpX_makeAnew post (ne, fn, xc, xl, xn, gn, ge, sn, us, ch, cl, bc, bk, bv, be, kd, ky, nv, od, ik, ip, gk, gv, gs, ak, av, so, sk, sv) := by
  refine ⟨25, ?_⟩
  refine xw_ma_loop hM 24 25 0 0 0 C mx fn xc xl xn gn ge kd ky nv od ik ip gk gv gs ak av hp I ?_ (by omega) ?_ (dt_cn_le _ 24) (by omega) (by omega)
  · refine ⟨fun j hj => by omega, fun i j h1 h2 => by omega, fun k x hx => ?_⟩
    have := (dt_rs_some hx).2
    omega
  · intro _
    obtain ⟨p, hp', up, h1, h2⟩ := I.2.2.1.2.1 0 (by omega)
    exact ⟨p, hp', up, by omega⟩
end
end
section
theorem dt_ix_frame {l : List Nat} {fk fk' : Nat → Nat} {us us' ky nv ky' nv' : Nat → Int32} {m : Nat} {ik ip : Nat → Int32} (h : dt_ix l fk us ky nv m ik ip) (hu : ∀ q, q < 24 → us q ≠ 0 → us' q ≠ 0 ∧ fk' q = fk q) (hn : ∀ n, n ∈ l → ky' n = ky n ∧ nv' n = nv n) : dt_ix l fk' us' ky' nv' m ik ip := by
  obtain ⟨h1, h2, h3, h4, h5, h6, h7, h8⟩ := dt_ix_congr h hn
  refine ⟨h1, h2, ?_, h4, h5, ?_, h7, h8⟩
  · intro j hj
    obtain ⟨q, hq, uq, e1, e2⟩ := h3 j hj
    exact ⟨q, hq, (hu q hq uq).1, e1, by rw [(hu q hq uq).2]; exact e2⟩
  · intro n hn'
    obtain ⟨q, hq, uq, e1, e2⟩ := h6 n hn'
    exact ⟨q, hq, (hu q hq uq).1, e1, by rw [(hu q hq uq).2]; exact e2⟩
theorem dt_kn_congr {l : List Nat} {nv nv' : Nat → Int32} {m : Nat} {ip : Nat → Int32} {q : Nat} (hn : ∀ n, n ∈ l → nv' n = nv n) (h : dt_kn l nv m ip q) : dt_kn l nv' m ip q := by
  rcases h with h | ⟨n, hm, e⟩
  · exact Or.inl h
  · exact Or.inr ⟨n, hm, by rw [hn n hm]; exact e⟩
section
variable {ne fn xc xl xn gn ge sn ye yw : Int32} {us ch cl bc bk bv be kd ky nv od ik ip gk gv gs ak av so sk sv yh yv yp yk yn hb vb : Nat → Int32}
variable {C : Nat → List Nat} {fk en : Nat → Nat} {M : Nat → Option Int32} {mx : Nat}
/-- a new note at the head of page p's chain -/
theorem dt_add {C' : Nat → List Nat} {p n k : Nat} {kind val : Int32} {L : List Nat} (I : dt_XI C fk en M mx fn xc xl xn us ch cl bc bk bv be kd ky nv od ik ip) (h25 : C 25 = n :: L) (hC' : C' = dt_up (dt_up C 25 L) p (n :: C p)) (hp : p < 24) (up : us p ≠ 0) (hq : (C p).length ≤ 4) (f1 : fk p ≤ k) (f2 : k < en p) (hk2 : kind ≠ 2) : dt_XI C' fk en (dt_set M k (if kind = 0 then some val else none)) mx (od n) xc xl xn us (upd ch p (nI n)) (upd cl p (cl p + 1)) bc bk bv be (upd kd n kind) (upd ky n (nI k)) (upd nv n val) (upd od n (ch p)) ik ip ∧ C' p = n :: C p ∧ (∀ q, q < 25 → q ≠ p → C' q = C q) := by
  subst hC'
  obtain ⟨hP, hlen, hpar, hpg, hun, hxn, hix, hrc⟩ := I
  have hpp := hpar.1 p hp up
  have hne : ∀ p, p < 25 → ∀ m, m ∈ C p → m ≠ n := fun p hp m hm e => by
    have hn25 : n ∈ C 25 := by rw [h25]; exact List.mem_cons_self ..
    have := hP.2.2.2.1 p 25 n (by omega) (by decide) (e ▸ hm) hn25
    omega
  have hCp : dt_up (dt_up C 25 L) p (n :: C p) p = n :: C p := dt_up_s
  have hCq : ∀ q, q < 25 → q ≠ p → dt_up (dt_up C 25 L) p (n :: C p) q = C q := fun q hq hqp => by
    rw [dt_up_n hqp, dt_up_n (by omega)]
  have hdv : dt_n (upd ky n (nI k)) n = k := dt_n_us (by omega)
  have hfr : ∀ q, q < 25 → ∀ m, m ∈ C q → upd kd n kind m = kd m ∧ upd ky n (nI k) m = ky m ∧ upd nv n val m = nv m := fun q hq m hm => ⟨pk_un (hne q hq m hm), pk_un (hne q hq m hm), pk_un (hne q hq m hm)⟩
  refine ⟨⟨?_, ⟨?_, ?_, ?_⟩, hpar, ?_, ?_, hxn, ?_, ?_⟩, hCp, hCq⟩
  · have hpush := dt_pool_push (t := p) (H' := dt_hd (upd ch p (nI n)) xc (od n)) hP (by omega) h25 ?_ ?_ rfl
    · rw [dt_hd_p hp] at hpush
      exact hpush
    · intro q hq hqp
      by_cases e : q = 24
      · rw [e]; rfl
      · rw [dt_hd_p (by omega), dt_hd_p (by omega), pk_un hqp]
    · rw [dt_hd_p hp, pk_us]
  · intro q hq'
    by_cases e : q = p
    · rw [e, hCp, pk_us, List.length_cons]
      refine ⟨?_, by omega⟩
      rw [(hlen.1 p hp).1, nI_1]
    · rw [hCq q (by omega) e, pk_un e]
      exact hlen.1 q hq'
  · rw [hCq 24 (by omega) (by omega)]; exact hlen.2.1
  · rw [hCq 24 (by omega) (by omega)]; exact hlen.2.2
  · intro q hq' uq
    by_cases e : q = p
    · subst e
      obtain ⟨b, c, hc, hbc, hg, hck, hpm⟩ := hpg q hq' uq
      refine ⟨b, c, hc, hbc, hg, ?_, ?_⟩
      · rw [hCp]
        refine And.intro (by rw [hdv, pk_us]) (Or.inl ⟨by rw [pk_us]; exact hk2, by rw [hdv]; exact f1, by rw [hdv]; exact f2, ?_⟩)
        refine dt_cok_congr id id ?_ hck
        intro m hm
        refine ⟨(hfr q (by omega) m hm).1, (hfr q (by omega) m hm).2.1, ?_⟩
        rw [(hfr q (by omega) m hm).2.2]
        exact id
      · rw [hCp, dt_pm, dt_pm_congr (hfr q (by omega)), hpm, dt_ap, pk_us, pk_us, hdv, if_neg hk2]
        funext k'
        by_cases e : k = k'
        · subst e
          rw [dt_set_s, dt_rs_t f1 f2, dt_set_s]
        · rw [dt_set_n e]
          by_cases e2 : fk q ≤ k' ∧ k' < en q
          · rw [dt_rs_t e2.1 e2.2, dt_rs_t e2.1 e2.2, dt_set_n e]
          · rw [dt_rs_f e2, dt_rs_f e2]
    · refine dt_pg_frame (hpg q hq' uq) (hCq q (by omega) e) rfl rfl ?_ (fun r _ ur => ⟨ur, rfl⟩) rfl rfl (fun _ _ => rfl) (fun _ _ => rfl) (hfr q (by omega))
      intro k' h1 h2
      refine dt_set_n (fun e3 => e ?_)
      exact dt_par_uniq hpar hq' hp uq up (k := k') h1 h2 (by omega) (by omega)
  · intro q hq' uq
    by_cases e : q = p
    · rw [e] at uq; exact absurd uq up
    · rw [hCq q (by omega) e]; exact hun q hq' uq
  · rw [hCq 24 (by omega) (by omega)]
    exact dt_ix_congr hix (fun m hm => (hfr 24 (by omega) m hm).2)
  · intro q hq' uq
    rw [hCq 24 (by omega) (by omega)]
    rcases hrc q hq' uq with h | ⟨r, hr, ur, m, hm, e1, e2⟩
    · exact Or.inl (dt_kn_congr (fun m hm => (hfr 24 (by omega) m hm).2.2) h)
    · refine Or.inr ⟨r, hr, ur, m, ?_, ?_, ?_⟩
      · by_cases e : r = p
        · rw [e, hCp]; rw [e] at hm; exact List.mem_cons_of_mem _ hm
        · rw [hCq r (by omega) e]; exact hm
      · rw [(hfr r (by omega) m hm).1]; exact e1
      · rw [(hfr r (by omega) m hm).2.2]; exact e2
/-- page p written anew without a division -/
theorem dt_rw_small {C' : Nat → List Nat} {p g : Nat} (I : dt_XI C fk en M mx fn xc xl xn us ch cl bc bk bv be kd ky nv od ik ip) (hC' : C' = dt_up (dt_up C 25 ((C p).reverse ++ C 25)) p []) (hp : p < 24) (up : us p ≠ 0) (hkn : ∀ q, q < 24 → (∃ n, n ∈ C p ∧ kd n = 2 ∧ nv n = nI q) → dt_kn (C 24) nv mx ip q) (G : dt_gat (dt_rs M (fk p) (en p)) g gk gv) (hg : g ≤ 8) : dt_XI C' fk en M mx (dt_ff (C p) fn) xc xl xn us (upd ch p (-1)) (upd cl p 0) (upd bc p (nI g)) (dt_wr bk (12 * p) (fun j => gk (0 + j)) g) (dt_wr bv (12 * p) (fun j => gv (0 + j)) g) (upd be p (nI (en p))) kd ky nv (dt_fo (C p) od fn) ik ip ∧ C' p = [] ∧ (∀ q, q < 25 → q ≠ p → C' q = C q) := by
  subst hC'
  obtain ⟨hP, hlen, hpar, hpg, hun, hxn, hix, hrc⟩ := I
  have hCp : dt_up (dt_up C 25 ((C p).reverse ++ C 25)) p [] p = [] := dt_up_s
  have hCq : ∀ q, q < 25 → q ≠ p → dt_up (dt_up C 25 ((C p).reverse ++ C 25)) p [] q = C q := fun q hq hqp => by
    rw [dt_up_n hqp, dt_up_n (by omega)]
  refine ⟨⟨?_, ⟨?_, ?_, ?_⟩, hpar, ?_, ?_, hxn, ?_, ?_⟩, hCp, hCq⟩
  · refine dt_pool_free (t := p) (H' := dt_hd (upd ch p (-1)) xc (dt_ff (C p) fn)) hP (by omega) ?_ ?_ rfl
    · intro q hq hqp
      by_cases e : q = 24
      · rw [e]; rfl
      · rw [dt_hd_p (by omega), dt_hd_p (by omega), pk_un hqp]
    · rw [dt_hd_p hp, pk_us]
  · intro q hq'
    by_cases e : q = p
    · rw [e, hCp, pk_us]
      exact ⟨rfl, by decide⟩
    · rw [hCq q (by omega) e, pk_un e]
      exact hlen.1 q hq'
  · rw [hCq 24 (by omega) (by omega)]; exact hlen.2.1
  · rw [hCq 24 (by omega) (by omega)]; exact hlen.2.2
  · intro q hq' uq
    by_cases e : q = p
    · subst e
      refine ⟨dt_rs M (fk q) (en q), g, by omega, pk_us, ?_, ?_, ?_⟩
      · refine dt_gat_congr G (fun j hj => ?_) (fun j hj => ?_)
        · rw [dt_wr_in hj, Nat.zero_add]
        · rw [dt_wr_in hj, Nat.zero_add]
      · rw [hCp]
        exact And.intro pk_us hg
      · rw [hCp]; rfl
    · refine dt_pg_frame (hpg q hq' uq) (hCq q (by omega) e) rfl rfl (fun _ _ _ => rfl) (fun r _ ur => ⟨ur, rfl⟩) (pk_un e) (pk_un e) (fun j hj => dt_wr_out (by omega)) (fun j hj => dt_wr_out (by omega)) (fun m hm => ⟨rfl, rfl, rfl⟩)
  · intro q hq' uq
    by_cases e : q = p
    · rw [e] at uq; exact absurd uq up
    · rw [hCq q (by omega) e]; exact hun q hq' uq
  · rw [hCq 24 (by omega) (by omega)]; exact hix
  · intro q hq' uq
    rw [hCq 24 (by omega) (by omega)]
    rcases hrc q hq' uq with h | ⟨r, hr, ur, m, hm, e1, e2⟩
    · exact Or.inl h
    · by_cases e : r = p
      · rw [e] at hm
        exact Or.inl (hkn q hq' ⟨m, hm, e1, e2⟩)
      · exact Or.inr ⟨r, hr, ur, m, by rw [hCq r (by omega) e]; exact hm, e1, e2⟩
end
end
section
section
variable {ne fn xc xl xn gn ge sn ye yw : Int32} {us ch cl bc bk bv be kd ky nv od ik ip gk gv gs ak av so sk sv yh yv yp yk yn hb vb : Nat → Int32}
variable {C : Nat → List Nat} {fk en : Nat → Nat} {M : Nat → Option Int32} {mx : Nat}
theorem dt_par_split {fk' en' : Nat → Nat} {us' : Nat → Int32} {p w kh : Nat} (hpar : dt_par us fk en) (hp : p < 24) (up : us p ≠ 0) (hw : w < 24) (uw : us w = 0) (h1 : fk p < kh) (h2 : kh < en p) (hus : us' = upd us w 1) (hfk : fk' = dt_up fk w kh) (hen : en' = dt_up (dt_up en w (en p)) p kh) : dt_par us' fk' en' := by
  subst hus hfk hen
  have hpw : p ≠ w := fun e => up (e ▸ uw)
  have fw : dt_up fk w kh w = kh := dt_up_s
  have fr : ∀ r, r ≠ w → dt_up fk w kh r = fk r := fun r hr => dt_up_n hr
  have ep : dt_up (dt_up en w (en p)) p kh p = kh := dt_up_s
  have ew : dt_up (dt_up en w (en p)) p kh w = en p := by rw [dt_up_n (fun e => hpw e.symm), dt_up_s]
  have er : ∀ r, r ≠ p → r ≠ w → dt_up (dt_up en w (en p)) p kh r = en r := fun r h1 h2 => by rw [dt_up_n h1, dt_up_n h2]
  have ur : ∀ r, r ≠ w → upd us w 1 r = us r := fun r hr => pk_un hr
  have hpp := hpar.1 p hp up
  refine ⟨?_, ?_, ?_⟩
  · intro r hr u
    by_cases e : r = w
    · rw [e, fw, ew]; omega
    · rw [ur r e] at u
      by_cases e2 : r = p
      · rw [e2, fr p hpw, ep]; omega
      · rw [fr r e, er r e2 e]
        exact hpar.1 r hr u
  · intro k hk
    obtain ⟨r, hr, u, h3, h4⟩ := hpar.2.1 k hk
    have e : r ≠ w := fun e => u (e ▸ uw)
    by_cases e2 : r = p
    · subst e2
      by_cases h : k < kh
      · exact ⟨r, hr, by rw [ur r e]; exact u, by rw [fr r e]; exact h3, by rw [ep]; exact h⟩
      · exact ⟨w, hw, by rw [pk_us]; decide, by rw [fw]; omega, by rw [ew]; exact h4⟩
    · exact ⟨r, hr, by rw [ur r e]; exact u, by rw [fr r e]; exact h3, by rw [er r e2 e]; exact h4⟩
  · intro a b ha hb ua ub hab
    have key : ∀ a b, a < 24 → b < 24 → a ≠ b → a ≠ w → us a ≠ 0 → upd us w 1 b ≠ 0 → dt_up (dt_up en w (en p)) p kh a ≤ dt_up fk w kh b ∨ dt_up (dt_up en w (en p)) p kh b ≤ dt_up fk w kh a := by
      intro a b ha hb hab haw ua ub
      rw [fr a haw]
      by_cases e : b = w
      · rw [e, fw, ew]
        by_cases e2 : a = p
        · rw [e2, ep]; omega
        · rw [er a e2 haw]
          have := hpar.2.2 a p ha hp ua up e2
          omega
      · rw [ur b e] at ub
        rw [fr b e]
        have := hpar.2.2 a b ha hb ua ub hab
        by_cases e2 : a = p
        · subst e2
          rw [ep, er b (fun e => hab e.symm) e]
          omega
        · rw [er a e2 haw]
          by_cases e3 : b = p
          · subst e3
            rw [ep]; omega
          · rw [er b e3 e]; omega
    by_cases e : a = w
    · have e2 : b ≠ w := fun e2 => hab (e.trans e2.symm)
      rw [ur b e2] at ub
      exact (key b a hb ha (fun e => hab e.symm) e2 ub ua).symm
    · rw [ur a e] at ua
      exact key a b ha hb hab e ua ub
/-- page p written anew and divided; w is the new page -/
theorem dt_rw_big {C1 C' : Nat → List Nat} {p w n g : Nat} {L : List Nat} (I : dt_XI C fk en M mx fn xc xl xn us ch cl bc bk bv be kd ky nv od ik ip) (hC1 : C1 = dt_up (dt_up C 25 ((C p).reverse ++ C 25)) p []) (h25 : C1 25 = n :: L) (hC' : C' = dt_up (dt_up C1 25 L) p (n :: C1 p)) (hp : p < 24) (up : us p ≠ 0) (hw : w < 24) (uw : us w = 0) (hkn : ∀ q, q < 24 → (∃ n, n ∈ C p ∧ kd n = 2 ∧ nv n = nI q) → dt_kn (C 24) nv mx ip q) (G : dt_gat (dt_rs M (fk p) (en p)) g gk gv) (hg8 : 8 < g) (hg : g ≤ 13) :
    dt_XI C' (dt_up fk w (dt_n gk (g / 2))) (dt_up (dt_up en w (en p)) p (dt_n gk (g / 2))) M mx (dt_fo (C p) od fn n) xc xl xn (upd us w 1) (upd (upd (upd ch p (-1)) w (-1)) p (nI n)) (upd (upd (upd cl p 0) w 0) p 1) (upd (upd bc p (nI (min (g - 0) 12))) w (nI (min (g - g / 2) 12))) (dt_wr (dt_wr bk (12 * p) (fun j => gk (0 + j)) (min (g - 0) 12)) (12 * w) (fun j => gk (g / 2 + j)) (min (g - g / 2) 12)) (dt_wr (dt_wr bv (12 * p) (fun j => gv (0 + j)) (min (g - 0) 12)) (12 * w) (fun j => gv (g / 2 + j)) (min (g - g / 2) 12)) (upd (upd be p (nI (en p))) w (nI (en p))) (upd kd n 2) (upd ky n (gk (g / 2))) (upd nv n (nI w)) (upd (dt_fo (C p) od fn) n (-1)) ik ip ∧ C' p = [n] ∧ (∀ q, q < 25 → q ≠ p → C' q = C q) := by
  obtain ⟨hP, hlen, hpar, hpg, hun, hxn, hix, hrc⟩ := I
  have hpw : p ≠ w := fun e => up (e ▸ uw)
  have hCw : C w = [] := hun w hw uw
  have hchw : ch w = -1 := by
    have := hP.1 w (by omega)
    rw [hCw, dt_hd_p hw] at this
    exact this
  have hpp := hpar.1 p hp up
  -- the key of the division
  have hhalf : g / 2 < g ∧ 1 ≤ g / 2 ∧ g / 2 ≤ 6 := by omega
  have gh := G.1 (g / 2) hhalf.1
  have ghs := dt_rs_some gh.2.2
  have g0 := dt_rs_some (G.1 0 (by omega)).2.2
  have g01 := G.2.1 0 (g / 2) (by omega) hhalf.1
  have hG2 := G.2.1
  generalize hhf : g / 2 = hf at *
  generalize hkh : dt_n gk hf = kh at *
  have k1 : fk p < kh := by omega
  have k2 : kh < en p := ghs.2.2
  -- the pool
  have pool1 : dt_pool C1 (dt_hd (upd (upd ch p (-1)) w (-1)) xc (dt_ff (C p) fn)) (dt_fo (C p) od fn) := by
    rw [hC1]
    refine dt_pool_free (t := p) hP (by omega) ?_ ?_ rfl
    · intro q hq hqp
      by_cases e : q = 24
      · rw [e]; rfl
      · rw [dt_hd_p (by omega), dt_hd_p (by omega)]
        by_cases e2 : q = w
        · rw [e2, pk_us, hchw]
        · rw [pk_un e2, pk_un hqp]
    · rw [dt_hd_p hp, pk_un hpw, pk_us]
  have C1p : C1 p = [] := by rw [hC1]; exact dt_up_s
  have C1q : ∀ q, q < 25 → q ≠ p → C1 q = C q := fun q hq hqp => by
    rw [hC1, dt_up_n hqp, dt_up_n (by omega)]
  have hne : ∀ q, q < 25 → q ≠ p → ∀ m, m ∈ C q → m ≠ n := fun q hq hqp m hm e => by
    have hn25 : n ∈ C1 25 := by rw [h25]; exact List.mem_cons_self ..
    rw [← C1q q hq hqp] at hm
    have := pool1.2.2.2.1 q 25 n (by omega) (by decide) (e ▸ hm) hn25
    omega
  have pool2 : dt_pool C' (dt_hd (upd (upd (upd ch p (-1)) w (-1)) p (nI n)) xc (dt_fo (C p) od fn n)) (upd (dt_fo (C p) od fn) n (-1)) := by
    rw [hC']
    have := dt_pool_push (t := p) (H' := dt_hd (upd (upd (upd ch p (-1)) w (-1)) p (nI n)) xc (dt_fo (C p) od fn n)) pool1 (by omega) h25 ?_ ?_ rfl
    · rw [dt_hd_p hp, pk_un hpw, pk_us] at this
      exact this
    · intro q hq hqp
      by_cases e : q = 24
      · rw [e]; rfl
      · rw [dt_hd_p (by omega), dt_hd_p (by omega), pk_un hqp]
    · rw [dt_hd_p hp, pk_us]
  have hCp : C' p = [n] := by rw [hC', dt_up_s, C1p]
  have hCq : ∀ q, q < 25 → q ≠ p → C' q = C q := fun q hq hqp => by
    rw [hC', dt_up_n hqp, dt_up_n (by omega)]; exact C1q q hq hqp
  have hfr : ∀ q, q < 25 → q ≠ p → ∀ m, m ∈ C q → upd kd n 2 m = kd m ∧ upd ky n (gk hf) m = ky m ∧ upd nv n (nI w) m = nv m := fun q hq hqp m hm => ⟨pk_un (hne q hq hqp m hm), pk_un (hne q hq hqp m hm), pk_un (hne q hq hqp m hm)⟩
  have hu : ∀ q, q < 24 → us q ≠ 0 → upd us w 1 q ≠ 0 ∧ dt_up fk w kh q = fk q := fun q hq uq => by
    have e : q ≠ w := fun e => uq (e ▸ uw)
    rw [pk_un e, dt_up_n e]
    exact ⟨uq, rfl⟩
  have uw1 : upd us w 1 w ≠ 0 := by rw [pk_us]; decide
  have fw : dt_up fk w kh w = kh := dt_up_s
  have fp : dt_up fk w kh p = fk p := dt_up_n hpw
  have ep : dt_up (dt_up en w (en p)) p kh p = kh := dt_up_s
  have ew : dt_up (dt_up en w (en p)) p kh w = en p := by rw [dt_up_n (fun e => hpw e.symm), dt_up_s]
  have hky : upd ky n (gk hf) n = nI kh := by rw [pk_us]; exact gh.1
  have hdk : dt_n (upd ky n (gk hf)) n = kh := dt_n_of hky (by omega)
  have hbkp : ∀ j, j < min (g - 0) 12 → dt_wr (dt_wr bk (12 * p) (fun j => gk (0 + j)) (min (g - 0) 12)) (12 * w) (fun j => gk (hf + j)) (min (g - hf) 12) (12 * p + j) = gk j := fun j hj => by
    rw [dt_wr_out (by omega), dt_wr_in hj, Nat.zero_add]
  have hbvp : ∀ j, j < min (g - 0) 12 → dt_wr (dt_wr bv (12 * p) (fun j => gv (0 + j)) (min (g - 0) 12)) (12 * w) (fun j => gv (hf + j)) (min (g - hf) 12) (12 * p + j) = gv j := fun j hj => by
    rw [dt_wr_out (by omega), dt_wr_in hj, Nat.zero_add]
  refine ⟨⟨pool2, ⟨?_, ?_, ?_⟩, dt_par_split hpar hp up hw uw k1 k2 rfl rfl rfl, ?_, ?_, hxn, ?_, ?_⟩, hCp, hCq⟩
  · intro q hq'
    by_cases e : q = p
    · rw [e, hCp, pk_us]
      exact ⟨rfl, by simp⟩
    · rw [hCq q (by omega) e, pk_un e]
      by_cases e2 : q = w
      · rw [e2, pk_us, hCw]
        exact ⟨rfl, by decide⟩
      · rw [pk_un e2, pk_un e]
        exact hlen.1 q hq'
  · rw [hCq 24 (by omega) (by omega)]; exact hlen.2.1
  · rw [hCq 24 (by omega) (by omega)]; exact hlen.2.2
  · intro q hq' uq
    by_cases e : q = p
    · subst e
      -- the lower half
      have hcut := dt_gat_cut (n' := min (g - 0) 12) (key := if g ≤ 12 then 4096 else dt_n gk 12) G (by omega) ?_ ?_
      · refine ⟨_, min (g - 0) 12, by omega, by rw [pk_un hpw, pk_us], dt_gat_congr hcut hbkp hbvp, ?_, ?_⟩
        · rw [hCp, fp, ep]
          refine And.intro (by rw [hdk]; exact hky) (Or.inr ⟨pk_us, rfl, hdk, ⟨w, hw, uw1, pk_us, fw⟩, hf, by omega, fun j h1 h2 => ?_⟩)
          rw [dt_n_eq (hbkp j h2)]
          by_cases e : j = hf
          · rw [e]; omega
          · have := hG2 hf j (by omega) (by omega)
            omega
        · rw [hCp, fp, ep, dt_pm, dt_pm, dt_ap, if_pos pk_us, hdk]
          funext k
          by_cases e : fk q ≤ k ∧ k < kh
          · rw [dt_rs_t e.1 e.2, dt_lt_t e.2, dt_lt_t ?_, dt_rs_t e.1 (by omega)]
            by_cases e12 : g ≤ 12
            · rw [if_pos e12]; omega
            · rw [if_neg e12]
              have := hG2 hf 12 (by omega) (by omega)
              omega
          · rw [dt_rs_f e]
            by_cases e2 : k < kh
            · rw [dt_lt_t e2]
              by_cases e3 : k < (if g ≤ 12 then 4096 else dt_n gk 12)
              · rw [dt_lt_t e3, dt_rs_f (by omega)]
              · rw [dt_lt_f e3]
            · rw [dt_lt_f e2]
      · intro j hj
        by_cases e12 : g ≤ 12
        · rw [if_pos e12]
          exact (G.1 j (by omega)).2.1
        · rw [if_neg e12]
          exact hG2 j 12 (by omega) (by omega)
      · intro j h1 h2
        have e12 : ¬ g ≤ 12 := by omega
        rw [if_neg e12, show j = 12 by omega]
        exact Nat.le_refl _
    · by_cases e2 : q = w
      · subst e2
        -- the upper half
        have hsub := dt_gat_sub (a := hf) (b := g) (lo := kh) (hi := en p) G (by omega) (Nat.le_refl _) ?_ ?_
        · refine ⟨dt_rs M kh (en p), min (g - hf) 12, by omega, pk_us, ?_, ?_, ?_⟩
          · rw [show g - hf = min (g - hf) 12 by omega] at hsub
            refine dt_gat_congr (dt_gat_map hsub ?_) (fun j hj => dt_wr_in hj) (fun j hj => dt_wr_in hj)
            intro k
            by_cases e : kh ≤ k ∧ k < en p
            · rw [dt_rs_t e.1 e.2, dt_rs_t e.1 e.2, dt_rs_t (by omega) (by omega)]
            · rw [dt_rs_f e, dt_rs_f e]
          · rw [hCq q (by omega) e, hCw, ew]
            exact And.intro pk_us (by omega)
          · rw [hCq q (by omega) e, hCw, fw, ew]; rfl
        · intro j hj
          constructor
          · intro hle
            apply Nat.le_of_not_lt
            intro hc
            have := hG2 j hf hc (by omega)
            omega
          · intro hle
            by_cases e3 : hf = j
            · rw [← e3]; omega
            · have := hG2 hf j (by omega) hj
              omega
        · intro j hj
          have := (dt_rs_some (G.1 j hj).2.2).2.2
          omega
      · rw [pk_un e2] at uq
        refine dt_pg_frame (hpg q hq' uq) (hCq q (by omega) e) (dt_up_n e2) (by rw [dt_up_n e, dt_up_n e2]) (fun _ _ _ => rfl) hu (by rw [pk_un e2, pk_un e]) (by rw [pk_un e2, pk_un e]) (fun j hj => ?_) (fun j hj => ?_) (hfr q (by omega) e)
        · rw [dt_wr_out (by omega), dt_wr_out (by omega)]
        · rw [dt_wr_out (by omega), dt_wr_out (by omega)]
  · intro q hq' uq
    have e2 : q ≠ w := fun e => uw1 (e ▸ uq)
    rw [pk_un e2] at uq
    have e : q ≠ p := fun e => up (e ▸ uq)
    rw [hCq q (by omega) e]; exact hun q hq' uq
  · rw [hCq 24 (by omega) (by omega)]
    exact dt_ix_frame hix hu (fun m hm => (hfr 24 (by omega) (by omega) m hm).2)
  · intro q hq' uq
    rw [hCq 24 (by omega) (by omega)]
    by_cases e2 : q = w
    · subst e2
      refine Or.inr ⟨p, hp, (hu p hp up).1, n, ?_, pk_us, pk_us⟩
      rw [hCp]; exact List.mem_cons_self ..
    · rw [pk_un e2] at uq
      rcases hrc q hq' uq with h | ⟨r, hr, ur, m, hm, e1, e2⟩
      · exact Or.inl (dt_kn_congr (fun m hm => (hfr 24 (by omega) (by omega) m hm).2.2) h)
      · by_cases e : r = p
        · rw [e] at hm
          exact Or.inl (dt_kn_congr (fun m hm => (hfr 24 (by omega) (by omega) m hm).2.2) (hkn q hq' ⟨m, hm, e1, e2⟩))
        · refine Or.inr ⟨r, hr, (hu r hr ur).1, m, by rw [hCq r (by omega) e]; exact hm, ?_, ?_⟩
          · rw [(hfr r (by omega) e m hm).1]; exact e1
          · rw [(hfr r (by omega) e m hm).2.2]; exact e2
end
end
section
section
variable {ne fn xc xl xn gn ge sn ye yw : Int32} {us ch cl bc bk bv be kd ky nv od ik ip gk gv gs ak av so sk sv yh yv yp yk yn hb vb : Nat → Int32}
variable {C : Nat → List Nat} {fk en : Nat → Nat} {M : Nat → Option Int32} {mx : Nat}
theorem xw_rw_54s {post : SX → Prop} {p g : Nat} {z : Int32} (I : dt_XI C fk en M mx fn xc xl xn us ch cl bc bk bv be kd ky nv od ik ip) (hgn : gn = nI g) (hge : ge = nI (en p)) (hp : p < 24) (up : us p ≠ 0) (hq : ∀ q, q < 24 → q ≠ p → (C q).length ≤ 4) (hkn : ∀ q, q < 24 → (∃ n, n ∈ C p ∧ kd n = 2 ∧ nv n = nI q) → dt_kn (C 24) nv mx ip q) (G : dt_gat (dt_rs M (fk p) (en p)) g gk gv) (hg : g ≤ 8)
    (h : ∀ (C' : Nat → List Nat) (fk' en' : Nat → Nat) (mx' : Nat) (fn' xc' xl' xn' gn' ge' : Int32) (us' ch' cl' bc' bk' bv' be' kd' ky' nv' od' ik' ip' gk' gv' gs' ak' av' : Nat → Int32), dt_XI C' fk' en' M mx' fn' xc' xl' xn' us' ch' cl' bc' bk' bv' be' kd' ky' nv' od' ik' ip' → dt_q4 C' → post (ne, fn', xc', xl', xn', gn', ge', sn, us', ch', cl', bc', bk', bv', be', kd', ky', nv', od', ik', ip', gk', gv', gs', ak', av', so, sk, sv)) : wX_rewrite_54 post (nI p) z ne fn xc xl xn gn ge sn us ch cl bc bk bv be kd ky nv od ik ip gk gv gs ak av so sk sv := by
  subst hgn hge
  have v1 : vp_in (nI p) 24 := vp_in_nI hp (by decide)
  have c1 : (nI p).toNatClampNeg = p := nI_clamp (by omega)
  have hl := (I.2.1.1 p hp).2
  have hch := I.1.1 p (by omega)
  rw [dt_hd_p hp] at hch
  refine And.intro v1 ?_
  rw [c1]
  refine xw_freeChain hch (I.1.2.2.1 p (by omega)) (I.1.2.1 p (by omega)) (by omega) ?_
  refine And.intro v1 (nm_e ⟨v1, nm_e ?_⟩)
  refine xw_keepBase (c := g) (f := 0) (t := g) hp (by omega) (by omega) (by omega) ?_
  refine br_t (nI_le (b := 8) hg (by decide)) ?_
  obtain ⟨I', e1, e2⟩ := dt_rw_small I rfl hp up hkn G hg
  refine h _ fk en mx _ _ _ _ _ _ _ _ _ _ _ _ _ _ _ _ _ _ _ _ _ _ _ _ I' ?_
  intro q hq'
  by_cases e : q = p
  · rw [e, e1]; exact Nat.zero_le _
  · rw [e2 q (by omega) e]; exact hq q hq' e
theorem xw_rw_54b {post : SX → Prop} {p w g : Nat} (I : dt_XI C fk en M mx fn xc xl xn us ch cl bc bk bv be kd ky nv od ik ip) (hgn : gn = nI g) (hge : ge = nI (en p)) (hp : p < 24) (up : us p ≠ 0) (hq : ∀ q, q < 24 → q ≠ p → (C q).length ≤ 4) (hkn : ∀ q, q < 24 → (∃ n, n ∈ C p ∧ kd n = 2 ∧ nv n = nI q) → dt_kn (C 24) nv mx ip q) (G : dt_gat (dt_rs M (fk p) (en p)) g gk gv) (hg8 : 8 < g) (hg : g ≤ 13) (hw : w < 24) (uw : us w = 0)
    (h : ∀ (C' : Nat → List Nat) (fk' en' : Nat → Nat) (mx' : Nat) (fn' xc' xl' xn' gn' ge' : Int32) (us' ch' cl' bc' bk' bv' be' kd' ky' nv' od' ik' ip' gk' gv' gs' ak' av' : Nat → Int32), dt_XI C' fk' en' M mx' fn' xc' xl' xn' us' ch' cl' bc' bk' bv' be' kd' ky' nv' od' ik' ip' → dt_q4 C' → post (ne, fn', xc', xl', xn', gn', ge', sn, us', ch', cl', bc', bk', bv', be', kd', ky', nv', od', ik', ip', gk', gv', gs', ak', av', so, sk, sv)) : wX_rewrite_54 post (nI p) (nI w) ne fn xc xl xn gn ge sn us ch cl bc bk bv be kd ky nv od ik ip gk gv gs ak av so sk sv := by
  subst hgn hge
  have v1 : vp_in (nI p) 24 := vp_in_nI hp (by decide)
  have c1 : (nI p).toNatClampNeg = p := nI_clamp (by omega)
  have v2 : vp_in (nI w) 24 := vp_in_nI hw (by decide)
  have c2 : (nI w).toNatClampNeg = w := nI_clamp (by omega)
  have c3 : (nI (g / 2)).toNatClampNeg = g / 2 := nI_clamp (by omega)
  have hl := (I.2.1.1 p hp).2
  have hch := I.1.1 p (by omega)
  rw [dt_hd_p hp] at hch
  -- a free note
  have pool1 : dt_pool (dt_up (dt_up C 25 ((C p).reverse ++ C 25)) p []) (dt_hd (upd ch p (-1)) xc (dt_ff (C p) fn)) (dt_fo (C p) od fn) := by
    refine dt_pool_free (t := p) I.1 (by omega) ?_ ?_ rfl
    · intro q hq hqp
      by_cases e : q = 24
      · rw [e]; rfl
      · rw [dt_hd_p (by omega), dt_hd_p (by omega), pk_un hqp]
    · rw [dt_hd_p hp, pk_us]
  obtain ⟨n, L, h25⟩ := dt_pool_room pool1 (fun r hr => by
    by_cases e : r = p
    · rw [e, dt_up_s]; exact Nat.zero_le _
    · rw [dt_up_n e, dt_up_n (by omega)]
      by_cases e2 : r = 24
      · rw [e2]; have := I.2.1.2.2; omega
      · exact (I.2.1.1 r (by omega)).2)
  have hfc := pool1.1 25 (by decide)
  rw [h25] at hfc
  have hn : n < 160 := pool1.2.2.1 25 (by decide) n (by rw [h25]; exact List.mem_cons_self ..)
  refine And.intro v1 ?_
  rw [c1, c2]
  refine xw_freeChain hch (I.1.2.2.1 p (by omega)) (I.1.2.1 p (by omega)) (by omega) ?_
  refine And.intro v1 (nm_e ⟨v1, nm_e ?_⟩)
  refine xw_keepBase (c := min (g - 0) 12) (f := 0) (t := g) hp (by omega) (by omega) rfl ?_
  refine br_f (nI_ge (a := 8) hg8 (by omega)) ⟨dt_22, nm_r (dt_d2 (by omega)) ⟨v2, nm_r (e' := upd us w 1) (by rw [dt_vb1]) ⟨v2, nm_e ⟨v2, nm_e ?_⟩⟩⟩⟩
  refine xw_keepBase (c := min (g - g / 2) 12) (f := g / 2) (t := g) hw (by omega) (by omega) rfl ?_
  refine And.intro (vp_in_nI (by omega) (by decide)) ?_
  rw [c3]
  refine xw_newNote hn hfc.1 ?_
  refine And.intro v1 (nm_e ⟨v1, nm_e ?_⟩)
  obtain ⟨I', e1, e2⟩ := dt_rw_big I rfl h25 rfl hp up hw uw hkn G hg8 hg
  refine h _ _ _ mx _ _ _ _ _ _ _ _ _ _ _ _ _ _ _ _ _ _ _ _ _ _ _ _ I' ?_
  intro q hq'
  by_cases e : q = p
  · rw [e, e1]; simp
  · rw [e2 q (by omega) e]; exact hq q hq' e
theorem xw_rw_26 {post : SX → Prop} {p : Nat} (hM : dt_cn (dt_hs M) 4096 ≤ 60) (I : dt_XI C fk en M mx fn xc xl xn us ch cl bc bk bv be kd ky nv od ik ip) (hp : p < 24) (up : us p ≠ 0) (hq : ∀ q, q < 24 → q ≠ p → (C q).length ≤ 4) (hkn : ∀ q, q < 24 → (∃ n, n ∈ C p ∧ kd n = 2 ∧ nv n = nI q) → dt_kn (C 24) nv mx ip q)
    (h : ∀ (C' : Nat → List Nat) (fk' en' : Nat → Nat) (mx' : Nat) (fn' xc' xl' xn' gn' ge' : Int32) (us' ch' cl' bc' bk' bv' be' kd' ky' nv' od' ik' ip' gk' gv' gs' ak' av' : Nat → Int32), dt_XI C' fk' en' M mx' fn' xc' xl' xn' us' ch' cl' bc' bk' bv' be' kd' ky' nv' od' ik' ip' → dt_q4 C' → post (ne, fn', xc', xl', xn', gn', ge', sn, us', ch', cl', bc', bk', bv', be', kd', ky', nv', od', ik', ip', gk', gv', gs', ak', av', so, sk, sv)) : wX_rewrite_26 post (nI p) ne fn xc xl xn gn ge sn us ch cl bc bk bv be kd ky nv od ik ip gk gv gs ak av so sk sv := by
  unfold wX_rewrite_26
  have hl := (I.2.1.1 p hp).2
  refine xw_gather I hp up ?_
  intro g gk' gv' gs' G hg
  refine xw_freePage ?_ ?_
  · intro w hw uw
    refine pk_le g 8 (fun h8 => ?_) (fun h8 => br_t (nI_pos' (by omega)) ?_) rfl rfl (by omega) (by decide)
    · exact xw_rw_54s I rfl rfl hp up hq hkn G h8 (fun C' fk' en' mx' fn' xc' xl' xn' gn' ge' us' ch' cl' bc' bk' bv' be' kd' ky' nv' od' ik' ip' gk' gv' gs' ak' av' => h C' fk' en' mx' fn' xc' xl' xn' gn' ge' us' ch' cl' bc' bk' bv' be' kd' ky' nv' od' ik' ip' gk' gv' gs' ak' av')
    · exact xw_rw_54b I rfl rfl hp up hq hkn G h8 (by omega) hw uw (fun C' fk' en' mx' fn' xc' xl' xn' gn' ge' us' ch' cl' bc' bk' bv' be' kd' ky' nv' od' ik' ip' gk' gv' gs' ak' av' => h C' fk' en' mx' fn' xc' xl' xn' gn' ge' us' ch' cl' bc' bk' bv' be' kd' ky' nv' od' ik' ip' gk' gv' gs' ak' av')
  · intro hall
    refine pk_le g 8 (fun h8 => ?_) (fun h8 => br_f dt_m1n ?_) rfl rfl (by omega) (by decide)
    · exact xw_rw_54s I rfl rfl hp up hq hkn G h8 (fun C' fk' en' mx' fn' xc' xl' xn' gn' ge' us' ch' cl' bc' bk' bv' be' kd' ky' nv' od' ik' ip' gk' gv' gs' ak' av' => h C' fk' en' mx' fn' xc' xl' xn' gn' ge' us' ch' cl' bc' bk' bv' be' kd' ky' nv' od' ik' ip' gk' gv' gs' ak' av')
    · exact xw_makeAnew hM I (fun C' fk' en' mx' fn' xc' xl' xn' gn' ge' us' ch' cl' bc' bk' bv' be' kd' ky' nv' od' ik' ip' gk' gv' gs' ak' av' => h C' fk' en' mx' fn' xc' xl' xn' gn' ge' us' ch' cl' bc' bk' bv' be' kd' ky' nv' od' ik' ip' gk' gv' gs' ak' av')
theorem xw_rewrite {post : SX → Prop} {p : Nat} (hM : dt_cn (dt_hs M) 4096 ≤ 60) (I : dt_XI C fk en M mx fn xc xl xn us ch cl bc bk bv be kd ky nv od ik ip) (hp : p < 24) (up : us p ≠ 0) (hq : ∀ q, q < 24 → q ≠ p → (C q).length ≤ 4)
    (h : ∀ (C' : Nat → List Nat) (fk' en' : Nat → Nat) (mx' : Nat) (fn' xc' xl' xn' gn' ge' : Int32) (us' ch' cl' bc' bk' bv' be' kd' ky' nv' od' ik' ip' gk' gv' gs' ak' av' : Nat → Int32), dt_XI C' fk' en' M mx' fn' xc' xl' xn' us' ch' cl' bc' bk' bv' be' kd' ky' nv' od' ik' ip' → dt_q4 C' → post (ne, fn', xc', xl', xn', gn', ge', sn, us', ch', cl', bc', bk', bv', be', kd', ky', nv', od', ik', ip', gk', gv', gs', ak', av', so, sk, sv)) : wpX_rewrite post (ne, fn, xc, xl, xn, gn, ge, sn, us, ch, cl, bc, bk, bv, be, kd, ky, nv, od, ik, ip, gk, gv, gs, ak, av, so, sk, sv) (nI p) := by
  refine xw_pg_div I hp ?_
  obtain ⟨b, c, _, _, _, hck, _⟩ := I.2.2.2.1 p hp up
  rcases dt_cok_dv hck with g | ⟨m, hm, g1, g2, g3, g4, ⟨q, hq1, uq, e1, e2⟩, _, g7⟩
  · rw [g.1]
    refine br_t dt_m1lt (xw_rw_26 hM I hp up hq ?_ h)
    rintro q _ ⟨n, hn, k2, _⟩
    exact absurd k2 (g.2.1 n hn)
  · rw [g1]
    have hb := I.1.2.2.1 p (by omega) m hm
    have c1 : (nI m).toNatClampNeg = m := nI_clamp (by omega)
    have hi : vp_in (nI m) 160 := vp_in_nI hb (by decide)
    refine br_f (nI_pos (by omega)) ⟨hi, hi, ?_⟩
    rw [c1, g3, e1, ← e2]
    refine xw_noteInIndex I hq1 uq ?_
    intro C' mx' fn' xc' xl' xn' kd' ky' nv' od' ik' ip' I' hC hN hK
    refine xw_rw_26 hM I' hp up (fun r hr hrp => by rw [hC r hr]; exact hq r hr hrp) ?_ (fun C' fk' en' mx' fn' xc' xl' xn' gn' ge' us' ch' cl' bc' bk' bv' be' kd' ky' nv' od' ik' ip' gk' gv' gs' ak' av' => h C' fk' en' mx' fn' xc' xl' xn' gn' ge' us' ch' cl' bc' bk' bv' be' kd' ky' nv' od' ik' ip' gk' gv' gs' ak' av')
    rintro r hr ⟨n, hn, k2, ev⟩
    rw [hC p hp] at hn
    rw [(hN p hp n hn).1] at k2
    rw [(hN p hp n hn).2.2, g7 n hn k2, e1] at ev
    exact (hK r hr).mpr (Or.inr (dt_im ev (by omega) (by omega)).symm)
theorem xw_addNote {post : SX → Prop} {p k : Nat} {kind val : Int32} (hM : dt_cn (dt_hs (dt_set M k (if kind = 0 then some val else none))) 4096 ≤ 60) (I : dt_XI C fk en M mx fn xc xl xn us ch cl bc bk bv be kd ky nv od ik ip) (q4 : dt_q4 C) (hp : p < 24) (up : us p ≠ 0) (f1 : fk p ≤ k) (f2 : k < en p) (hk2 : kind ≠ 2)
    (h : ∀ (C' : Nat → List Nat) (fk' en' : Nat → Nat) (mx' : Nat) (fn' xc' xl' xn' gn' ge' : Int32) (us' ch' cl' bc' bk' bv' be' kd' ky' nv' od' ik' ip' gk' gv' gs' ak' av' : Nat → Int32), dt_XI C' fk' en' (dt_set M k (if kind = 0 then some val else none)) mx' fn' xc' xl' xn' us' ch' cl' bc' bk' bv' be' kd' ky' nv' od' ik' ip' → dt_q4 C' → post (ne, fn', xc', xl', xn', gn', ge', sn, us', ch', cl', bc', bk', bv', be', kd', ky', nv', od', ik', ip', gk', gv', gs', ak', av', so, sk, sv)) : wpX_addNote post (ne, fn, xc, xl, xn, gn, ge, sn, us, ch, cl, bc, bk, bv, be, kd, ky, nv, od, ik, ip, gk, gv, gs, ak, av, so, sk, sv) (nI p) kind (nI k) val := by
  have v1 : vp_in (nI p) 24 := vp_in_nI hp (by decide)
  have c1 : (nI p).toNatClampNeg = p := nI_clamp (by omega)
  have hl := I.2.1
  obtain ⟨f, L, h25⟩ := dt_pool_room I.1 (fun r hr => by
    by_cases e : r = 24
    · rw [e]; have := hl.2.2; omega
    · exact (hl.1 r (by omega)).2)
  have hfc := I.1.1 25 (by decide)
  rw [h25] at hfc
  have hf : f < 160 := I.1.2.2.1 25 (by decide) f (by rw [h25]; exact List.mem_cons_self ..)
  obtain ⟨I', e1, e2⟩ := dt_add (val := val) I h25 rfl hp up (q4 p hp) f1 f2 hk2
  have hq4 := q4 p hp
  refine And.intro v1 ?_
  rw [c1]
  refine xw_newNote hf hfc.1 ?_
  refine And.intro v1 (nm_e ⟨v1, v1, nm_e ⟨v1, ?_⟩⟩)
  have ecl : upd cl p (cl p + 1) p = nI ((C p).length + 1) := by rw [pk_us, (hl.1 p hp).1, nI_1]
  refine pk_le ((C p).length + 1) 4 (fun h4 => ?_) (fun h4 => ?_) ecl rfl (by omega) (by decide)
  · refine h _ fk en mx _ _ _ _ _ _ _ _ _ _ _ _ _ _ _ _ _ _ _ _ _ _ _ _ I' ?_
    intro q hq
    by_cases e : q = p
    · rw [e, e1, List.length_cons]; exact h4
    · rw [e2 q (by omega) e]; exact q4 q hq
  · refine xw_rewrite hM I' hp up ?_ (fun C' fk' en' mx' fn' xc' xl' xn' gn' ge' us' ch' cl' bc' bk' bv' be' kd' ky' nv' od' ik' ip' gk' gv' gs' ak' av' => h C' fk' en' mx' fn' xc' xl' xn' gn' ge' us' ch' cl' bc' bk' bv' be' kd' ky' nv' od' ik' ip' gk' gv' gs' ak' av')
    intro q hq e
    rw [e2 q (by omega) e]; exact q4 q hq
end
end
section
theorem dt_b1 {x : Int32} : ¬ dt_b (some x) = 0 := by
  show ¬ (1 : Int32) = 0
  decide
def dt_cd (M : Nat → Option Int32) : Nat := dt_cn (dt_hs M) 4096
theorem dt_cd_le (M : Nat → Option Int32) : dt_cd M ≤ 4096 := dt_cn_le _ _
theorem dt_cd_add {M : Nat → Option Int32} {k : Nat} {x : Int32} (hk : k < 4096) (h : M k = none) : dt_cd (dt_set M k (some x)) = dt_cd M + 1 := by
  refine dt_cn_set (j := k) (fun i _ hi => ?_) hk (dt_hs_f h) (dt_hs_t dt_set_s)
  rw [dt_hs, dt_hs, dt_set_n (fun e => hi e.symm)]
theorem dt_cd_rem {M : Nat → Option Int32} {k : Nat} {x : Int32} (hk : k < 4096) (h : M k = some x) : dt_cd M = dt_cd (dt_set M k none) + 1 := by
  refine dt_cn_set (j := k) (fun i _ hi => ?_) hk (dt_hs_f dt_set_s) (dt_hs_t h)
  rw [dt_hs, dt_hs, dt_set_n (fun e => hi e.symm)]
theorem dt_cd_same {M : Nat → Option Int32} {k : Nat} {o : Option Int32} (h : (M k).isSome = o.isSome) : dt_cd (dt_set M k o) = dt_cd M := by
  refine dt_cn_congr (fun i _ => ?_)
  by_cases e : k = i
  · subst e
    rw [dt_hs, dt_hs, dt_set_s, h]
  · rw [dt_hs, dt_hs, dt_set_n e]
theorem dt_set_id {M : Nat → Option Int32} {k : Nat} {o : Option Int32} (h : M k = o) : dt_set M k o = M := by
  funext i
  by_cases e : k = i
  · subst e; rw [dt_set_s, h]
  · rw [dt_set_n e]
theorem dt_key (v : Int32) : (∀ k, k < 4096 → v ≠ nI k) ∨ ∃ k, k < 4096 ∧ v = nI k := by
  by_cases h : ∃ k, k < 4096 ∧ v = nI k
  · exact Or.inr h
  · exact Or.inl fun k hk e => h ⟨k, hk, e⟩
section
variable {ne fn xc xl xn gn ge sn ye yw : Int32} {us ch cl bc bk bv be kd ky nv od ik ip gk gv gs ak av so sk sv yh yv yp yk yn hb vb : Nat → Int32}
variable {M : Nat → Option Int32}
/-- the component holds the map M -/
def dt_X (M : Nat → Option Int32) (ne fn xc xl xn : Int32) (us ch cl bc bk bv be kd ky nv od ik ip : Nat → Int32) : Prop := (∃ (C : Nat → List Nat) (fk en : Nat → Nat) (mx : Nat), dt_XI C fk en M mx fn xc xl xn us ch cl bc bk bv be kd ky nv od ik ip ∧ dt_q4 C) ∧ ne = nI (dt_cd M) ∧ dt_cd M ≤ 60
theorem xw_key_f {post : Int32 → Prop} {v : Int32} (hv : ∀ k, k < 4096 → v ≠ nI k) (h : post 0) : wpX_isKey post v := xw_isKey (fun _ => h) (fun k hk e => absurd e (hv k hk))
theorem xw_put_54 {post : Int32 → SX → Prop} {C : Nat → List Nat} {fk en : Nat → Nat} {mx : Nat} {p k : Nat} {val z0 r x4 : Int32} (I : dt_XI C fk en M mx fn xc xl xn us ch cl bc bk bv be kd ky nv od ik ip) (q4 : dt_q4 C) (hp : p < 24) (up : us p ≠ 0) (f1 : fk p ≤ k) (f2 : k < en p) (hne : ne + z0 = nI (dt_cd (dt_set M k (some val)))) (hc : dt_cd (dt_set M k (some val)) ≤ 60) (hr : (x4 = 0 ∧ r = 1) ∨ (x4 ≠ 0 ∧ r = 0))
    (h : ∀ (ne' fn' xc' xl' xn' gn' ge' : Int32) (us' ch' cl' bc' bk' bv' be' kd' ky' nv' od' ik' ip' gk' gv' gs' ak' av' : Nat → Int32), dt_X (dt_set M k (some val)) ne' fn' xc' xl' xn' us' ch' cl' bc' bk' bv' be' kd' ky' nv' od' ik' ip' → post r (ne', fn', xc', xl', xn', gn', ge', sn, us', ch', cl', bc', bk', bv', be', kd', ky', nv', od', ik', ip', gk', gv', gs', ak', av', so, sk, sv)) : wX_put_54 post (nI k) val (nI p) x4 z0 ne ne fn xc xl xn gn ge sn us ch cl bc bk bv be kd ky nv od ik ip gk gv gs ak av so sk sv := by
  refine nm_r hne ?_
  refine xw_addNote (kind := 0) (val := val) (k := k) (by rw [if_pos rfl]; exact hc) I q4 hp up f1 f2 (by decide) ?_
  rw [if_pos rfl]
  intro C' fk' en' mx' fn' xc' xl' xn' gn' ge' us' ch' cl' bc' bk' bv' be' kd' ky' nv' od' ik' ip' gk' gv' gs' ak' av' I' q4'
  have X' : dt_X (dt_set M k (some val)) (nI (dt_cd (dt_set M k (some val)))) fn' xc' xl' xn' us' ch' cl' bc' bk' bv' be' kd' ky' nv' od' ik' ip' := ⟨⟨C', fk', en', mx', I', q4'⟩, rfl, hc⟩
  rcases hr with ⟨e, rfl⟩ | ⟨e, rfl⟩
  · exact br_t e (h _ fn' xc' xl' xn' gn' ge' us' ch' cl' bc' bk' bv' be' kd' ky' nv' od' ik' ip' gk' gv' gs' ak' av' X')
  · exact br_f e (h _ fn' xc' xl' xn' gn' ge' us' ch' cl' bc' bk' bv' be' kd' ky' nv' od' ik' ip' gk' gv' gs' ak' av' X')
theorem xw_put {post : Int32 → SX → Prop} {k : Nat} {val : Int32} (X : dt_X M ne fn xc xl xn us ch cl bc bk bv be kd ky nv od ik ip) (hk : k < 4096)
    (h0 : M k = none → dt_cd M = 60 → ∀ (ne' fn' xc' xl' xn' gn' ge' : Int32) (us' ch' cl' bc' bk' bv' be' kd' ky' nv' od' ik' ip' gk' gv' gs' ak' av' : Nat → Int32), dt_X M ne' fn' xc' xl' xn' us' ch' cl' bc' bk' bv' be' kd' ky' nv' od' ik' ip' → post (-1) (ne', fn', xc', xl', xn', gn', ge', sn, us', ch', cl', bc', bk', bv', be', kd', ky', nv', od', ik', ip', gk', gv', gs', ak', av', so, sk, sv))
    (h1 : M k = none → dt_cd M < 60 → ∀ (ne' fn' xc' xl' xn' gn' ge' : Int32) (us' ch' cl' bc' bk' bv' be' kd' ky' nv' od' ik' ip' gk' gv' gs' ak' av' : Nat → Int32), dt_X (dt_set M k (some val)) ne' fn' xc' xl' xn' us' ch' cl' bc' bk' bv' be' kd' ky' nv' od' ik' ip' → post 1 (ne', fn', xc', xl', xn', gn', ge', sn, us', ch', cl', bc', bk', bv', be', kd', ky', nv', od', ik', ip', gk', gv', gs', ak', av', so, sk, sv))
    (h2 : ∀ x, M k = some x → ∀ (ne' fn' xc' xl' xn' gn' ge' : Int32) (us' ch' cl' bc' bk' bv' be' kd' ky' nv' od' ik' ip' gk' gv' gs' ak' av' : Nat → Int32), dt_X (dt_set M k (some val)) ne' fn' xc' xl' xn' us' ch' cl' bc' bk' bv' be' kd' ky' nv' od' ik' ip' → post 0 (ne', fn', xc', xl', xn', gn', ge', sn, us', ch', cl', bc', bk', bv', be', kd', ky', nv', od', ik', ip', gk', gv', gs', ak', av', so, sk, sv)) : wpX_put post (ne, fn, xc, xl, xn, gn, ge, sn, us, ch, cl, bc, bk, bv, be, kd, ky, nv, od, ik, ip, gk, gv, gs, ak, av, so, sk, sv) (nI k) val := by
  obtain ⟨⟨C, fk, en, mx, I, q4⟩, hne, hc⟩ := X
  subst hne
  unfold wpX_put
  dsimp only
  refine xw_isKey_t hk ?_
  refine br_f (by decide) ?_
  refine xw_pageFor hk I ?_
  intro C' mx' fn' xc' xl' xn' kd' ky' nv' od' ik' ip' p I' hC hp up f1 f2 _
  have q4' : dt_q4 C' := fun q hq => by rw [hC q hq]; exact q4 q hq
  refine xw_isIn I' hp up f1 f2 ?_
  cases e : M k with
  | none =>
    refine br_t rfl ?_
    refine pk_lt (dt_cd M) 60 (fun h60 => ?_) (fun h60 => ?_) rfl rfl (by omega) (by decide)
    · have hcd := dt_cd_add (x := val) hk e
      refine br_t rfl ?_
      refine xw_put_54 I' q4' hp up f1 f2 ?_ (by omega) (Or.inl ⟨rfl, rfl⟩) (h1 e h60)
      rw [hcd]; exact nI_1 _
    · exact h0 e (by omega) (nI (dt_cd M)) fn' xc' xl' xn' gn ge us ch cl bc bk bv be kd' ky' nv' od' ik' ip' gk gv gs ak av ⟨⟨C', fk, en, mx', I', q4'⟩, rfl, hc⟩
  | some x =>
    have hcd : dt_cd (dt_set M k (some val)) = dt_cd M := dt_cd_same (by rw [e]; rfl)
    refine br_f dt_b1 (br_f dt_b1 ?_)
    refine xw_put_54 I' q4' hp up f1 f2 ?_ (by omega) (Or.inr ⟨dt_b1, rfl⟩) (h2 x e)
    rw [hcd]; exact Int32.add_zero _
theorem xw_remove {post : Int32 → SX → Prop} {k : Nat} (X : dt_X M ne fn xc xl xn us ch cl bc bk bv be kd ky nv od ik ip) (hk : k < 4096)
    (h0 : M k = none → ∀ (ne' fn' xc' xl' xn' gn' ge' : Int32) (us' ch' cl' bc' bk' bv' be' kd' ky' nv' od' ik' ip' gk' gv' gs' ak' av' : Nat → Int32), dt_X M ne' fn' xc' xl' xn' us' ch' cl' bc' bk' bv' be' kd' ky' nv' od' ik' ip' → post 0 (ne', fn', xc', xl', xn', gn', ge', sn, us', ch', cl', bc', bk', bv', be', kd', ky', nv', od', ik', ip', gk', gv', gs', ak', av', so, sk, sv))
    (h1 : ∀ x, M k = some x → ∀ (ne' fn' xc' xl' xn' gn' ge' : Int32) (us' ch' cl' bc' bk' bv' be' kd' ky' nv' od' ik' ip' gk' gv' gs' ak' av' : Nat → Int32), dt_X (dt_set M k none) ne' fn' xc' xl' xn' us' ch' cl' bc' bk' bv' be' kd' ky' nv' od' ik' ip' → post 1 (ne', fn', xc', xl', xn', gn', ge', sn, us', ch', cl', bc', bk', bv', be', kd', ky', nv', od', ik', ip', gk', gv', gs', ak', av', so, sk, sv)) : wpX_remove post (ne, fn, xc, xl, xn, gn, ge, sn, us, ch, cl, bc, bk, bv, be, kd, ky, nv, od, ik, ip, gk, gv, gs, ak, av, so, sk, sv) (nI k) := by
  obtain ⟨⟨C, fk, en, mx, I, q4⟩, hne, hc⟩ := X
  subst hne
  unfold wpX_remove
  dsimp only
  refine xw_isKey_t hk ?_
  refine br_f (by decide) ?_
  refine xw_pageFor hk I ?_
  intro C' mx' fn' xc' xl' xn' kd' ky' nv' od' ik' ip' p I' hC hp up f1 f2 _
  have q4' : dt_q4 C' := fun q hq => by rw [hC q hq]; exact q4 q hq
  refine xw_isIn I' hp up f1 f2 ?_
  cases e : M k with
  | none =>
    exact br_t rfl (h0 e (nI (dt_cd M)) fn' xc' xl' xn' gn ge us ch cl bc bk bv be kd' ky' nv' od' ik' ip' gk gv gs ak av ⟨⟨C', fk, en, mx', I', q4'⟩, rfl, hc⟩)
  | some x =>
    have hcd := dt_cd_rem hk e
    refine br_f dt_b1 (nm_r (e' := nI (dt_cd (dt_set M k none))) (by rw [hcd]; exact nI_pred _) ?_)
    refine xw_addNote (kind := 1) (val := 0) (k := k) (by rw [if_neg (by decide)]; show dt_cd _ ≤ 60; omega) I' q4' hp up f1 f2 (by decide) ?_
    rw [if_neg (by decide)]
    intro C'' fk' en' mx'' fn'' xc'' xl'' xn'' gn'' ge'' us'' ch'' cl'' bc'' bk'' bv'' be'' kd'' ky'' nv'' od'' ik'' ip'' gk'' gv'' gs'' ak'' av'' I'' q4''
    exact h1 x e _ fn'' xc'' xl'' xn'' gn'' ge'' us'' ch'' cl'' bc'' bk'' bv'' be'' kd'' ky'' nv'' od'' ik'' ip'' gk'' gv'' gs'' ak'' av'' ⟨⟨C'', fk', en', mx'', I'', q4''⟩, rfl, by omega⟩
theorem xw_get {post : Int32 → SX → Prop} {k : Nat} (X : dt_X M ne fn xc xl xn us ch cl bc bk bv be kd ky nv od ik ip) (hk : k < 4096)
    (h : ∀ (ne' fn' xc' xl' xn' gn' ge' : Int32) (us' ch' cl' bc' bk' bv' be' kd' ky' nv' od' ik' ip' gk' gv' gs' ak' av' : Nat → Int32), dt_X M ne' fn' xc' xl' xn' us' ch' cl' bc' bk' bv' be' kd' ky' nv' od' ik' ip' → post ((M k).getD 0) (ne', fn', xc', xl', xn', gn', ge', sn, us', ch', cl', bc', bk', bv', be', kd', ky', nv', od', ik', ip', gk', gv', gs', ak', av', so, sk, sv)) : wpX_get post (ne, fn, xc, xl, xn, gn, ge, sn, us, ch, cl, bc, bk, bv, be, kd, ky, nv, od, ik, ip, gk, gv, gs, ak, av, so, sk, sv) (nI k) := by
  obtain ⟨⟨C, fk, en, mx, I, q4⟩, hne, hc⟩ := X
  subst hne
  unfold wpX_get
  dsimp only
  refine xw_isKey_t hk ?_
  refine br_f (by decide) ?_
  refine xw_pageFor hk I ?_
  intro C' mx' fn' xc' xl' xn' kd' ky' nv' od' ik' ip' p I' hC hp up f1 f2 _
  have q4' : dt_q4 C' := fun q hq => by rw [hC q hq]; exact q4 q hq
  have hE := h (nI (dt_cd M)) fn' xc' xl' xn' gn ge us ch cl bc bk bv be kd' ky' nv' od' ik' ip' gk gv gs ak av ⟨⟨C', fk, en, mx', I', q4'⟩, rfl, hc⟩
  refine xw_isIn I' hp up f1 f2 ?_
  cases e : M k with
  | none =>
    rw [e] at hE
    exact br_t rfl hE
  | some x =>
    rw [e] at hE
    exact br_f dt_b1 (xw_valueIn I' hp up f1 f2 e hE)
theorem xw_has {post : Int32 → SX → Prop} {k : Nat} (X : dt_X M ne fn xc xl xn us ch cl bc bk bv be kd ky nv od ik ip) (hk : k < 4096)
    (h : ∀ (ne' fn' xc' xl' xn' gn' ge' : Int32) (us' ch' cl' bc' bk' bv' be' kd' ky' nv' od' ik' ip' gk' gv' gs' ak' av' : Nat → Int32), dt_X M ne' fn' xc' xl' xn' us' ch' cl' bc' bk' bv' be' kd' ky' nv' od' ik' ip' → post (dt_b (M k)) (ne', fn', xc', xl', xn', gn', ge', sn, us', ch', cl', bc', bk', bv', be', kd', ky', nv', od', ik', ip', gk', gv', gs', ak', av', so, sk, sv)) : wpX_has post (ne, fn, xc, xl, xn, gn, ge, sn, us, ch, cl, bc, bk, bv, be, kd, ky, nv, od, ik, ip, gk, gv, gs, ak, av, so, sk, sv) (nI k) := by
  obtain ⟨⟨C, fk, en, mx, I, q4⟩, hne, hc⟩ := X
  subst hne
  unfold wpX_has
  dsimp only
  refine xw_isKey_t hk ?_
  refine br_f (by decide) ?_
  refine xw_pageFor hk I ?_
  intro C' mx' fn' xc' xl' xn' kd' ky' nv' od' ik' ip' p I' hC hp up f1 f2 _
  have q4' : dt_q4 C' := fun q hq => by rw [hC q hq]; exact q4 q hq
  have hE := h (nI (dt_cd M)) fn' xc' xl' xn' gn ge us ch cl bc bk bv be kd' ky' nv' od' ik' ip' gk gv gs ak av ⟨⟨C', fk, en, mx', I', q4'⟩, rfl, hc⟩
  refine xw_isIn I' hp up f1 f2 ?_
  cases e : M k with
  | none =>
    rw [e] at hE
    exact br_t rfl hE
  | some x =>
    rw [e] at hE
    exact br_f dt_b1 hE
theorem xw_swap {post : Int32 → SX → Prop} {k : Nat} {ex val : Int32} (X : dt_X M ne fn xc xl xn us ch cl bc bk bv be kd ky nv od ik ip) (hk : k < 4096)
    (h0 : M k ≠ some ex → ∀ (ne' fn' xc' xl' xn' gn' ge' : Int32) (us' ch' cl' bc' bk' bv' be' kd' ky' nv' od' ik' ip' gk' gv' gs' ak' av' : Nat → Int32), dt_X M ne' fn' xc' xl' xn' us' ch' cl' bc' bk' bv' be' kd' ky' nv' od' ik' ip' → post 0 (ne', fn', xc', xl', xn', gn', ge', sn, us', ch', cl', bc', bk', bv', be', kd', ky', nv', od', ik', ip', gk', gv', gs', ak', av', so, sk, sv))
    (h1 : M k = some ex → ∀ (ne' fn' xc' xl' xn' gn' ge' : Int32) (us' ch' cl' bc' bk' bv' be' kd' ky' nv' od' ik' ip' gk' gv' gs' ak' av' : Nat → Int32), dt_X (dt_set M k (some val)) ne' fn' xc' xl' xn' us' ch' cl' bc' bk' bv' be' kd' ky' nv' od' ik' ip' → post 1 (ne', fn', xc', xl', xn', gn', ge', sn, us', ch', cl', bc', bk', bv', be', kd', ky', nv', od', ik', ip', gk', gv', gs', ak', av', so, sk, sv)) : wpX_swap post (ne, fn, xc, xl, xn, gn, ge, sn, us, ch, cl, bc, bk, bv, be, kd, ky, nv, od, ik, ip, gk, gv, gs, ak, av, so, sk, sv) (nI k) ex val := by
  obtain ⟨⟨C, fk, en, mx, I, q4⟩, hne, hc⟩ := X
  subst hne
  unfold wpX_swap
  dsimp only
  refine xw_isKey_t hk ?_
  refine br_f (by decide) ?_
  refine xw_pageFor hk I ?_
  intro C' mx' fn' xc' xl' xn' kd' ky' nv' od' ik' ip' p I' hC hp up f1 f2 _
  have q4' : dt_q4 C' := fun q hq => by rw [hC q hq]; exact q4 q hq
  have X' : dt_X M (nI (dt_cd M)) fn' xc' xl' xn' us ch cl bc bk bv be kd' ky' nv' od' ik' ip' := ⟨⟨C', fk, en, mx', I', q4'⟩, rfl, hc⟩
  refine xw_isIn I' hp up f1 f2 ?_
  cases e : M k with
  | none =>
    exact br_t rfl (h0 (by rw [e]; simp) (nI (dt_cd M)) fn' xc' xl' xn' gn ge us ch cl bc bk bv be kd' ky' nv' od' ik' ip' gk gv gs ak av X')
  | some x =>
    refine br_f dt_b1 (xw_valueIn I' hp up f1 f2 e ?_)
    by_cases ex2 : x = ex
    · subst ex2
      have hcd : dt_cd (dt_set M k (some val)) = dt_cd M := dt_cd_same (by rw [e]; rfl)
      refine br_t rfl ?_
      refine xw_addNote (kind := 0) (val := val) (k := k) (by rw [if_pos rfl]; show dt_cd _ ≤ 60; omega) I' q4' hp up f1 f2 (by decide) ?_
      rw [if_pos rfl]
      intro C'' fk' en' mx'' fn'' xc'' xl'' xn'' gn'' ge'' us'' ch'' cl'' bc'' bk'' bv'' be'' kd'' ky'' nv'' od'' ik'' ip'' gk'' gv'' gs'' ak'' av'' I'' q4''
      exact h1 e _ fn'' xc'' xl'' xn'' gn'' ge'' us'' ch'' cl'' bc'' bk'' bv'' be'' kd'' ky'' nv'' od'' ik'' ip'' gk'' gv'' gs'' ak'' av'' ⟨⟨C'', fk', en', mx'', I'', q4''⟩, by rw [hcd], by omega⟩
    · exact br_f ex2 (h0 (by rw [e]; exact fun h => ex2 (Option.some.inj h)) (nI (dt_cd M)) fn' xc' xl' xn' gn ge us ch cl bc bk bv be kd' ky' nv' od' ik' ip' gk gv gs ak av X')
theorem xw_tidy {post : SX → Prop} (X : dt_X M ne fn xc xl xn us ch cl bc bk bv be kd ky nv od ik ip)
    (h : ∀ (ne' fn' xc' xl' xn' gn' ge' : Int32) (us' ch' cl' bc' bk' bv' be' kd' ky' nv' od' ik' ip' gk' gv' gs' ak' av' : Nat → Int32), dt_X M ne' fn' xc' xl' xn' us' ch' cl' bc' bk' bv' be' kd' ky' nv' od' ik' ip' → post (ne', fn', xc', xl', xn', gn', ge', sn, us', ch', cl', bc', bk', bv', be', kd', ky', nv', od', ik', ip', gk', gv', gs', ak', av', so, sk, sv)) : wpX_tidy post (ne, fn, xc, xl, xn, gn, ge, sn, us, ch, cl, bc, bk, bv, be, kd, ky, nv, od, ik, ip, gk, gv, gs, ak, av, so, sk, sv) := by
  obtain ⟨⟨C, fk, en, mx, I, q4⟩, hne, hc⟩ := X
  refine xw_makeAnew hc I ?_
  intro C' fk' en' mx' fn' xc' xl' xn' gn' ge' us' ch' cl' bc' bk' bv' be' kd' ky' nv' od' ik' ip' gk' gv' gs' ak' av' I' q4'
  exact h ne fn' xc' xl' xn' gn' ge' us' ch' cl' bc' bk' bv' be' kd' ky' nv' od' ik' ip' gk' gv' gs' ak' av' ⟨⟨C', fk', en', mx', I', q4'⟩, hne, hc⟩
end
end
section
/-- the answer of next, of previous; what count counts -/
def dt_nx (M : Nat → Option Int32) (fr r : Int32) : Prop := (r = -1 ∧ ∀ j, j < 4096 → ¬ nI j < fr → M j = none) ∨ ∃ j, j < 4096 ∧ r = nI j ∧ ¬ nI j < fr ∧ M j ≠ none ∧ ∀ i, i < j → ¬ nI i < fr → M i = none
def dt_pv (M : Nat → Option Int32) (fr r : Int32) : Prop := (r = -1 ∧ ∀ j, j < 4096 → ¬ fr < nI j → M j = none) ∨ ∃ j, j < 4096 ∧ r = nI j ∧ ¬ fr < nI j ∧ M j ≠ none ∧ ∀ i, j < i → i < 4096 → ¬ fr < nI i → M i = none
def dt_ct (M : Nat → Option Int32) (lo hi : Int32) : Nat → Bool := fun k => (M k).isSome && decide (¬ nI k < lo) && decide (¬ hi < nI k)
theorem dt_ct_f0 {M : Nat → Option Int32} {lo hi : Int32} {k : Nat} (h : M k = none) : dt_ct M lo hi k = false := by
  rw [dt_ct, h]; rfl
theorem dt_ct_f1 {M : Nat → Option Int32} {lo hi : Int32} {k : Nat} (h : nI k < lo) : dt_ct M lo hi k = false := by
  rw [dt_ct, decide_eq_false (fun h2 => h2 h), Bool.and_false, Bool.false_and]
theorem dt_ct_f2 {M : Nat → Option Int32} {lo hi : Int32} {k : Nat} (h : hi < nI k) : dt_ct M lo hi k = false := by
  rw [dt_ct, decide_eq_false (p := ¬ hi < nI k) (fun h2 => h2 h), Bool.and_false]
theorem dt_ct_t {M : Nat → Option Int32} {lo hi : Int32} {k : Nat} {x : Int32} (h : M k = some x) (h1 : ¬ nI k < lo) (h2 : ¬ hi < nI k) : dt_ct M lo hi k = true := by
  rw [dt_ct, h, decide_eq_true h1, decide_eq_true h2]; rfl
theorem dt_nx_u {M : Nat → Option Int32} {fr r r' : Int32} (h : dt_nx M fr r) (h' : dt_nx M fr r') : r' = r := by
  rcases h with ⟨e, h⟩ | ⟨j, hj, e, h1, h2, h3⟩
  · rcases h' with ⟨e', _⟩ | ⟨j', hj', e', h1', h2', h3'⟩
    · rw [e, e']
    · exact absurd (h j' hj' h1') h2'
  · rcases h' with ⟨e', h'⟩ | ⟨j', hj', e', h1', h2', h3'⟩
    · exact absurd (h' j hj h1) h2
    · rcases Nat.lt_trichotomy j j' with g | g | g
      · exact absurd (h3' j g h1) h2
      · rw [e, e', g]
      · exact absurd (h3 j' g h1') h2'
theorem dt_pv_u {M : Nat → Option Int32} {fr r r' : Int32} (h : dt_pv M fr r) (h' : dt_pv M fr r') : r' = r := by
  rcases h with ⟨e, h⟩ | ⟨j, hj, e, h1, h2, h3⟩
  · rcases h' with ⟨e', _⟩ | ⟨j', hj', e', h1', h2', h3'⟩
    · rw [e, e']
    · exact absurd (h j' hj' h1') h2'
  · rcases h' with ⟨e', h'⟩ | ⟨j', hj', e', h1', h2', h3'⟩
    · exact absurd (h' j hj h1) h2
    · rcases Nat.lt_trichotomy j j' with g | g | g
      · exact absurd (h3 j' g hj' h1') h2'
      · rw [e, e', g]
      · exact absurd (h3' j g hj h1) h2
def dt_pk : Nat → Int32
  | 0 => -1
  | k + 1 => nI k
theorem dt_pk_s (k : Nat) : nI k - 1 = dt_pk k := by
  cases k with
  | zero => exact dt_0m1
  | succ k => exact nI_pred _
theorem dt_pk_m (k : Nat) : nI k + (-1) = dt_pk k := by
  cases k with
  | zero => decide
  | succ k => exact pk_m1 _
section
variable {ne fn xc xl xn gn ge sn ye yw : Int32} {us ch cl bc bk bv be kd ky nv od ik ip gk gv gs ak av so sk sv yh yv yp yk yn hb vb : Nat → Int32}
variable {fk en : Nat → Nat} {M : Nat → Option Int32}
theorem xw_nx_in {post : Int32 → SX → Prop} {J : Int32 → Int32 → Int32 → Int32 → Int32 → Int32 → Int32 → Int32 → Int32 → Int32 → (Nat → Int32) → (Nat → Int32) → (Nat → Int32) → (Nat → Int32) → (Nat → Int32) → (Nat → Int32) → (Nat → Int32) → (Nat → Int32) → (Nat → Int32) → (Nat → Int32) → (Nat → Int32) → (Nat → Int32) → (Nat → Int32) → (Nat → Int32) → (Nat → Int32) → (Nat → Int32) → (Nat → Int32) → (Nat → Int32) → (Nat → Int32) → (Nat → Int32) → (Nat → Int32) → Prop} {m : Nat → Option Int32} {key st g : Nat} (hgn : gn = nI g) (hg : g ≤ 16) (hk : key < 4096) (G : dt_gat m g gk gv) (h1 : ∀ j, j < g → key ≤ dt_n gk j → (∀ i, i < j → dt_n gk i < key) → post (nI (dt_n gk j)) (ne, fn, xc, xl, xn, gn, ge, sn, us, ch, cl, bc, bk, bv, be, kd, ky, nv, od, ik, ip, gk, gv, gs, ak, av, so, sk, sv)) (h2 : (∀ j, j < g → dt_n gk j < key) → J ge (nI (st + 1)) ne fn xc xl xn gn ge sn us ch cl bc bk bv be kd ky nv od ik ip gk gv gs ak av so sk sv) : ∀ d n i, i + d = g → d < n → (∀ j, j < i → dt_n gk j < key) → wX_next_41 post J (nI key) (nI st) ne fn xc xl xn gn ge sn us ch cl bc bk bv be kd ky nv od ik ip gk gv gs ak av so sk sv n (nI i) := by
  subst hgn
  intro d
  induction d with
  | zero =>
    intro n i hi hn hlo
    obtain ⟨n, rfl⟩ : ∃ k, n = k + 1 := ⟨n - 1, by omega⟩
    obtain rfl : i = g := by omega
    exact br_t (nI_le (by omega) (by omega)) (nm_r (nI_1 st) (h2 hlo))
  | succ d ih =>
    intro n i hi hn hlo
    obtain ⟨n, rfl⟩ : ∃ k, n = k + 1 := ⟨n - 1, by omega⟩
    have v1 : vp_in (nI i) 16 := vp_in_nI (by omega) (by decide)
    have e1 := G.1 i (by omega)
    refine br_f (nI_ge (by omega) (by omega)) ⟨v1, ?_⟩
    rw [nI_clamp (by omega)]
    refine pk_lt (dt_n gk i) key (fun h => nm_r (nI_1 i) (ih n (i + 1) (by omega) (by omega) (fun j hj => ?_))) (fun h => ⟨v1, ?_⟩) e1.1 rfl (by omega) (by omega)
    · by_cases e : j = i
      · rw [e]; exact h
      · exact hlo j (by omega)
    · have := h1 i (by omega) h hlo
      rw [← e1.1] at this
      exact this
theorem xw_nx_loop {post : Int32 → SX → Prop} {fr : Int32} (hne : ne = nI (dt_cd M)) (hc : dt_cd M ≤ 60) (hp : ∀ r (fn' xc' xl' xn' gn' ge' : Int32) (kd' ky' nv' od' ik' ip' gk' gv' gs' : Nat → Int32), dt_X M ne fn' xc' xl' xn' us ch cl bc bk bv be kd' ky' nv' od' ik' ip' → dt_nx M fr r → post r (ne, fn', xc', xl', xn', gn', ge', sn, us, ch, cl, bc, bk, bv, be, kd', ky', nv', od', ik', ip', gk', gv', gs', ak, av, so, sk, sv)) : ∀ d n st key (C : Nat → List Nat) (mx : Nat) (fn xc xl xn gn ge : Int32) (kd ky nv od ik ip gk gv gs : Nat → Int32),
    dt_XI C fk en M mx fn xc xl xn us ch cl bc bk bv be kd ky nv od ik ip → dt_q4 C → key ≤ 4096 → (∀ i, i < key → ¬ nI i < fr → M i = none) → (∀ i, key ≤ i → i < 4096 → ¬ nI i < fr) → dt_cn (fun r => decide (us r ≠ 0 ∧ key < en r)) 24 ≤ d → st + d ≤ 24 → d < n → wX_next_12 post n (nI key) (nI st) ne fn xc xl xn gn ge sn us ch cl bc bk bv be kd ky nv od ik ip gk gv gs ak av so sk sv := by
  intro d
  induction d with
  | zero =>
    intro n st key C mx fn xc xl xn gn ge kd ky nv od ik ip gk gv gs I q4 hk hno hge hcn hst hn
    obtain ⟨n, rfl⟩ : ∃ k, n = k + 1 := ⟨n - 1, by omega⟩
    have hk4 : key = 4096 := by
      apply Nat.le_antisymm hk
      apply Nat.le_of_not_lt
      intro hc
      obtain ⟨p, hp', up, h1, h2⟩ := I.2.2.1.2.1 key hc
      have := dt_cn_upt (f := fun r => decide (us r ≠ 0 ∧ key < en r)) (a := 0) (b := 24) (k := p) (by omega) hp' (by simp only [decide_eq_true_eq]; exact ⟨up, h2⟩)
      omega
    subst hk4
    have hE := hp (-1) fn xc xl xn gn ge kd ky nv od ik ip gk gv gs ⟨⟨C, fk, en, mx, I, q4⟩, hne, hc⟩ (Or.inl ⟨rfl, hno⟩)
    exact br_c (fun _ => hE) (fun _ => br_t (nI_le (a := 4096) (b := 4096) (by omega) (by omega)) hE)
  | succ d ih =>
    intro n st key C mx fn xc xl xn gn ge kd ky nv od ik ip gk gv gs I q4 hk hno hge hcn hst hn
    obtain ⟨n, rfl⟩ : ∃ k, n = k + 1 := ⟨n - 1, by omega⟩
    by_cases hk4 : key = 4096
    · subst hk4
      have hE := hp (-1) fn xc xl xn gn ge kd ky nv od ik ip gk gv gs ⟨⟨C, fk, en, mx, I, q4⟩, hne, hc⟩ (Or.inl ⟨rfl, hno⟩)
      exact br_c (fun _ => hE) (fun _ => br_t (nI_le (a := 4096) (b := 4096) (by omega) (by omega)) hE)
    · refine br_f (nI_ge (b := 24) (by omega) (by decide)) (br_f (nI_ge (b := 4096) (by omega) (by decide)) ?_)
      refine xw_pageFor (by omega) I ?_
      intro C' mx' fn' xc' xl' xn' kd' ky' nv' od' ik' ip' p I' hC hp' up f1 f2 hkn
      have q4' : dt_q4 C' := fun q hq => by rw [hC q hq]; exact q4 q hq
      have hpp := I'.2.2.1.1 p hp' up
      refine xw_gather I' hp' up ?_
      intro g gk' gv' gs' G hg
      have hl := q4' p hp'
      refine ⟨g + 1, ?_⟩
      refine xw_nx_in rfl (by omega) (by omega) G ?_ ?_ g (g + 1) 0 (by omega) (by omega) (fun j hj => by omega)
      · intro j hj h1 h2
        refine hp _ fn' xc' xl' xn' (nI g) (nI (en p)) kd' ky' nv' od' ik' ip' gk' gv' gs' ⟨⟨C', fk, en, mx', I', q4'⟩, hne, hc⟩ (Or.inr ⟨dt_n gk' j, (G.1 j hj).2.1, rfl, hge _ h1 (G.1 j hj).2.1, ?_, ?_⟩)
        · rw [(dt_rs_some (G.1 j hj).2.2).1]; simp
        · intro i hi hfi
          by_cases h3 : i < key
          · exact hno i h3 hfi
          · cases e : M i with
            | none => rfl
            | some x =>
              have h4 := (dt_rs_some (G.1 j hj).2.2).2
              obtain ⟨j', hj', e'⟩ := G.2.2 i x (by rw [dt_rs_t (by omega) (by omega)]; exact e)
              have h5 : ¬ j' < j := fun h => by have := h2 j' h; omega
              by_cases e5 : j' = j
              · rw [e5] at e'; omega
              · have := G.2.1 j j' (by omega) hj'
                omega
      · intro hall
        refine ih n (st + 1) (en p) C' mx' fn' xc' xl' xn' (nI g) (nI (en p)) kd' ky' nv' od' ik' ip' gk' gv' gs' I' q4' (by omega) ?_ (fun i h1 h2 => hge i (by omega) h2) ?_ (by omega) (by omega)
        · intro i hi hfi
          by_cases h3 : i < key
          · exact hno i h3 hfi
          · cases e : M i with
            | none => rfl
            | some x =>
              obtain ⟨j', hj', e'⟩ := G.2.2 i x (by rw [dt_rs_t (by omega) (by omega)]; exact e)
              have := hall j' hj'
              omega
        · have := dt_cn_lt (f := fun r => decide (us r ≠ 0 ∧ en p < en r)) (g := fun r => decide (us r ≠ 0 ∧ key < en r)) (j := p) (n := 24) (fun r hr h => by
            simp only [decide_eq_true_eq] at h ⊢
            exact ⟨h.1, by omega⟩) hp' (by simp) (by simp only [decide_eq_true_eq]; exact ⟨up, by omega⟩)
          omega
theorem xw_next {post : Int32 → SX → Prop} {fr : Int32} (X : dt_X M ne fn xc xl xn us ch cl bc bk bv be kd ky nv od ik ip) (hp : ∀ r (fn' xc' xl' xn' gn' ge' : Int32) (kd' ky' nv' od' ik' ip' gk' gv' gs' : Nat → Int32), dt_X M ne fn' xc' xl' xn' us ch cl bc bk bv be kd' ky' nv' od' ik' ip' → dt_nx M fr r → post r (ne, fn', xc', xl', xn', gn', ge', sn, us, ch, cl, bc, bk, bv, be, kd', ky', nv', od', ik', ip', gk', gv', gs', ak, av, so, sk, sv)) : wpX_next post (ne, fn, xc, xl, xn, gn, ge, sn, us, ch, cl, bc, bk, bv, be, kd, ky, nv, od, ik, ip, gk, gv, gs, ak, av, so, sk, sv) fr := by
  have X' := X
  obtain ⟨⟨C, fk, en, mx, I, q4⟩, hne, hc⟩ := X
  rcases pk_ix fr (n := 4096) (by decide) with h | h | ⟨f, hf, rfl⟩
  · refine br_f (fun h2 => Int32.not_lt.mpr h2 h) ⟨25, ?_⟩
    refine xw_nx_loop hne hc hp 24 25 0 0 C mx fn xc xl xn gn ge kd ky nv od ik ip gk gv gs I q4 (by omega) (fun i hi => by omega) (fun i _ hi h2 => ?_) (dt_cn_le _ 24) (by omega) (by omega)
    exact nI_pos (by omega) (Int32.lt_trans h2 h)
  · have h0 : (0 : Int32) ≤ fr := Int32.le_trans (nI_pos' (n := 4096) (by decide)) h
    refine br_t h0 ⟨1, br_f (nI_ge (a := 0) (b := 24) (by decide) (by decide)) (br_t h ?_)⟩
    refine hp (-1) fn xc xl xn gn ge kd ky nv od ik ip gk gv gs X' (Or.inl ⟨rfl, fun j hj hn => ?_⟩)
    exact absurd (Int32.lt_of_lt_of_le (nI_lt hj (by decide)) h) hn
  · refine br_t (nI_pos' (by omega)) ⟨25, ?_⟩
    refine xw_nx_loop hne hc hp 24 25 0 f C mx fn xc xl xn gn ge kd ky nv od ik ip gk gv gs I q4 (by omega) (fun i hi h2 => ?_) (fun i h1 hi => ?_) (dt_cn_le _ 24) (by omega) (by omega)
    · exact absurd (nI_lt hi (by omega)) h2
    · exact nI_nlt h1 (by omega)
theorem xw_pv_in {post : Int32 → SX → Prop} {J : Int32 → Int32 → Int32 → Int32 → Int32 → Int32 → Int32 → Int32 → Int32 → Int32 → (Nat → Int32) → (Nat → Int32) → (Nat → Int32) → (Nat → Int32) → (Nat → Int32) → (Nat → Int32) → (Nat → Int32) → (Nat → Int32) → (Nat → Int32) → (Nat → Int32) → (Nat → Int32) → (Nat → Int32) → (Nat → Int32) → (Nat → Int32) → (Nat → Int32) → (Nat → Int32) → (Nat → Int32) → (Nat → Int32) → (Nat → Int32) → (Nat → Int32) → (Nat → Int32) → Prop} {C : Nat → List Nat} {mx : Nat} {m : Nat → Option Int32} {key st g p : Nat} (I : dt_XI C fk en M mx fn xc xl xn us ch cl bc bk bv be kd ky nv od ik ip) (hpp : p < 24) (hkn : dt_kn (C 24) nv mx ip p) (hg : g ≤ 16) (hk : key < 4096) (G : dt_gat m g gk gv) (h1 : ∀ j, j < g → dt_n gk j ≤ key → (∀ i, j < i → i < g → key < dt_n gk i) → post (nI (dt_n gk j)) (ne, fn, xc, xl, xn, gn, ge, sn, us, ch, cl, bc, bk, bv, be, kd, ky, nv, od, ik, ip, gk, gv, gs, ak, av, so, sk, sv)) (h2 : (∀ j, j < g → key < dt_n gk j) → J (dt_pk (fk p)) (nI (st + 1)) ne fn xc xl xn gn ge sn us ch cl bc bk bv be kd ky nv od ik ip gk gv gs ak av so sk sv) : ∀ i n, i ≤ g → i < n → (∀ j, i ≤ j → j < g → key < dt_n gk j) → wX_previous_48 post J (nI key) (nI st) (nI p) ne fn xc xl xn gn ge sn us ch cl bc bk bv be kd ky nv od ik ip gk gv gs ak av so sk sv n (dt_pk i) := by
  intro i
  induction i with
  | zero =>
    intro n hi hn hhi
    obtain ⟨n, rfl⟩ : ∃ k, n = k + 1 := ⟨n - 1, by omega⟩
    refine br_t dt_m1lt (xw_firstKeyOf I hpp hkn ?_)
    exact nm_r (dt_pk_s _) (nm_r (nI_1 st) (h2 (fun j hj => hhi j (by omega) hj)))
  | succ i ih =>
    intro n hi hn hhi
    obtain ⟨n, rfl⟩ : ∃ k, n = k + 1 := ⟨n - 1, by omega⟩
    have v1 : vp_in (nI i) 16 := vp_in_nI (by omega) (by decide)
    have e1 := G.1 i (by omega)
    refine br_f (nI_pos (by omega)) ⟨v1, ?_⟩
    have c1 : (dt_pk (i + 1)).toNatClampNeg = i := nI_clamp (by omega)
    rw [c1]
    refine pk_lt key (dt_n gk i) (fun h => nm_r (dt_pk_m i) (ih n (by omega) (by omega) (fun j h3 hj => ?_))) (fun h => ⟨v1, ?_⟩) rfl e1.1 (by omega) (by omega)
    · by_cases e : j = i
      · rw [e]; exact h
      · exact hhi j (by omega) hj
    · have := h1 i (by omega) h (fun j h3 h4 => hhi j (by omega) h4)
      rw [← e1.1] at this
      exact this
theorem xw_pv_loop {post : Int32 → SX → Prop} {fr : Int32} (hne : ne = nI (dt_cd M)) (hc : dt_cd M ≤ 60) (hp : ∀ r (fn' xc' xl' xn' gn' ge' : Int32) (kd' ky' nv' od' ik' ip' gk' gv' gs' : Nat → Int32), dt_X M ne fn' xc' xl' xn' us ch cl bc bk bv be kd' ky' nv' od' ik' ip' → dt_pv M fr r → post r (ne, fn', xc', xl', xn', gn', ge', sn, us, ch, cl, bc, bk, bv, be, kd', ky', nv', od', ik', ip', gk', gv', gs', ak, av, so, sk, sv)) : ∀ d n st K (C : Nat → List Nat) (mx : Nat) (fn xc xl xn gn ge : Int32) (kd ky nv od ik ip gk gv gs : Nat → Int32),
    dt_XI C fk en M mx fn xc xl xn us ch cl bc bk bv be kd ky nv od ik ip → dt_q4 C → K ≤ 4096 → (∀ i, K ≤ i → i < 4096 → ¬ fr < nI i → M i = none) → (∀ i, i < K → ¬ fr < nI i) → dt_cn (fun r => decide (us r ≠ 0 ∧ fk r < K)) 24 ≤ d → st + d ≤ 24 → d < n → wX_previous_17 post n (dt_pk K) (nI st) ne fn xc xl xn gn ge sn us ch cl bc bk bv be kd ky nv od ik ip gk gv gs ak av so sk sv := by
  intro d
  induction d with
  | zero =>
    intro n st K C mx fn xc xl xn gn ge kd ky nv od ik ip gk gv gs I q4 hk hno hge hcn hst hn
    obtain ⟨n, rfl⟩ : ∃ k, n = k + 1 := ⟨n - 1, by omega⟩
    have hk0 : K = 0 := by
      apply Nat.eq_zero_of_not_pos
      intro hc
      obtain ⟨p, hp', up, h1, h2⟩ := I.2.2.1.2.1 (K - 1) (by omega)
      have := dt_cn_upt (f := fun r => decide (us r ≠ 0 ∧ fk r < K)) (a := 0) (b := 24) (k := p) (by omega) hp' (by simp only [decide_eq_true_eq]; exact ⟨up, by omega⟩)
      omega
    subst hk0
    have hE := hp (-1) fn xc xl xn gn ge kd ky nv od ik ip gk gv gs ⟨⟨C, fk, en, mx, I, q4⟩, hne, hc⟩ (Or.inl ⟨rfl, fun j hj => hno j (by omega) hj⟩)
    exact br_c (fun _ => hE) (fun _ => br_t dt_m1lt hE)
  | succ d ih =>
    intro n st K C mx fn xc xl xn gn ge kd ky nv od ik ip gk gv gs I q4 hk hno hge hcn hst hn
    obtain ⟨n, rfl⟩ : ∃ k, n = k + 1 := ⟨n - 1, by omega⟩
    cases K with
    | zero =>
      have hE := hp (-1) fn xc xl xn gn ge kd ky nv od ik ip gk gv gs ⟨⟨C, fk, en, mx, I, q4⟩, hne, hc⟩ (Or.inl ⟨rfl, fun j hj => hno j (by omega) hj⟩)
      exact br_c (fun _ => hE) (fun _ => br_t dt_m1lt hE)
    | succ key =>
      refine br_f (nI_ge (b := 24) (by omega) (by decide)) (br_f (nI_pos (by omega)) ?_)
      refine xw_pageFor (by omega) I ?_
      intro C' mx' fn' xc' xl' xn' kd' ky' nv' od' ik' ip' p I' hC hp' up f1 f2 hkn
      have q4' : dt_q4 C' := fun q hq => by rw [hC q hq]; exact q4 q hq
      have hpp := I'.2.2.1.1 p hp' up
      refine xw_gather I' hp' up ?_
      intro g gk' gv' gs' G hg
      have hl := q4' p hp'
      refine nm_r (dt_pk_s g) ⟨g + 1, ?_⟩
      refine xw_pv_in I' hp' hkn (by omega) (by omega) G ?_ ?_ g (g + 1) (by omega) (by omega) (fun j h1 hj => by omega)
      · intro j hj h1 h2
        refine hp _ fn' xc' xl' xn' (nI g) (nI (en p)) kd' ky' nv' od' ik' ip' gk' gv' gs' ⟨⟨C', fk, en, mx', I', q4'⟩, hne, hc⟩ (Or.inr ⟨dt_n gk' j, (G.1 j hj).2.1, rfl, hge _ (by omega), ?_, ?_⟩)
        · rw [(dt_rs_some (G.1 j hj).2.2).1]; simp
        · intro i hi hi4 hfi
          by_cases h3 : key + 1 ≤ i
          · exact hno i h3 hi4 hfi
          · cases e : M i with
            | none => rfl
            | some x =>
              have h4 := (dt_rs_some (G.1 j hj).2.2).2
              obtain ⟨j', hj', e'⟩ := G.2.2 i x (by rw [dt_rs_t (by omega) (by omega)]; exact e)
              have h5 : ¬ j < j' := fun h => by have := h2 j' h hj'; omega
              by_cases e5 : j' = j
              · rw [e5] at e'; omega
              · have := G.2.1 j' j (by omega) hj
                omega
      · intro hall
        refine ih n (st + 1) (fk p) C' mx' fn' xc' xl' xn' (nI g) (nI (en p)) kd' ky' nv' od' ik' ip' gk' gv' gs' I' q4' (by omega) ?_ (fun i h1 => hge i (by omega)) ?_ (by omega) (by omega)
        · intro i hi hi4 hfi
          by_cases h3 : key + 1 ≤ i
          · exact hno i h3 hi4 hfi
          · cases e : M i with
            | none => rfl
            | some x =>
              obtain ⟨j', hj', e'⟩ := G.2.2 i x (by rw [dt_rs_t (by omega) (by omega)]; exact e)
              have := hall j' hj'
              omega
        · have := dt_cn_lt (f := fun r => decide (us r ≠ 0 ∧ fk r < fk p)) (g := fun r => decide (us r ≠ 0 ∧ fk r < key + 1)) (j := p) (n := 24) (fun r hr h => by
            simp only [decide_eq_true_eq] at h ⊢
            exact ⟨h.1, by omega⟩) hp' (by simp) (by simp only [decide_eq_true_eq]; exact ⟨up, by omega⟩)
          omega
theorem xw_previous {post : Int32 → SX → Prop} {fr : Int32} (X : dt_X M ne fn xc xl xn us ch cl bc bk bv be kd ky nv od ik ip) (hp : ∀ r (fn' xc' xl' xn' gn' ge' : Int32) (kd' ky' nv' od' ik' ip' gk' gv' gs' : Nat → Int32), dt_X M ne fn' xc' xl' xn' us ch cl bc bk bv be kd' ky' nv' od' ik' ip' → dt_pv M fr r → post r (ne, fn', xc', xl', xn', gn', ge', sn, us, ch, cl, bc, bk, bv, be, kd', ky', nv', od', ik', ip', gk', gv', gs', ak, av, so, sk, sv)) : wpX_previous post (ne, fn, xc, xl, xn, gn, ge, sn, us, ch, cl, bc, bk, bv, be, kd, ky, nv, od, ik, ip, gk, gv, gs, ak, av, so, sk, sv) fr := by
  have X' := X
  obtain ⟨⟨C, fk, en, mx, I, q4⟩, hne, hc⟩ := X
  rcases pk_ix fr (n := 4096) (by decide) with h | h | ⟨f, hf, rfl⟩
  · have h4 : fr ≤ 4095 := Int32.le_of_lt (Int32.lt_of_lt_of_le h (by decide))
    refine br_t h4 ⟨1, br_f (nI_ge (a := 0) (b := 24) (by decide) (by decide)) (br_t h ?_)⟩
    refine hp (-1) fn xc xl xn gn ge kd ky nv od ik ip gk gv gs X' (Or.inl ⟨rfl, fun j hj hn => ?_⟩)
    exact absurd (Int32.lt_of_lt_of_le h (nI_pos' (by omega))) hn
  · have h4 : ¬ fr ≤ 4095 := fun h2 => by
      have h3 := Int32.le_trans h h2
      exact nI_ge (a := 4095) (b := 4096) (by decide) (by decide) h3
    refine br_f h4 ⟨25, ?_⟩
    refine xw_pv_loop hne hc hp 24 25 0 4096 C mx fn xc xl xn gn ge kd ky nv od ik ip gk gv gs I q4 (by omega) (fun i h1 hi => by omega) (fun i hi h2 => ?_) (dt_cn_le _ 24) (by omega) (by omega)
    have := Int32.lt_of_lt_of_le (nI_lt hi (by decide)) h
    exact Int32.lt_irrefl (Int32.lt_trans this h2)
  · refine br_t (nI_le (b := 4095) (by omega) (by decide)) ⟨25, ?_⟩
    refine xw_pv_loop hne hc hp 24 25 0 (f + 1) C mx fn xc xl xn gn ge kd ky nv od ik ip gk gv gs I q4 (by omega) (fun i h1 hi h2 => ?_) (fun i hi => nI_nlt (by omega) (by omega)) (dt_cn_le _ 24) (by omega) (by omega)
    exact absurd (nI_lt (by omega) (by omega)) h2
theorem xw_ct_in {post : Int32 → SX → Prop} {J : Int32 → Int32 → Int32 → Int32 → Int32 → Int32 → Int32 → Int32 → Int32 → Int32 → Int32 → (Nat → Int32) → (Nat → Int32) → (Nat → Int32) → (Nat → Int32) → (Nat → Int32) → (Nat → Int32) → (Nat → Int32) → (Nat → Int32) → (Nat → Int32) → (Nat → Int32) → (Nat → Int32) → (Nat → Int32) → (Nat → Int32) → (Nat → Int32) → (Nat → Int32) → (Nat → Int32) → (Nat → Int32) → (Nat → Int32) → (Nat → Int32) → (Nat → Int32) → (Nat → Int32) → Prop} {key st g lo e : Nat} {lw hi : Int32} (hgn : gn = nI g) (hge : ge = nI e) (hg : g ≤ 16) (hk : key < 4096) (hlo : lo ≤ key) (hke : key < e) (he : e ≤ 4096) (G : dt_gat (dt_rs M lo e) g gk gv) (hlw : ∀ i, key ≤ i → i < 4096 → ¬ nI i < lw) (h2 : J (nI (dt_cn (dt_ct M lw hi) e)) (nI e) (nI (st + 1)) ne fn xc xl xn gn ge sn us ch cl bc bk bv be kd ky nv od ik ip gk gv gs ak av so sk sv) : ∀ d n j B, j + d = g → d < n → key ≤ B → B ≤ e → (∀ i, i < j → dt_n gk i < B) → (∀ i, j ≤ i → i < g → B ≤ dt_n gk i ∨ dt_n gk i < key) → wX_count_54 post J hi (nI key) (nI st) ne fn xc xl xn gn ge sn us ch cl bc bk bv be kd ky nv od ik ip gk gv gs ak av so sk sv n (nI (dt_cn (dt_ct M lw hi) B)) (nI j) := by
  subst hgn hge
  have hgap : ∀ B X j, key ≤ B → X ≤ e → (∀ i, i < j → i < g → dt_n gk i < B) → (∀ i, j ≤ i → i < g → X ≤ dt_n gk i ∨ dt_n gk i < key) → ∀ k, B ≤ k → k < X → dt_ct M lw hi k = false := by
    intro B X j hB hX h3 h4 k hk1 hk2
    cases em : M k with
    | none => exact dt_ct_f0 em
    | some x =>
      exfalso
      obtain ⟨i, hi', e'⟩ := G.2.2 k x (by rw [dt_rs_t (by omega) (by omega)]; exact em)
      by_cases hij : i < j
      · have := h3 i hij hi'; omega
      · have := h4 i (by omega) hi'; omega
  intro d
  induction d with
  | zero =>
    intro n j B hj hn hB hBe h3 h4
    obtain ⟨n, rfl⟩ : ∃ k, n = k + 1 := ⟨n - 1, by omega⟩
    obtain rfl : j = g := by omega
    have ec : dt_cn (dt_ct M lw hi) e = dt_cn (dt_ct M lw hi) B := dt_cn_gap hBe (hgap B e j hB (Nat.le_refl _) (fun i h _ => h3 i h) (fun i h5 h6 => by omega))
    rw [← ec]
    exact br_t (nI_le (by omega) (by omega)) (nm_r (nI_1 st) h2)
  | succ d ih =>
    intro n j B hj hn hB hBe h3 h4
    obtain ⟨n, rfl⟩ : ∃ k, n = k + 1 := ⟨n - 1, by omega⟩
    have v1 : vp_in (nI j) 16 := vp_in_nI (by omega) (by decide)
    have e1 := G.1 j (by omega)
    have e2 := dt_rs_some e1.2.2
    refine br_f (nI_ge (by omega) (by omega)) ⟨v1, ?_⟩
    rw [nI_clamp (by omega)]
    refine pk_lt (dt_n gk j) key (fun h => nm_r (Int32.add_zero _) (nm_r (nI_1 j) (ih n (j + 1) B (by omega) (by omega) hB hBe (fun i hi => ?_) (fun i h5 h6 => h4 i (by omega) h6)))) (fun h => ⟨v1, ?_⟩) e1.1 rfl (by omega) (by omega)
    · by_cases e3 : i = j
      · rw [e3]; omega
      · exact h3 i (by omega)
    · have hBj : B ≤ dt_n gk j := by
        rcases h4 j (Nat.le_refl _) (by omega) with h5 | h5
        · exact h5
        · omega
      have ec : dt_cn (dt_ct M lw hi) (dt_n gk j) = dt_cn (dt_ct M lw hi) B := dt_cn_gap hBj (hgap B (dt_n gk j) j hB (by omega) (fun i h _ => h3 i h) (fun i h5 h6 => by
        by_cases e3 : i = j
        · left; rw [e3]; exact Nat.le_refl _
        · left; exact Nat.le_of_lt (G.2.1 j i (by omega) h6)))
      have ih2 := ih n (j + 1) (dt_n gk j + 1) (by omega) (by omega) (by omega) (by omega) (fun i hi => by
        by_cases e3 : i = j
        · rw [e3]; omega
        · have := h3 i (by omega); omega) (fun i h5 h6 => by
        have := G.2.1 j i (by omega) h6
        left; omega)
      rw [e1.1]
      refine br_c (fun hh => nm_r (Int32.add_zero _) (nm_r (nI_1 j) ?_)) (fun hh => nm_r (nI_1 _) (nm_r (nI_1 j) ?_))
      · rw [dt_cn_f (dt_ct_f2 hh), ec] at ih2
        exact ih2
      · rw [dt_cn_t (dt_ct_t e2.1 (hlw _ h e1.2.1) hh), ec] at ih2
        exact ih2
theorem xw_ct_loop {post : Int32 → SX → Prop} {lw hi : Int32} (hne : ne = nI (dt_cd M)) (hc : dt_cd M ≤ 60) (hp : ∀ (fn' xc' xl' xn' gn' ge' : Int32) (kd' ky' nv' od' ik' ip' gk' gv' gs' : Nat → Int32), dt_X M ne fn' xc' xl' xn' us ch cl bc bk bv be kd' ky' nv' od' ik' ip' → post (nI (dt_cn (dt_ct M lw hi) 4096)) (ne, fn', xc', xl', xn', gn', ge', sn, us, ch, cl, bc, bk, bv, be, kd', ky', nv', od', ik', ip', gk', gv', gs', ak, av, so, sk, sv)) : ∀ d n st key (C : Nat → List Nat) (mx : Nat) (fn xc xl xn gn ge : Int32) (kd ky nv od ik ip gk gv gs : Nat → Int32),
    dt_XI C fk en M mx fn xc xl xn us ch cl bc bk bv be kd ky nv od ik ip → dt_q4 C → key ≤ 4096 → (∀ i, key ≤ i → i < 4096 → ¬ nI i < lw) → dt_cn (fun r => decide (us r ≠ 0 ∧ key < en r)) 24 ≤ d → st + d ≤ 24 → d < n → wX_count_16 post hi n (nI (dt_cn (dt_ct M lw hi) key)) (nI key) (nI st) ne fn xc xl xn gn ge sn us ch cl bc bk bv be kd ky nv od ik ip gk gv gs ak av so sk sv := by
  intro d
  induction d with
  | zero =>
    intro n st key C mx fn xc xl xn gn ge kd ky nv od ik ip gk gv gs I q4 hk hge hcn hst hn
    obtain ⟨n, rfl⟩ : ∃ k, n = k + 1 := ⟨n - 1, by omega⟩
    have hk4 : key = 4096 := by
      apply Nat.le_antisymm hk
      apply Nat.le_of_not_lt
      intro hc
      obtain ⟨p, hp', up, h1, h2⟩ := I.2.2.1.2.1 key hc
      have := dt_cn_upt (f := fun r => decide (us r ≠ 0 ∧ key < en r)) (a := 0) (b := 24) (k := p) (by omega) hp' (by simp only [decide_eq_true_eq]; exact ⟨up, h2⟩)
      omega
    subst hk4
    have hE := hp fn xc xl xn gn ge kd ky nv od ik ip gk gv gs ⟨⟨C, fk, en, mx, I, q4⟩, hne, hc⟩
    exact br_c (fun _ => hE) (fun _ => br_t (nI_le (a := 4096) (b := 4096) (by omega) (by omega)) hE)
  | succ d ih =>
    intro n st key C mx fn xc xl xn gn ge kd ky nv od ik ip gk gv gs I q4 hk hge hcn hst hn
    obtain ⟨n, rfl⟩ : ∃ k, n = k + 1 := ⟨n - 1, by omega⟩
    have hE := hp fn xc xl xn gn ge kd ky nv od ik ip gk gv gs ⟨⟨C, fk, en, mx, I, q4⟩, hne, hc⟩
    by_cases hk4 : key = 4096
    · subst hk4
      exact br_c (fun _ => hE) (fun _ => br_t (nI_le (a := 4096) (b := 4096) (by omega) (by omega)) hE)
    · refine br_f (nI_ge (b := 24) (by omega) (by decide)) (br_f (nI_ge (b := 4096) (by omega) (by decide)) (br_c (fun hh => ?_) (fun hh => ?_)))
      · have ec : dt_cn (dt_ct M lw hi) 4096 = dt_cn (dt_ct M lw hi) key := dt_cn_gap hk (fun k h1 h2 => dt_ct_f2 (Int32.lt_of_lt_of_le hh (nI_le h1 (by omega))))
        rw [← ec]; exact hE
      · refine xw_pageFor (by omega) I ?_
        intro C' mx' fn' xc' xl' xn' kd' ky' nv' od' ik' ip' p I' hC hp' up f1 f2 hkn
        have q4' : dt_q4 C' := fun q hq => by rw [hC q hq]; exact q4 q hq
        have hpp := I'.2.2.1.1 p hp' up
        refine xw_gather I' hp' up ?_
        intro g gk' gv' gs' G hg
        have hl := q4' p hp'
        refine ⟨g + 1, ?_⟩
        refine xw_ct_in rfl rfl (by omega) (by omega) f1 f2 hpp.2 G hge ?_ g (g + 1) 0 key (by omega) (by omega) (by omega) (by omega) (fun i hi => by omega) (fun i _ _ => by omega)
        refine ih n (st + 1) (en p) C' mx' fn' xc' xl' xn' (nI g) (nI (en p)) kd' ky' nv' od' ik' ip' gk' gv' gs' I' q4' (by omega) (fun i h1 h2 => hge i (by omega) h2) ?_ (by omega) (by omega)
        have := dt_cn_lt (f := fun r => decide (us r ≠ 0 ∧ en p < en r)) (g := fun r => decide (us r ≠ 0 ∧ key < en r)) (j := p) (n := 24) (fun r hr h => by
          simp only [decide_eq_true_eq] at h ⊢
          exact ⟨h.1, by omega⟩) hp' (by simp) (by simp only [decide_eq_true_eq]; exact ⟨up, by omega⟩)
        omega
theorem xw_count {post : Int32 → SX → Prop} {lw hi : Int32} (X : dt_X M ne fn xc xl xn us ch cl bc bk bv be kd ky nv od ik ip) (hp : ∀ (fn' xc' xl' xn' gn' ge' : Int32) (kd' ky' nv' od' ik' ip' gk' gv' gs' : Nat → Int32), dt_X M ne fn' xc' xl' xn' us ch cl bc bk bv be kd' ky' nv' od' ik' ip' → post (nI (dt_cn (dt_ct M lw hi) 4096)) (ne, fn', xc', xl', xn', gn', ge', sn, us, ch, cl, bc, bk, bv, be, kd', ky', nv', od', ik', ip', gk', gv', gs', ak, av, so, sk, sv)) : wpX_count post (ne, fn, xc, xl, xn, gn, ge, sn, us, ch, cl, bc, bk, bv, be, kd, ky, nv, od, ik, ip, gk, gv, gs, ak, av, so, sk, sv) lw hi := by
  have X' := X
  obtain ⟨⟨C, fk, en, mx, I, q4⟩, hne, hc⟩ := X
  rcases pk_ix lw (n := 4096) (by decide) with h | h | ⟨f, hf, rfl⟩
  · refine br_f (fun h2 => Int32.not_lt.mpr h2 h) ⟨25, ?_⟩
    refine xw_ct_loop hne hc hp 24 25 0 0 C mx fn xc xl xn gn ge kd ky nv od ik ip gk gv gs I q4 (by omega) (fun i _ hi h2 => ?_) (dt_cn_le _ 24) (by omega) (by omega)
    exact nI_pos (by omega) (Int32.lt_trans h2 h)
  · have h0 : (0 : Int32) ≤ lw := Int32.le_trans (nI_pos' (n := 4096) (by decide)) h
    refine br_t h0 ⟨1, br_f (nI_ge (a := 0) (b := 24) (by decide) (by decide)) (br_t h ?_)⟩
    have ec : dt_cn (dt_ct M lw hi) 4096 = dt_cn (dt_ct M lw hi) 0 := dt_cn_gap (by omega) (fun k h1 h2 => dt_ct_f1 (Int32.lt_of_lt_of_le (nI_lt h2 (by decide)) h))
    rw [ec] at hp
    exact hp fn xc xl xn gn ge kd ky nv od ik ip gk gv gs X'
  · refine br_t (nI_pos' (by omega)) ⟨25, ?_⟩
    have ec : dt_cn (dt_ct M (nI f) hi) f = dt_cn (dt_ct M (nI f) hi) 0 := dt_cn_gap (by omega) (fun k h1 h2 => dt_ct_f1 (nI_lt h2 (by omega)))
    have key := xw_ct_loop hne hc hp 24 25 0 f C mx fn xc xl xn gn ge kd ky nv od ik ip gk gv gs I q4 (by omega) (fun i h1 hi => nI_nlt h1 (by omega)) (dt_cn_le _ 24) (by omega) (by omega)
    rw [ec] at key
    exact key
end
end
section
section
variable {ye yw : Int32} {yh yv yp yk yn hb vb : Nat → Int32}
variable {M : Nat → Option Int32}
/-- the reference holds the map M -/
def dt_Y (M : Nat → Option Int32) (ye : Int32) (yh yv : Nat → Int32) : Prop := ye = nI (dt_cd M) ∧ ∀ k, k < 4096 → yh k = dt_b (M k) ∧ yv k = (M k).getD 0
theorem yw_bad_t {post : Int32 → Prop} {k : Nat} (hk : k < 4096) (h : post 0) : wpY_bad post (nI k) :=
  br_f (nI_pos (by omega)) (br_t (nI_le (b := 4095) (by omega) (by decide)) h)
theorem yw_bad_f {post : Int32 → Prop} {v : Int32} (hv : ∀ k, k < 4096 → v ≠ nI k) (h : post 1) : wpY_bad post v := by
  rcases pk_ix v (n := 4096) (by decide) with h1 | h1 | ⟨j, hj, e⟩
  · exact br_t h1 h
  · have h4 : ¬ v ≤ 4095 := fun h2 => nI_ge (a := 4095) (b := 4096) (by decide) (by decide) (Int32.le_trans h1 h2)
    exact br_c (fun _ => h) (fun _ => br_f h4 h)
  · exact absurd e (hv j hj)
theorem dt_b01 (o : Option Int32) : dt_b o = 0 ∨ dt_b o = 1 := by
  cases o with
  | none => exact Or.inl rfl
  | some x => exact Or.inr rfl
theorem dt_vbb (o : Option Int32) : vp_nar .boolean (dt_b o) = dt_b o := by
  cases o with
  | none => exact dt_vb0
  | some x => exact dt_vb1
theorem yw_write_28 {post : SY → Prop} {k : Nat} {o : Option Int32} {val : Int32} (hk : k < 4096) (hv : ∀ x, o = some x → val = x) (h : post (ye, yw, upd yh k (dt_b o), upd yv k (o.getD 0), yp, yk, yn, hb, vb)) : wY_write_28 post (nI k) (dt_b o) val ye yw yh yv yp yk yn hb vb := by
  have v1 : vp_in (nI k) 4096 := vp_in_nI hk (by decide)
  have c1 : (nI k).toNatClampNeg = k := nI_clamp (by omega)
  refine And.intro v1 (nm_r (e' := upd yh k (dt_b o)) (by rw [c1, dt_vbb]) ?_)
  cases o with
  | none => exact br_t rfl ⟨v1, nm_r (by rw [c1]; rfl) h⟩
  | some x =>
    have e := hv x rfl
    subst e
    exact br_f dt_b1 ⟨v1, nm_r (by rw [c1]; rfl) h⟩
theorem dt_Y_set {o : Option Int32} {k : Nat} {yn' : Int32} (Y : dt_Y M ye yh yv) (hn : yn' = nI (dt_cd (dt_set M k o))) : dt_Y (dt_set M k o) yn' (upd yh k (dt_b o)) (upd yv k (o.getD 0)) := by
  refine ⟨hn, fun j hj => ?_⟩
  by_cases e : k = j
  · subst e
    rw [pk_us, pk_us, dt_set_s]
    exact ⟨rfl, rfl⟩
  · rw [pk_un (fun h => e h.symm), pk_un (fun h => e h.symm), dt_set_n e]
    exact Y.2 j hj
theorem yw_write {post : SY → Prop} {k : Nat} {o : Option Int32} {val : Int32} (Y : dt_Y M ye yh yv) (hk : k < 4096) (hv : ∀ x, o = some x → val = x) (h : ∀ (ye' : Int32) (yh' yv' : Nat → Int32), dt_Y (dt_set M k o) ye' yh' yv' → post (ye', yw, yh', yv', yp, yk, yn, hb, vb)) : wpY_write post (ye, yw, yh, yv, yp, yk, yn, hb, vb) (nI k) (dt_b o) val := by
  have v1 : vp_in (nI k) 4096 := vp_in_nI hk (by decide)
  have c1 : (nI k).toNatClampNeg = k := nI_clamp (by omega)
  have hyk := (Y.2 k hk).1
  refine And.intro v1 ?_
  rw [c1, hyk]
  cases em : M k with
  | none =>
    cases o with
    | none =>
      refine br_t rfl (yw_write_28 hk hv (h _ _ _ (dt_Y_set Y ?_)))
      rw [dt_cd_same (by rw [em])]; exact Y.1
    | some x =>
      refine br_f (by show ¬ (0 : Int32) = 1; decide) (br_f dt_b1 (nm_r (e' := nI (dt_cd (dt_set M k (some x)))) ?_ (yw_write_28 hk hv (h _ _ _ (dt_Y_set Y rfl)))))
      rw [Y.1, nI_1, dt_cd_add hk em]
  | some z =>
    cases o with
    | none =>
      refine br_f (by show ¬ (1 : Int32) = 0; decide) (br_t rfl (nm_r (e' := nI (dt_cd (dt_set M k none))) ?_ (yw_write_28 hk hv (h _ _ _ (dt_Y_set Y rfl)))))
      rw [Y.1, dt_cd_rem hk em]; exact pk_m1 _
    | some x =>
      refine br_t rfl (yw_write_28 hk hv (h _ _ _ (dt_Y_set Y ?_)))
      rw [dt_cd_same (by rw [em]; rfl)]; exact Y.1
theorem yw_put_27 {post : Int32 → SY → Prop} {k : Nat} {val : Int32} (Y : dt_Y M ye yh yv) (hk : k < 4096) (h : ∀ (ye' : Int32) (yh' yv' : Nat → Int32), dt_Y (dt_set M k (some val)) ye' yh' yv' → post (if M k = none then 1 else 0) (ye', yw, yh', yv', yp, yk, yn, hb, vb)) : wY_put_27 post (nI k) val ye yw yh yv yp yk yn hb vb := by
  refine And.intro (vp_in_nI hk (by decide)) (nm_r (e' := dt_b (M k)) (by rw [nI_clamp (by omega)]; exact (Y.2 k hk).1) ?_)
  refine yw_write (o := some val) (val := val) Y hk (fun x e => Option.some.inj e) ?_
  intro ye' yh' yv' Y'
  have hE := h ye' yh' yv' Y'
  cases em : M k with
  | none =>
    rw [em, if_pos rfl] at hE
    exact br_t rfl hE
  | some x =>
    rw [em, if_neg (by simp)] at hE
    exact br_f dt_b1 hE
theorem yw_put {post : Int32 → SY → Prop} {k : Nat} {val : Int32} (Y : dt_Y M ye yh yv) (hk : k < 4096)
    (h0 : M k = none → dt_cd M = 60 → post (-1) (ye, yw, yh, yv, yp, yk, yn, hb, vb)) (h1 : ¬ (M k = none ∧ dt_cd M = 60) → ∀ (ye' : Int32) (yh' yv' : Nat → Int32), dt_Y (dt_set M k (some val)) ye' yh' yv' → post (if M k = none then 1 else 0) (ye', yw, yh', yv', yp, yk, yn, hb, vb)) : wpY_put post (ye, yw, yh, yv, yp, yk, yn, hb, vb) (nI k) val := by
  have hcd := dt_cd_le M
  unfold wpY_put
  dsimp only
  refine yw_bad_t hk ?_
  refine br_t rfl ⟨vp_in_nI hk (by decide), ?_⟩
  rw [nI_clamp (by omega), (Y.2 k hk).1]
  cases em : M k with
  | none =>
    refine br_t rfl ?_
    refine pk_eq (dt_cd M) 60 (fun e => h0 em e) (fun e => ?_) Y.1 rfl (by omega) (by decide)
    exact yw_put_27 Y hk (h1 (fun h => e h.2))
  | some x =>
    refine br_f dt_b1 ?_
    exact yw_put_27 Y hk (h1 (fun h => by rw [em] at h; exact absurd h.1 (by simp)))
theorem yw_remove {post : Int32 → SY → Prop} {k : Nat} (Y : dt_Y M ye yh yv) (hk : k < 4096)
    (h0 : M k = none → post 0 (ye, yw, yh, yv, yp, yk, yn, hb, vb)) (h1 : ∀ x, M k = some x → ∀ (ye' : Int32) (yh' yv' : Nat → Int32), dt_Y (dt_set M k none) ye' yh' yv' → post 1 (ye', yw, yh', yv', yp, yk, yn, hb, vb)) : wpY_remove post (ye, yw, yh, yv, yp, yk, yn, hb, vb) (nI k) := by
  unfold wpY_remove
  dsimp only
  refine yw_bad_t hk ?_
  refine br_t rfl ⟨vp_in_nI hk (by decide), ?_⟩
  rw [nI_clamp (by omega), (Y.2 k hk).1]
  cases em : M k with
  | none => exact br_t rfl (h0 em)
  | some x =>
    refine br_f dt_b1 ?_
    exact yw_write (o := none) (val := 0) Y hk (fun x e => by simp at e) (h1 x em)
theorem yw_get {post : Int32 → Prop} {k : Nat} (Y : dt_Y M ye yh yv) (hk : k < 4096) (h : post ((M k).getD 0)) : wpY_get post (ye, yw, yh, yv, yp, yk, yn, hb, vb) (nI k) := by
  unfold wpY_get
  dsimp only
  refine yw_bad_t hk ?_
  refine br_t rfl ⟨vp_in_nI hk (by decide), ?_⟩
  rw [nI_clamp (by omega), (Y.2 k hk).2]
  exact h
theorem yw_has {post : Int32 → Prop} {k : Nat} (Y : dt_Y M ye yh yv) (hk : k < 4096) (h : post (dt_b (M k))) : wpY_has post (ye, yw, yh, yv, yp, yk, yn, hb, vb) (nI k) := by
  unfold wpY_has
  dsimp only
  refine yw_bad_t hk ?_
  refine br_t rfl ⟨vp_in_nI hk (by decide), ?_⟩
  rw [nI_clamp (by omega), (Y.2 k hk).1]
  cases em : M k with
  | none =>
    rw [em] at h
    exact br_t rfl h
  | some x =>
    rw [em] at h
    exact br_f dt_b1 h
theorem yw_swap {post : Int32 → SY → Prop} {k : Nat} {ex val : Int32} (Y : dt_Y M ye yh yv) (hk : k < 4096)
    (h0 : M k ≠ some ex → post 0 (ye, yw, yh, yv, yp, yk, yn, hb, vb)) (h1 : M k = some ex → ∀ (ye' : Int32) (yh' yv' : Nat → Int32), dt_Y (dt_set M k (some val)) ye' yh' yv' → post 1 (ye', yw, yh', yv', yp, yk, yn, hb, vb)) : wpY_swap post (ye, yw, yh, yv, yp, yk, yn, hb, vb) (nI k) ex val := by
  have v1 : vp_in (nI k) 4096 := vp_in_nI hk (by decide)
  unfold wpY_swap
  dsimp only
  refine yw_bad_t hk ?_
  refine br_t rfl ⟨v1, ?_⟩
  rw [nI_clamp (by omega), (Y.2 k hk).1, (Y.2 k hk).2]
  cases em : M k with
  | none => exact br_t rfl (h0 (by rw [em]; simp))
  | some x =>
    refine br_f dt_b1 ⟨v1, ?_⟩
    by_cases e : x = ex
    · subst e
      refine br_t rfl ⟨v1, nm_e ?_⟩
      refine h1 em ye yh (upd yv k val) ⟨by rw [dt_cd_same (by rw [em]; rfl)]; exact Y.1, fun j hj => ?_⟩
      by_cases e : k = j
      · subst e
        rw [pk_us, dt_set_s, (Y.2 k hj).1, em]
        exact ⟨rfl, rfl⟩
      · rw [pk_un (fun h => e h.symm), dt_set_n e]
        exact Y.2 j hj
    · exact br_f e (h0 (by rw [em]; exact fun h => e (Option.some.inj h)))
theorem yw_nx_loop {post : Int32 → Prop} {fr : Int32} (Y : dt_Y M ye yh yv) (h : ∀ r, dt_nx M fr r → post r) : ∀ d n i, i + d = 4096 → d < n → (∀ j, j < i → ¬ nI j < fr → M j = none) → wY_next_2 post fr ye yw yh yv yp yk yn hb vb n (nI i) := by
  intro d
  induction d with
  | zero =>
    intro n i hi hn hno
    obtain ⟨n, rfl⟩ : ∃ k, n = k + 1 := ⟨n - 1, by omega⟩
    refine br_t (nI_le (a := 4096) (by omega) (by omega)) (h _ (Or.inl ⟨rfl, fun j hj => hno j (by omega)⟩))
  | succ d ih =>
    intro n i hi hn hno
    obtain ⟨n, rfl⟩ : ∃ k, n = k + 1 := ⟨n - 1, by omega⟩
    refine br_f (nI_ge (b := 4096) (by omega) (by decide)) (br_c (fun hl => nm_r (nI_1 i) (ih n (i + 1) (by omega) (by omega) (fun j hj hf => ?_))) (fun hl => ⟨vp_in_nI (by omega) (by decide), ?_⟩))
    · by_cases e : j = i
      · rw [e] at hf; exact absurd hl hf
      · exact hno j (by omega) hf
    · rw [nI_clamp (by omega), (Y.2 i (by omega)).1]
      cases em : M i with
      | none =>
        refine br_t rfl (nm_r (nI_1 i) (ih n (i + 1) (by omega) (by omega) (fun j hj hf => ?_)))
        by_cases e : j = i
        · rw [e]; exact em
        · exact hno j (by omega) hf
      | some x => exact br_f dt_b1 (h _ (Or.inr ⟨i, by omega, rfl, hl, by rw [em]; simp, hno⟩))
theorem yw_next {post : Int32 → Prop} {fr : Int32} (Y : dt_Y M ye yh yv) (h : ∀ r, dt_nx M fr r → post r) : wpY_next post (ye, yw, yh, yv, yp, yk, yn, hb, vb) fr :=
  ⟨4097, yw_nx_loop Y h 4096 4097 0 (by omega) (by omega) (fun j hj => by omega)⟩
theorem yw_pv_loop {post : Int32 → Prop} {fr : Int32} (Y : dt_Y M ye yh yv) (h : ∀ r, dt_pv M fr r → post r) : ∀ i n, i ≤ 4096 → i < n → (∀ j, i ≤ j → j < 4096 → ¬ fr < nI j → M j = none) → wY_previous_4 post fr ye yw yh yv yp yk yn hb vb n (dt_pk i) := by
  intro i
  induction i with
  | zero =>
    intro n hi hn hno
    obtain ⟨n, rfl⟩ : ∃ k, n = k + 1 := ⟨n - 1, by omega⟩
    exact br_t dt_m1lt (h _ (Or.inl ⟨rfl, fun j hj => hno j (by omega) hj⟩))
  | succ i ih =>
    intro n hi hn hno
    obtain ⟨n, rfl⟩ : ∃ k, n = k + 1 := ⟨n - 1, by omega⟩
    have c1 : (dt_pk (i + 1)).toNatClampNeg = i := nI_clamp (by omega)
    refine br_f (nI_pos (by omega)) (br_c (fun hl => nm_r (dt_pk_m i) (ih n (by omega) (by omega) (fun j h1 hj hf => ?_))) (fun hl => ⟨vp_in_nI (by omega) (by decide), ?_⟩))
    · by_cases e : j = i
      · rw [e] at hf; exact absurd hl hf
      · exact hno j (by omega) hj hf
    · rw [c1, (Y.2 i (by omega)).1]
      cases em : M i with
      | none =>
        refine br_t rfl (nm_r (dt_pk_m i) (ih n (by omega) (by omega) (fun j h1 hj hf => ?_)))
        by_cases e : j = i
        · rw [e]; exact em
        · exact hno j (by omega) hj hf
      | some x => exact br_f dt_b1 (h _ (Or.inr ⟨i, by omega, rfl, hl, by rw [em]; simp, fun j h1 h2 => hno j (by omega) h2⟩))
theorem yw_previous {post : Int32 → Prop} {fr : Int32} (Y : dt_Y M ye yh yv) (h : ∀ r, dt_pv M fr r → post r) : wpY_previous post (ye, yw, yh, yv, yp, yk, yn, hb, vb) fr :=
  ⟨4097, yw_pv_loop Y h 4096 4097 (by omega) (by omega) (fun j h1 h2 => by omega)⟩
theorem yw_ct_loop {post : Int32 → Prop} {lw hi : Int32} (Y : dt_Y M ye yh yv) (h : post (nI (dt_cn (dt_ct M lw hi) 4096))) : ∀ d n i, i + d = 4096 → d < n → wY_count_5 post lw hi ye yw yh yv yp yk yn hb vb n (nI (dt_cn (dt_ct M lw hi) i)) (nI i) := by
  intro d
  induction d with
  | zero =>
    intro n i hi hn
    obtain ⟨n, rfl⟩ : ∃ k, n = k + 1 := ⟨n - 1, by omega⟩
    obtain rfl : i = 4096 := by omega
    exact br_t (nI_le (a := 4096) (by omega) (by omega)) h
  | succ d ih =>
    intro n i hi hn
    obtain ⟨n, rfl⟩ : ∃ k, n = k + 1 := ⟨n - 1, by omega⟩
    have ih2 := ih n (i + 1) (by omega) (by omega)
    refine br_f (nI_ge (b := 4096) (by omega) (by decide)) ⟨vp_in_nI (by omega) (by decide), ?_⟩
    rw [nI_clamp (by omega), (Y.2 i (by omega)).1]
    cases em : M i with
    | none =>
      rw [dt_cn_f (dt_ct_f0 em)] at ih2
      exact br_t rfl (nm_r (nI_1 i) ih2)
    | some x =>
      refine br_f dt_b1 (br_c (fun h1 => nm_r (nI_1 i) ?_) (fun h1 => br_c (fun h2 => nm_r (nI_1 i) ?_) (fun h2 => nm_r (nI_1 _) (nm_r (nI_1 i) ?_))))
      · rw [dt_cn_f (dt_ct_f1 h1)] at ih2
        exact ih2
      · rw [dt_cn_f (dt_ct_f2 h2)] at ih2
        exact ih2
      · rw [dt_cn_t (dt_ct_t em h1 h2)] at ih2
        exact ih2
theorem yw_count {post : Int32 → Prop} {lw hi : Int32} (Y : dt_Y M ye yh yv) (h : post (nI (dt_cn (dt_ct M lw hi) 4096))) : wpY_count post (ye, yw, yh, yv, yp, yk, yn, hb, vb) lw hi :=
  ⟨4097, yw_ct_loop Y h 4096 4097 0 (by omega) (by omega)⟩
end
end
section
/-- a batch -/
def dt_st (s : Nat) (so sk : Nat → Int32) : Prop := s ≤ 6 ∧ ∀ j, j < s → (so j = 0 ∨ so j = 1) ∧ sk j = nI (dt_n sk j) ∧ dt_n sk j < 4096
def dt_op (so sv : Nat → Int32) (j : Nat) : Option Int32 := if so j = 0 then none else some (sv j)
theorem dt_op_b {so sv : Nat → Int32} {j : Nat} (h : so j = 0 ∨ so j = 1) : dt_b (dt_op so sv j) = so j := by
  rcases h with h | h
  · rw [dt_op, if_pos h, h]; rfl
  · rw [dt_op, if_neg (by rw [h]; decide), h]; rfl
theorem dt_op_v {so sv : Nat → Int32} {j : Nat} {x : Int32} (h : dt_op so sv j = some x) : sv j = x := by
  by_cases e : so j = 0
  · rw [dt_op, if_pos e] at h
    exact absurd h (by simp)
  · rw [dt_op, if_neg e] at h
    exact Option.some.inj h
def dt_Ms (M : Nat → Option Int32) (so sk sv : Nat → Int32) : Nat → Nat → Option Int32
  | 0 => M
  | i + 1 => dt_set (dt_Ms M so sk sv i) (dt_n sk i) (dt_op so sv i)
/-- it has fitted so far -/
def dt_fb (M : Nat → Option Int32) (so sk sv : Nat → Int32) : Nat → Bool
  | 0 => true
  | i + 1 => dt_fb M so sk sv i && decide (dt_cd (dt_Ms M so sk sv (i + 1)) ≤ 60)
theorem dt_fb_t {M : Nat → Option Int32} {so sk sv : Nat → Int32} : ∀ {s i : Nat}, dt_fb M so sk sv s = true → i < s → dt_cd (dt_Ms M so sk sv (i + 1)) ≤ 60
  | 0, i, _, h => absurd h (Nat.not_lt_zero i)
  | s + 1, i, h, hi => by
    rw [dt_fb, Bool.and_eq_true, decide_eq_true_eq] at h
    by_cases e : i = s
    · rw [e]; exact h.2
    · exact dt_fb_t h.1 (by omega)
def dt_fx (b : Bool) : Int32 := if b = true then 1 else 0
def dt_fy (b : Bool) : Int32 := if b = true then 0 else 1
theorem dt_fx_t : dt_fx true = 1 := rfl
theorem dt_fx_f : dt_fx false = 0 := rfl
theorem dt_fy_t : dt_fy true = 0 := rfl
theorem dt_fy_f : dt_fy false = 1 := rfl
theorem dt_nar {x : Int32} (h : x = 0 ∨ x = 1) : narrow .boolean (.int x) = .int x := by
  rcases h with h | h
  · subst h; rfl
  · subst h; rfl
/-- one more change, by the answer of isThereBefore -/
theorem dt_Ms_cd {M : Nat → Option Int32} {so sk sv : Nat → Int32} {k : Nat} (hk : dt_n sk k < 4096) : (dt_Ms M so sk sv k (dt_n sk k) = none ∧ dt_op so sv k ≠ none ∧ dt_cd (dt_Ms M so sk sv (k + 1)) = dt_cd (dt_Ms M so sk sv k) + 1) ∨ (dt_Ms M so sk sv k (dt_n sk k) ≠ none ∧ dt_op so sv k = none ∧ dt_cd (dt_Ms M so sk sv k) = dt_cd (dt_Ms M so sk sv (k + 1)) + 1) ∨ ((dt_Ms M so sk sv k (dt_n sk k) = none ↔ dt_op so sv k = none) ∧ dt_cd (dt_Ms M so sk sv (k + 1)) = dt_cd (dt_Ms M so sk sv k)) := by
  rw [dt_Ms]
  generalize dt_Ms M so sk sv k = N
  cases e : N (dt_n sk k) with
  | none =>
    cases e2 : dt_op so sv k with
    | none => exact Or.inr (Or.inr ⟨by simp, dt_cd_same (by rw [e])⟩)
    | some x => exact Or.inl ⟨rfl, by simp, dt_cd_add hk e⟩
  | some z =>
    cases e2 : dt_op so sv k with
    | none => exact Or.inr (Or.inl ⟨by simp, rfl, dt_cd_rem hk e⟩)
    | some x => exact Or.inr (Or.inr ⟨by simp, dt_cd_same (by rw [e]; rfl)⟩)
section
variable {ne fn xc xl xn gn ge sn ye yw : Int32} {us ch cl bc bk bv be kd ky nv od ik ip gk gv gs ak av so sk sv yh yv yp yk yn hb vb : Nat → Int32}
variable {M : Nat → Option Int32}
theorem xw_itb_loop {post : Int32 → SX → Prop} {k s : Nat} (X : dt_X M ne fn xc xl xn us ch cl bc bk bv be kd ky nv od ik ip) (hs : dt_st s so sk) (hk : k < s) (hp : ∀ (fn' xc' xl' xn' : Int32) (kd' ky' nv' od' ik' ip' : Nat → Int32), dt_X M ne fn' xc' xl' xn' us ch cl bc bk bv be kd' ky' nv' od' ik' ip' → post (dt_b (dt_Ms M so sk sv k (dt_n sk k))) (ne, fn', xc', xl', xn', gn, ge, sn, us, ch, cl, bc, bk, bv, be, kd', ky', nv', od', ik', ip', gk, gv, gs, ak, av, so, sk, sv)) : ∀ i n, i ≤ k → i < n → dt_Ms M so sk sv k (dt_n sk k) = dt_Ms M so sk sv i (dt_n sk k) → wX_isThereBefore_4 post (nI k) ne fn xc xl xn gn ge sn us ch cl bc bk bv be kd ky nv od ik ip gk gv gs ak av so sk sv n (dt_pk i) := by
  have hs6 := hs.1
  have hsk := hs.2 k hk
  have v1 : vp_in (nI k) 6 := vp_in_nI (by omega) (by decide)
  have c1 : (nI k).toNatClampNeg = k := nI_clamp (by omega)
  intro i
  induction i with
  | zero =>
    intro n hi hn he
    obtain ⟨n, rfl⟩ : ∃ k, n = k + 1 := ⟨n - 1, by omega⟩
    rw [he] at hp
    obtain ⟨⟨C, fk, en, mx, I, q4⟩, hne, hc⟩ := X
    refine br_t dt_m1lt ⟨v1, ?_⟩
    rw [c1, hsk.2.1]
    refine xw_pageFor hsk.2.2 I ?_
    intro C' mx' fn' xc' xl' xn' kd' ky' nv' od' ik' ip' p I' hC hp' up f1 f2 _
    have q4' : dt_q4 C' := fun q hq => by rw [hC q hq]; exact q4 q hq
    refine And.intro v1 ?_
    rw [hsk.2.1]
    refine xw_isIn I' hp' up f1 f2 ?_
    exact ⟨dt_nar (dt_b01 _), hp fn' xc' xl' xn' kd' ky' nv' od' ik' ip' ⟨⟨C', fk, en, mx', I', q4'⟩, hne, hc⟩⟩
  | succ i ih =>
    intro n hi hn he
    obtain ⟨n, rfl⟩ : ∃ k, n = k + 1 := ⟨n - 1, by omega⟩
    have v2 : vp_in (nI i) 6 := vp_in_nI (by omega) (by decide)
    have c2 : (dt_pk (i + 1)).toNatClampNeg = i := nI_clamp (by omega)
    have hski := hs.2 i (by omega)
    refine br_f (nI_pos (by omega)) ⟨v2, v1, ?_⟩
    rw [c1, c2]
    refine pk_eq (dt_n sk i) (dt_n sk k) (fun e => ⟨v2, dt_nar hski.1, ?_⟩) (fun e => nm_r (dt_pk_m i) (ih n (by omega) (by omega) ?_)) hski.2.1 hsk.2.1 (by omega) (by omega)
    · have := hp fn xc xl xn kd ky nv od ik ip X
      rw [he, ← e, dt_Ms, dt_set_s, dt_op_b hski.1] at this
      exact this
    · rw [he, dt_Ms, dt_set_n e]
theorem xw_isThereBefore {post : Int32 → SX → Prop} {k s : Nat} (X : dt_X M ne fn xc xl xn us ch cl bc bk bv be kd ky nv od ik ip) (hs : dt_st s so sk) (hk : k < s) (hp : ∀ (fn' xc' xl' xn' : Int32) (kd' ky' nv' od' ik' ip' : Nat → Int32), dt_X M ne fn' xc' xl' xn' us ch cl bc bk bv be kd' ky' nv' od' ik' ip' → post (dt_b (dt_Ms M so sk sv k (dt_n sk k))) (ne, fn', xc', xl', xn', gn, ge, sn, us, ch, cl, bc, bk, bv, be, kd', ky', nv', od', ik', ip', gk, gv, gs, ak, av, so, sk, sv)) : wpX_isThereBefore post (ne, fn, xc, xl, xn, gn, ge, sn, us, ch, cl, bc, bk, bv, be, kd, ky, nv, od, ik, ip, gk, gv, gs, ak, av, so, sk, sv) (nI k) :=
  nm_r (dt_pk_s k) ⟨k + 1, xw_itb_loop X hs hk hp k (k + 1) (Nat.le_refl _) (Nat.lt_succ_self _) rfl⟩
theorem xw_cm_62 {post : Int32 → SX → Prop} {J : Int32 → Int32 → Int32 → Int32 → Int32 → Int32 → Int32 → Int32 → Int32 → Int32 → Int32 → (Nat → Int32) → (Nat → Int32) → (Nat → Int32) → (Nat → Int32) → (Nat → Int32) → (Nat → Int32) → (Nat → Int32) → (Nat → Int32) → (Nat → Int32) → (Nat → Int32) → (Nat → Int32) → (Nat → Int32) → (Nat → Int32) → (Nat → Int32) → (Nat → Int32) → (Nat → Int32) → (Nat → Int32) → (Nat → Int32) → (Nat → Int32) → (Nat → Int32) → (Nat → Int32) → Prop} {k c : Nat} {b : Bool} {z0 z1 : Int32} (hz : z1 + z0 = nI c) (hc : c ≤ 4096) (h : J (nI c) (dt_fx (b && decide (c ≤ 60))) (nI (k + 1)) ne fn xc xl xn gn ge sn us ch cl bc bk bv be kd ky nv od ik ip gk gv gs ak av so sk sv) : wX_commit_62 post J (dt_fx b) (nI k) z0 z1 ne fn xc xl xn gn ge sn us ch cl bc bk bv be kd ky nv od ik ip gk gv gs ak av so sk sv := by
  refine nm_r hz ?_
  cases b with
  | false => exact br_t rfl (nm_r (nI_1 k) h)
  | true =>
    refine br_f (by decide) ?_
    refine pk_lt 60 c (fun h60 => nm_r (nI_1 k) ?_) (fun h60 => nm_r (nI_1 k) ?_) rfl rfl (by decide) (by omega)
    · rw [decide_eq_false (by omega)] at h
      exact h
    · rw [decide_eq_true h60] at h
      exact h
theorem xw_cm_2 {post : Int32 → SX → Prop} {s : Nat} (hs : dt_st s so sk) (hsn : sn = nI s) (hf : dt_fb M so sk sv s = true) (hp : ∀ (ne' fn' xc' xl' xn' gn' ge' : Int32) (us' ch' cl' bc' bk' bv' be' kd' ky' nv' od' ik' ip' gk' gv' gs' ak' av' : Nat → Int32), dt_X (dt_Ms M so sk sv s) ne' fn' xc' xl' xn' us' ch' cl' bc' bk' bv' be' kd' ky' nv' od' ik' ip' → post (nI (dt_cd (dt_Ms M so sk sv s))) (ne', fn', xc', xl', xn', gn', ge', 0, us', ch', cl', bc', bk', bv', be', kd', ky', nv', od', ik', ip', gk', gv', gs', ak', av', so, sk, sv)) : ∀ d n k (ne fn xc xl xn gn ge : Int32) (us ch cl bc bk bv be kd ky nv od ik ip gk gv gs ak av : Nat → Int32), k + d = s → d < n → dt_X (dt_Ms M so sk sv k) ne fn xc xl xn us ch cl bc bk bv be kd ky nv od ik ip → wX_commit_88 post 1 n (nI k) ne fn xc xl xn gn ge sn us ch cl bc bk bv be kd ky nv od ik ip gk gv gs ak av so sk sv := by
  subst hsn
  have hs6 := hs.1
  intro d
  induction d with
  | zero =>
    intro n k ne fn xc xl xn gn ge us ch cl bc bk bv be kd ky nv od ik ip gk gv gs ak av hk hn X
    obtain ⟨n, rfl⟩ : ∃ k, n = k + 1 := ⟨n - 1, by omega⟩
    obtain rfl : k = s := by omega
    refine br_t (nI_le (by omega) (by omega)) (br_f (by decide) ?_)
    have := hp ne fn xc xl xn gn ge us ch cl bc bk bv be kd ky nv od ik ip gk gv gs ak av X
    rw [← X.2.1] at this
    exact this
  | succ d ih =>
    intro n k ne fn xc xl xn gn ge us ch cl bc bk bv be kd ky nv od ik ip gk gv gs ak av hk hn X
    obtain ⟨n, rfl⟩ : ∃ k, n = k + 1 := ⟨n - 1, by omega⟩
    have v1 : vp_in (nI k) 6 := vp_in_nI (by omega) (by decide)
    have hsk := hs.2 k (by omega)
    have hcd := dt_fb_t hf (show k < s by omega)
    have ih2 := fun (ne' fn' xc' xl' xn' gn' ge' : Int32) (us' ch' cl' bc' bk' bv' be' kd' ky' nv' od' ik' ip' gk' gv' gs' ak' av' : Nat → Int32) (X' : dt_X (dt_Ms M so sk sv (k + 1)) ne' fn' xc' xl' xn' us' ch' cl' bc' bk' bv' be' kd' ky' nv' od' ik' ip') => ih n (k + 1) ne' fn' xc' xl' xn' gn' ge' us' ch' cl' bc' bk' bv' be' kd' ky' nv' od' ik' ip' gk' gv' gs' ak' av' (by omega) (by omega) X'
    refine br_f (nI_ge (by omega) (by omega)) (br_f (by decide) ⟨v1, ?_⟩)
    rw [nI_clamp (by omega)]
    rw [dt_Ms] at hcd ih2
    by_cases e : so k = 0
    · have eo : dt_op so sv k = none := by rw [dt_op, if_pos e]
      rw [eo] at ih2
      refine br_t e ⟨v1, ?_⟩
      rw [hsk.2.1]
      refine xw_remove X hsk.2.2 ?_ ?_
      · intro em ne' fn' xc' xl' xn' gn' ge' us' ch' cl' bc' bk' bv' be' kd' ky' nv' od' ik' ip' gk' gv' gs' ak' av' X'
        refine nm_r (nI_1 k) (ih2 ne' fn' xc' xl' xn' gn' ge' us' ch' cl' bc' bk' bv' be' kd' ky' nv' od' ik' ip' gk' gv' gs' ak' av' ?_)
        rw [dt_set_id em]; exact X'
      · intro x em ne' fn' xc' xl' xn' gn' ge' us' ch' cl' bc' bk' bv' be' kd' ky' nv' od' ik' ip' gk' gv' gs' ak' av' X'
        exact nm_r (nI_1 k) (ih2 ne' fn' xc' xl' xn' gn' ge' us' ch' cl' bc' bk' bv' be' kd' ky' nv' od' ik' ip' gk' gv' gs' ak' av' X')
    · have eo : dt_op so sv k = some (sv k) := by rw [dt_op, if_neg e]
      rw [eo] at ih2 hcd
      refine br_f e ⟨v1, v1, ?_⟩
      rw [hsk.2.1]
      refine xw_put X hsk.2.2 ?_ ?_ ?_
      · intro em e60
        rw [dt_cd_add hsk.2.2 em] at hcd
        omega
      · intro em _ ne' fn' xc' xl' xn' gn' ge' us' ch' cl' bc' bk' bv' be' kd' ky' nv' od' ik' ip' gk' gv' gs' ak' av' X'
        exact nm_r (nI_1 k) (ih2 ne' fn' xc' xl' xn' gn' ge' us' ch' cl' bc' bk' bv' be' kd' ky' nv' od' ik' ip' gk' gv' gs' ak' av' X')
      · intro x em ne' fn' xc' xl' xn' gn' ge' us' ch' cl' bc' bk' bv' be' kd' ky' nv' od' ik' ip' gk' gv' gs' ak' av' X'
        exact nm_r (nI_1 k) (ih2 ne' fn' xc' xl' xn' gn' ge' us' ch' cl' bc' bk' bv' be' kd' ky' nv' od' ik' ip' gk' gv' gs' ak' av' X')
theorem xw_cm_1 {post : Int32 → SX → Prop} {s : Nat} (hs : dt_st s so sk) (hsn : sn = nI s) (h1 : dt_fb M so sk sv s = true → ∀ (ne' fn' xc' xl' xn' gn' ge' : Int32) (us' ch' cl' bc' bk' bv' be' kd' ky' nv' od' ik' ip' gk' gv' gs' ak' av' : Nat → Int32), dt_X (dt_Ms M so sk sv s) ne' fn' xc' xl' xn' us' ch' cl' bc' bk' bv' be' kd' ky' nv' od' ik' ip' → post (nI (dt_cd (dt_Ms M so sk sv s))) (ne', fn', xc', xl', xn', gn', ge', 0, us', ch', cl', bc', bk', bv', be', kd', ky', nv', od', ik', ip', gk', gv', gs', ak', av', so, sk, sv)) (h0 : dt_fb M so sk sv s = false → ∀ (ne' fn' xc' xl' xn' gn' ge' : Int32) (us' ch' cl' bc' bk' bv' be' kd' ky' nv' od' ik' ip' gk' gv' gs' ak' av' : Nat → Int32), dt_X M ne' fn' xc' xl' xn' us' ch' cl' bc' bk' bv' be' kd' ky' nv' od' ik' ip' → post (-1) (ne', fn', xc', xl', xn', gn', ge', 0, us', ch', cl', bc', bk', bv', be', kd', ky', nv', od', ik', ip', gk', gv', gs', ak', av', so, sk, sv)) : ∀ d n k (fn xc xl xn : Int32) (kd ky nv od ik ip : Nat → Int32), k + d = s → d < n → dt_X M ne fn xc xl xn us ch cl bc bk bv be kd ky nv od ik ip → wX_commit_9 post n (nI (dt_cd (dt_Ms M so sk sv k))) (dt_fx (dt_fb M so sk sv k)) (nI k) ne fn xc xl xn gn ge sn us ch cl bc bk bv be kd ky nv od ik ip gk gv gs ak av so sk sv := by
  have hs6 := hs.1
  intro d
  induction d with
  | zero =>
    intro n k fn xc xl xn kd ky nv od ik ip hk hn X
    obtain ⟨n, rfl⟩ : ∃ k, n = k + 1 := ⟨n - 1, by omega⟩
    obtain rfl : k = s := by omega
    refine br_t (by rw [hsn]; exact nI_le (by omega) (by omega)) ⟨k + 1, ?_⟩
    cases ef : dt_fb M so sk sv k with
    | true =>
      exact xw_cm_2 hs hsn ef (h1 ef) k (k + 1) 0 ne fn xc xl xn gn ge us ch cl bc bk bv be kd ky nv od ik ip gk gv gs ak av (by omega) (by omega) X
    | false =>
      have hE := h0 ef ne fn xc xl xn gn ge us ch cl bc bk bv be kd ky nv od ik ip gk gv gs ak av X
      exact br_c (fun _ => br_t rfl hE) (fun _ => br_t rfl (br_t rfl hE))
  | succ d ih =>
    intro n k fn xc xl xn kd ky nv od ik ip hk hn X
    obtain ⟨n, rfl⟩ : ∃ k, n = k + 1 := ⟨n - 1, by omega⟩
    have v1 : vp_in (nI k) 6 := vp_in_nI (by omega) (by decide)
    have c1 : (nI k).toNatClampNeg = k := nI_clamp (by omega)
    have hsk := hs.2 k (by omega)
    have hM4 := dt_cd_le (dt_Ms M so sk sv (k + 1))
    refine br_f (by rw [hsn]; exact nI_ge (by omega) (by omega)) ?_
    refine xw_isThereBefore X hs (by omega) ?_
    intro fn' xc' xl' xn' kd' ky' nv' od' ik' ip' X'
    have ih2 := ih n (k + 1) fn' xc' xl' xn' kd' ky' nv' od' ik' ip' (by omega) (by omega) X'
    rw [show dt_fb M so sk sv (k + 1) = (dt_fb M so sk sv k && decide (dt_cd (dt_Ms M so sk sv (k + 1)) ≤ 60)) from rfl] at ih2
    refine And.intro v1 ?_
    rw [c1]
    have hob := dt_op_b (sv := sv) hsk.1
    rcases dt_Ms_cd (M := M) (so := so) (sv := sv) hsk.2.2 with ⟨e1, e2, e3⟩ | ⟨e1, e2, e3⟩ | ⟨e1, e3⟩
    · have hso : so k ≠ 0 := fun e => e2 (by rw [dt_op, if_pos e])
      rw [e1]
      refine br_f hso (br_t rfl ?_)
      refine xw_cm_62 (c := dt_cd (dt_Ms M so sk sv (k + 1))) ?_ hM4 ih2
      rw [e3]; exact nI_1 _
    · have hso : so k = 0 := by rw [← hob, e2]; rfl
      obtain ⟨x, ex⟩ := Option.ne_none_iff_exists'.mp e1
      rw [ex]
      refine br_t hso (And.intro v1 ?_)
      rw [c1]
      refine br_t hso (br_f dt_b1 ?_)
      refine xw_cm_62 (c := dt_cd (dt_Ms M so sk sv (k + 1))) ?_ hM4 ih2
      rw [e3]; exact pk_m1 _
    · have hz : nI (dt_cd (dt_Ms M so sk sv k)) + 0 = nI (dt_cd (dt_Ms M so sk sv (k + 1))) := by rw [e3]; exact Int32.add_zero _
      by_cases hso : so k = 0
      · have eo : dt_op so sv k = none := by rw [dt_op, if_pos hso]
        rw [e1.mpr eo]
        refine br_t hso (And.intro v1 ?_)
        rw [c1]
        refine br_t hso (br_t rfl ?_)
        exact xw_cm_62 (c := dt_cd (dt_Ms M so sk sv (k + 1))) hz hM4 ih2
      · have eo : dt_op so sv k ≠ none := by rw [dt_op, if_neg hso]; simp
        obtain ⟨x, ex⟩ := Option.ne_none_iff_exists'.mp (fun h => eo (e1.mp h))
        rw [ex]
        refine br_f hso (br_f dt_b1 (And.intro v1 ?_))
        rw [c1]
        refine br_f hso ?_
        exact xw_cm_62 (c := dt_cd (dt_Ms M so sk sv (k + 1))) hz hM4 ih2
theorem xw_commit {post : Int32 → SX → Prop} {s : Nat} (X : dt_X M ne fn xc xl xn us ch cl bc bk bv be kd ky nv od ik ip) (hs : dt_st s so sk) (hsn : sn = nI s) (h1 : dt_fb M so sk sv s = true → ∀ (ne' fn' xc' xl' xn' gn' ge' : Int32) (us' ch' cl' bc' bk' bv' be' kd' ky' nv' od' ik' ip' gk' gv' gs' ak' av' : Nat → Int32), dt_X (dt_Ms M so sk sv s) ne' fn' xc' xl' xn' us' ch' cl' bc' bk' bv' be' kd' ky' nv' od' ik' ip' → post (nI (dt_cd (dt_Ms M so sk sv s))) (ne', fn', xc', xl', xn', gn', ge', 0, us', ch', cl', bc', bk', bv', be', kd', ky', nv', od', ik', ip', gk', gv', gs', ak', av', so, sk, sv)) (h0 : dt_fb M so sk sv s = false → ∀ (ne' fn' xc' xl' xn' gn' ge' : Int32) (us' ch' cl' bc' bk' bv' be' kd' ky' nv' od' ik' ip' gk' gv' gs' ak' av' : Nat → Int32), dt_X M ne' fn' xc' xl' xn' us' ch' cl' bc' bk' bv' be' kd' ky' nv' od' ik' ip' → post (-1) (ne', fn', xc', xl', xn', gn', ge', 0, us', ch', cl', bc', bk', bv', be', kd', ky', nv', od', ik', ip', gk', gv', gs', ak', av', so, sk, sv)) : wpX_commit post (ne, fn, xc, xl, xn, gn, ge, sn, us, ch, cl, bc, bk, bv, be, kd, ky, nv, od, ik, ip, gk, gv, gs, ak, av, so, sk, sv) := by
  refine ⟨s + 1, ?_⟩
  have key := xw_cm_1 (post := post) (gn := gn) (ge := ge) (gk := gk) (gv := gv) (gs := gs) (ak := ak) (av := av) hs hsn h1 h0 s (s + 1) 0 fn xc xl xn kd ky nv od ik ip (by omega) (by omega) X
  have hne := X.2.1
  rw [show dt_Ms M so sk sv 0 = M from rfl, ← hne] at key
  exact key
end
section
variable {ye yw : Int32} {yh yv yp yk yn hb vb : Nat → Int32}
variable {M : Nat → Option Int32}
theorem yw_cm_2 {post : Int32 → SY → Prop} {s : Nat} (hs : dt_st s yp yk) (hb6 : ∀ j, j < s → hb j = dt_b (dt_Ms M yp yk yn j (dt_n yk j)) ∧ vb j = (dt_Ms M yp yk yn j (dt_n yk j)).getD 0) (h : ∀ (ye' : Int32) (yh' yv' : Nat → Int32), dt_Y M ye' yh' yv' → post (-1) (ye', 0, yh', yv', yp, yk, yn, hb, vb)) : ∀ i n (ye : Int32) (yh yv : Nat → Int32), i ≤ s → i < n → dt_Y (dt_Ms M yp yk yn i) ye yh yv → wY_commit_92 post 1 n (dt_pk i) ye yw yh yv yp yk yn hb vb := by
  have hs6 := hs.1
  intro i
  induction i with
  | zero =>
    intro n ye yh yv hi hn Y
    obtain ⟨n, rfl⟩ : ∃ k, n = k + 1 := ⟨n - 1, by omega⟩
    exact br_t dt_m1lt (br_f (by decide) (h ye yh yv Y))
  | succ i ih =>
    intro n ye yh yv hi hn Y
    obtain ⟨n, rfl⟩ : ∃ k, n = k + 1 := ⟨n - 1, by omega⟩
    have v1 : vp_in (nI i) 6 := vp_in_nI (by omega) (by decide)
    have c1 : (dt_pk (i + 1)).toNatClampNeg = i := nI_clamp (by omega)
    have hsk := hs.2 i (by omega)
    refine br_f (nI_pos (by omega)) (br_f (by decide) ⟨v1, v1, v1, ?_⟩)
    rw [c1, hsk.2.1, (hb6 i (by omega)).1, (hb6 i (by omega)).2]
    refine yw_write Y hsk.2.2 ?_ ?_
    · intro x e
      rw [e]; rfl
    · intro ye' yh' yv' Y'
      refine nm_r (dt_pk_m i) (ih n ye' yh' yv' (by omega) (by omega) ?_)
      rw [dt_Ms] at Y'
      have e : dt_set (dt_set (dt_Ms M yp yk yn i) (dt_n yk i) (dt_op yp yn i)) (dt_n yk i) (dt_Ms M yp yk yn i (dt_n yk i)) = dt_Ms M yp yk yn i := by
        funext j
        by_cases e : dt_n yk i = j
        · rw [← e, dt_set_s]
        · rw [dt_set_n e, dt_set_n e]
      rw [e] at Y'
      exact Y'
theorem yw_cm_1 {post : Int32 → SY → Prop} {s : Nat} (hs : dt_st s yp yk) (hyw : yw = nI s) (h1 : dt_fb M yp yk yn s = true → ∀ (ye' : Int32) (yh' yv' hb' vb' : Nat → Int32), dt_Y (dt_Ms M yp yk yn s) ye' yh' yv' → post (nI (dt_cd (dt_Ms M yp yk yn s))) (ye', 0, yh', yv', yp, yk, yn, hb', vb')) (h0 : dt_fb M yp yk yn s = false → ∀ (ye' : Int32) (yh' yv' hb' vb' : Nat → Int32), dt_Y M ye' yh' yv' → post (-1) (ye', 0, yh', yv', yp, yk, yn, hb', vb')) : ∀ d n i (ye : Int32) (yh yv hb vb : Nat → Int32), i + d = s → d < n → dt_Y (dt_Ms M yp yk yn i) ye yh yv → (∀ j, j < i → hb j = dt_b (dt_Ms M yp yk yn j (dt_n yk j)) ∧ vb j = (dt_Ms M yp yk yn j (dt_n yk j)).getD 0) → wY_commit_4 post n (dt_fy (dt_fb M yp yk yn i)) (nI i) ye yw yh yv yp yk yn hb vb := by
  have hs6 := hs.1
  intro d
  induction d with
  | zero =>
    intro n i ye yh yv hb vb hi hn Y hB
    obtain ⟨n, rfl⟩ : ∃ k, n = k + 1 := ⟨n - 1, by omega⟩
    obtain rfl : i = s := by omega
    refine br_t (by rw [hyw]; exact nI_le (by omega) (by omega)) (nm_r (e' := dt_pk i) (by rw [hyw]; exact dt_pk_s i) ⟨i + 1, ?_⟩)
    cases ef : dt_fb M yp yk yn i with
    | true =>
      have hE := h1 ef ye yh yv hb vb Y
      rw [← Y.1] at hE
      exact br_c (fun _ => br_t rfl hE) (fun _ => br_t rfl (br_t rfl hE))
    | false => exact yw_cm_2 hs hB (fun ye' yh' yv' Y' => h0 ef ye' yh' yv' hb vb Y') i (i + 1) ye yh yv (Nat.le_refl _) (Nat.lt_succ_self _) Y
  | succ d ih =>
    intro n i ye yh yv hb vb hi hn Y hB
    obtain ⟨n, rfl⟩ : ∃ k, n = k + 1 := ⟨n - 1, by omega⟩
    have v1 : vp_in (nI i) 6 := vp_in_nI (by omega) (by decide)
    have c1 : (nI i).toNatClampNeg = i := nI_clamp (by omega)
    have hsk := hs.2 i (by omega)
    have hM4 := dt_cd_le (dt_Ms M yp yk yn (i + 1))
    have hob := dt_op_b (sv := yn) hsk.1
    have v2 : vp_in (nI (dt_n yk i)) 4096 := vp_in_nI hsk.2.2 (by decide)
    have c2 : (nI (dt_n yk i)).toNatClampNeg = dt_n yk i := nI_clamp (by omega)
    refine br_f (by rw [hyw]; exact nI_ge (by omega) (by omega)) ?_
    rw [c1, hsk.2.1, c2]
    refine ⟨v1, v2, v1, nm_r (e' := upd hb i (dt_b (dt_Ms M yp yk yn i (dt_n yk i)))) (by rw [(Y.2 _ hsk.2.2).1, dt_vbb]) ⟨v1, v2, v1, nm_r (e' := upd vb i ((dt_Ms M yp yk yn i (dt_n yk i)).getD 0)) (by rw [(Y.2 _ hsk.2.2).2]) ⟨v1, v1, v1, ?_⟩⟩⟩
    rw [← hob]
    refine yw_write Y hsk.2.2 (fun x e => dt_op_v e) ?_
    intro ye' yh' yv' Y'
    have ih2 := ih n (i + 1) ye' yh' yv' (upd hb i (dt_b (dt_Ms M yp yk yn i (dt_n yk i)))) (upd vb i ((dt_Ms M yp yk yn i (dt_n yk i)).getD 0)) (by omega) (by omega) Y' (fun j hj => by
      by_cases e : j = i
      · rw [e, pk_us, pk_us]; exact ⟨rfl, rfl⟩
      · rw [pk_un e, pk_un e]; exact hB j (by omega))
    rw [show dt_fb M yp yk yn (i + 1) = (dt_fb M yp yk yn i && decide (dt_cd (dt_Ms M yp yk yn (i + 1)) ≤ 60)) from rfl] at ih2
    refine pk_le (dt_cd (dt_Ms M yp yk yn (i + 1))) 60 (fun h60 => nm_r (nI_1 i) ?_) (fun h60 => nm_r (nI_1 i) ?_) Y'.1 rfl (by omega) (by decide)
    · rw [decide_eq_true h60, Bool.and_true] at ih2
      exact ih2
    · rw [decide_eq_false (by omega), Bool.and_false] at ih2
      exact ih2
theorem yw_commit {post : Int32 → SY → Prop} {s : Nat} (Y : dt_Y M ye yh yv) (hs : dt_st s yp yk) (hyw : yw = nI s) (h1 : dt_fb M yp yk yn s = true → ∀ (ye' : Int32) (yh' yv' hb' vb' : Nat → Int32), dt_Y (dt_Ms M yp yk yn s) ye' yh' yv' → post (nI (dt_cd (dt_Ms M yp yk yn s))) (ye', 0, yh', yv', yp, yk, yn, hb', vb')) (h0 : dt_fb M yp yk yn s = false → ∀ (ye' : Int32) (yh' yv' hb' vb' : Nat → Int32), dt_Y M ye' yh' yv' → post (-1) (ye', 0, yh', yv', yp, yk, yn, hb', vb')) : wpY_commit post (ye, yw, yh, yv, yp, yk, yn, hb, vb) :=
  ⟨s + 1, yw_cm_1 hs hyw h1 h0 s (s + 1) 0 ye yh yv hb vb (by omega) (by omega) Y (fun j hj => by omega)⟩
end
end
section
/-- the two hold one map M, and the same s changes wait -/
def i_Rel (_ : Nat) (u : SX) (v : SY) : Prop := match u with
  | (ne, fn, xc, xl, xn, gn, ge, sn, us, ch, cl, bc, bk, bv, be, kd, ky, nv, od, ik, ip, gk, gv, gs, ak, av, so, sk, sv) => match v with
    | (ye, yw, yh, yv, yp, yk, yn, hb, vb) => ∃ (M : Nat → Option Int32) (s : Nat), dt_X M ne fn xc xl xn us ch cl bc bk bv be kd ky nv od ik ip ∧ dt_Y M ye yh yv ∧ dt_st s so sk ∧ sn = nI s ∧ yw = nI s ∧ so = yp ∧ sk = yk ∧ sv = yn
section
variable {ne fn xc xl xn gn ge sn ye yw : Int32} {us ch cl bc bk bv be kd ky nv od ik ip gk gv gs ak av so sk sv yh yv yp yk yn hb vb : Nat → Int32}
variable {ye yw : Int32} {yh yv hb vb : Nat → Int32}
theorem dt_mk {k s : Nat} {M : Nat → Option Int32} (X : dt_X M ne fn xc xl xn us ch cl bc bk bv be kd ky nv od ik ip) (Y : dt_Y M ye yh yv) (hs : dt_st s so sk) (e1 : sn = nI s) (e2 : yw = nI s) : i_Rel k (ne, fn, xc, xl, xn, gn, ge, sn, us, ch, cl, bc, bk, bv, be, kd, ky, nv, od, ik, ip, gk, gv, gs, ak, av, so, sk, sv) (ye, yw, yh, yv, so, sk, sv, hb, vb) :=
  Exists.intro M (Exists.intro s ⟨X, Y, hs, e1, e2, rfl, rfl, rfl⟩)
end
theorem dt_st_push {s k : Nat} {so sk : Nat → Int32} {b : Int32} (hs : dt_st s so sk) (h6 : s < 6) (hb : b = 0 ∨ b = 1) (hk : k < 4096) : dt_st (s + 1) (upd so s b) (upd sk s (nI k)) := by
  refine ⟨by omega, fun j hj => ?_⟩
  by_cases e : j = s
  · subst e
    rw [pk_us, pk_us, dt_n_us (by omega)]
    exact ⟨hb, rfl, hk⟩
  · rw [pk_un e, pk_un e, dt_n_un e]
    exact hs.2 j (by omega)
theorem dt_st_0 {so sk : Nat → Int32} : dt_st 0 so sk := ⟨by omega, fun j hj => by omega⟩
theorem dt_vbz (v : Int32) : vp_nar .boolean (lw_bz v) = lw_bz v := by
  rcases lw_bz_01 v with h | h
  · rw [h]; exact dt_vb0
  · rw [h]; exact dt_vb1
theorem i_up {k : Nat} {u : SX} {v : SY} (h : i_Rel k u v) : i_Rel (k + 4) u v := h
theorem i_vc0 : wpX_init (fun u => wpY_init (fun v => i_Rel 0 u v)) := by
  unfold wpX_init
  refine xw_layOut (t := 0) (M := fun _ => none) (by omega) ⟨fun j hj => by omega, fun i j _ hj => by omega, fun k x hx => ?_⟩ ?_
  · have := (dt_rs_some hx).1
    exact absurd this (by simp)
  · intro C fk en mx fn' xc' xl' xn' us' ch' cl' bc' bk' bv' be' kd' ky' nv' od' ik' ip' I q4
    have hcd : dt_cd (fun _ => none) = 0 := dt_cn_gap (f := dt_hs (fun _ => none)) (a := 0) (b := 4096) (by omega) (fun k _ _ => dt_hs_f rfl)
    refine dt_mk (k := 0) (gn := 0) (ge := 0) (gk := fun _ => 0) (gv := fun _ => 0) (gs := fun _ => 0) (ak := fun _ => 0) (av := fun _ => 0) (sv := fun _ => 0) (hb := fun _ => 0) (vb := fun _ => 0) (s := 0) (M := fun _ => none) ⟨⟨C, fk, en, mx, I, q4⟩, by rw [hcd]; rfl, by omega⟩ ⟨by rw [hcd]; rfl, fun k hk => ⟨rfl, rfl⟩⟩ dt_st_0 rfl rfl
theorem i_vc_put {k : Nat} {u : SX} {v : SY} (I : i_Rel k u v) (hk : k + 4 ≤ 2048) (v1 : Int32) (v2 : Int32) : wpX_put (fun r u' => wpY_put (fun r' v' => r' = r ∧ i_Rel (k + 4) u' v') v v1 v2) u v1 v2 := by
  obtain ⟨ne, fn, xc, xl, xn, gn, ge, sn, us, ch, cl, bc, bk, bv, be, kd, ky, nv, od, ik, ip, gk, gv, gs, ak, av, so, sk, sv⟩ := u
  obtain ⟨ye, yw, yh, yv, yp, yk, yn, hb, vb⟩ := v
  obtain ⟨M, s, X, Y, hs, e1, e2, e3, e4, e5⟩ := I
  subst e3 e4 e5
  rcases dt_key v1 with hv | ⟨k1, hk1, rfl⟩
  · unfold wpX_put
    dsimp only
    refine xw_key_f hv ?_
    refine br_t rfl ?_
    unfold wpY_put
    dsimp only
    refine yw_bad_f hv ?_
    exact br_f (by decide) ⟨rfl, dt_mk X Y hs e1 e2⟩
  · refine xw_put X hk1 ?_ ?_ ?_
    · intro em e60 ne' fn' xc' xl' xn' gn' ge' us' ch' cl' bc' bk' bv' be' kd' ky' nv' od' ik' ip' gk' gv' gs' ak' av' X'
      exact yw_put Y hk1 (fun _ _ => ⟨rfl, dt_mk X' Y hs e1 e2⟩) (fun h => absurd ⟨em, e60⟩ h)
    · intro em e60 ne' fn' xc' xl' xn' gn' ge' us' ch' cl' bc' bk' bv' be' kd' ky' nv' od' ik' ip' gk' gv' gs' ak' av' X'
      refine yw_put Y hk1 (fun _ h => by omega) (fun h ye' yh' yv' Y' => ⟨if_pos em, dt_mk X' Y' hs e1 e2⟩)
    · intro x em ne' fn' xc' xl' xn' gn' ge' us' ch' cl' bc' bk' bv' be' kd' ky' nv' od' ik' ip' gk' gv' gs' ak' av' X'
      refine yw_put Y hk1 (fun h _ => by rw [em] at h; exact absurd h (by simp)) (fun h ye' yh' yv' Y' => ⟨if_neg (by rw [em]; simp), dt_mk X' Y' hs e1 e2⟩)
theorem i_vc_remove {k : Nat} {u : SX} {v : SY} (I : i_Rel k u v) (hk : k + 4 ≤ 2048) (v1 : Int32) : wpX_remove (fun r u' => wpY_remove (fun r' v' => r' = r ∧ i_Rel (k + 4) u' v') v v1) u v1 := by
  obtain ⟨ne, fn, xc, xl, xn, gn, ge, sn, us, ch, cl, bc, bk, bv, be, kd, ky, nv, od, ik, ip, gk, gv, gs, ak, av, so, sk, sv⟩ := u
  obtain ⟨ye, yw, yh, yv, yp, yk, yn, hb, vb⟩ := v
  obtain ⟨M, s, X, Y, hs, e1, e2, e3, e4, e5⟩ := I
  subst e3 e4 e5
  rcases dt_key v1 with hv | ⟨k1, hk1, rfl⟩
  · unfold wpX_remove
    dsimp only
    refine xw_key_f hv ?_
    refine br_t rfl ?_
    unfold wpY_remove
    dsimp only
    refine yw_bad_f hv ?_
    exact br_f (by decide) ⟨rfl, dt_mk X Y hs e1 e2⟩
  · refine xw_remove X hk1 ?_ ?_
    · intro em ne' fn' xc' xl' xn' gn' ge' us' ch' cl' bc' bk' bv' be' kd' ky' nv' od' ik' ip' gk' gv' gs' ak' av' X'
      exact yw_remove Y hk1 (fun _ => ⟨rfl, dt_mk X' Y hs e1 e2⟩) (fun x h => by rw [em] at h; exact absurd h (by simp))
    · intro x em ne' fn' xc' xl' xn' gn' ge' us' ch' cl' bc' bk' bv' be' kd' ky' nv' od' ik' ip' gk' gv' gs' ak' av' X'
      exact yw_remove Y hk1 (fun h => by rw [em] at h; exact absurd h (by simp)) (fun x h ye' yh' yv' Y' => ⟨rfl, dt_mk X' Y' hs e1 e2⟩)
theorem i_vc_get {k : Nat} {u : SX} {v : SY} (I : i_Rel k u v) (hk : k + 4 ≤ 2048) (v1 : Int32) : wpX_get (fun r u' => wpY_get (fun r' => r' = r ∧ i_Rel (k + 4) u' v) v v1) u v1 := by
  obtain ⟨ne, fn, xc, xl, xn, gn, ge, sn, us, ch, cl, bc, bk, bv, be, kd, ky, nv, od, ik, ip, gk, gv, gs, ak, av, so, sk, sv⟩ := u
  obtain ⟨ye, yw, yh, yv, yp, yk, yn, hb, vb⟩ := v
  obtain ⟨M, s, X, Y, hs, e1, e2, e3, e4, e5⟩ := I
  subst e3 e4 e5
  rcases dt_key v1 with hv | ⟨k1, hk1, rfl⟩
  · unfold wpX_get
    dsimp only
    refine xw_key_f hv ?_
    refine br_t rfl ?_
    unfold wpY_get
    dsimp only
    refine yw_bad_f hv ?_
    exact br_f (by decide) ⟨rfl, dt_mk X Y hs e1 e2⟩
  · refine xw_get X hk1 ?_
    intro ne' fn' xc' xl' xn' gn' ge' us' ch' cl' bc' bk' bv' be' kd' ky' nv' od' ik' ip' gk' gv' gs' ak' av' X'
    exact yw_get Y hk1 ⟨rfl, dt_mk X' Y hs e1 e2⟩
theorem i_vc_has {k : Nat} {u : SX} {v : SY} (I : i_Rel k u v) (hk : k + 4 ≤ 2048) (v1 : Int32) : wpX_has (fun r u' => wpY_has (fun r' => r' = r ∧ i_Rel (k + 4) u' v) v v1) u v1 := by
  obtain ⟨ne, fn, xc, xl, xn, gn, ge, sn, us, ch, cl, bc, bk, bv, be, kd, ky, nv, od, ik, ip, gk, gv, gs, ak, av, so, sk, sv⟩ := u
  obtain ⟨ye, yw, yh, yv, yp, yk, yn, hb, vb⟩ := v
  obtain ⟨M, s, X, Y, hs, e1, e2, e3, e4, e5⟩ := I
  subst e3 e4 e5
  rcases dt_key v1 with hv | ⟨k1, hk1, rfl⟩
  · unfold wpX_has
    dsimp only
    refine xw_key_f hv ?_
    refine br_t rfl ?_
    unfold wpY_has
    dsimp only
    refine yw_bad_f hv ?_
    exact br_f (by decide) ⟨rfl, dt_mk X Y hs e1 e2⟩
  · refine xw_has X hk1 ?_
    intro ne' fn' xc' xl' xn' gn' ge' us' ch' cl' bc' bk' bv' be' kd' ky' nv' od' ik' ip' gk' gv' gs' ak' av' X'
    exact yw_has Y hk1 ⟨rfl, dt_mk X' Y hs e1 e2⟩
theorem i_vc_next {k : Nat} {u : SX} {v : SY} (I : i_Rel k u v) (hk : k + 4 ≤ 2048) (v1 : Int32) : wpX_next (fun r u' => wpY_next (fun r' => r' = r ∧ i_Rel (k + 4) u' v) v v1) u v1 := by
  obtain ⟨ne, fn, xc, xl, xn, gn, ge, sn, us, ch, cl, bc, bk, bv, be, kd, ky, nv, od, ik, ip, gk, gv, gs, ak, av, so, sk, sv⟩ := u
  obtain ⟨ye, yw, yh, yv, yp, yk, yn, hb, vb⟩ := v
  obtain ⟨M, s, X, Y, hs, e1, e2, e3, e4, e5⟩ := I
  subst e3 e4 e5
  refine xw_next X ?_
  intro r fn' xc' xl' xn' gn' ge' kd' ky' nv' od' ik' ip' gk' gv' gs' X' hr
  exact yw_next Y (fun r' hr' => ⟨dt_nx_u hr hr', dt_mk X' Y hs e1 e2⟩)
theorem i_vc_previous {k : Nat} {u : SX} {v : SY} (I : i_Rel k u v) (hk : k + 4 ≤ 2048) (v1 : Int32) : wpX_previous (fun r u' => wpY_previous (fun r' => r' = r ∧ i_Rel (k + 4) u' v) v v1) u v1 := by
  obtain ⟨ne, fn, xc, xl, xn, gn, ge, sn, us, ch, cl, bc, bk, bv, be, kd, ky, nv, od, ik, ip, gk, gv, gs, ak, av, so, sk, sv⟩ := u
  obtain ⟨ye, yw, yh, yv, yp, yk, yn, hb, vb⟩ := v
  obtain ⟨M, s, X, Y, hs, e1, e2, e3, e4, e5⟩ := I
  subst e3 e4 e5
  refine xw_previous X ?_
  intro r fn' xc' xl' xn' gn' ge' kd' ky' nv' od' ik' ip' gk' gv' gs' X' hr
  exact yw_previous Y (fun r' hr' => ⟨dt_pv_u hr hr', dt_mk X' Y hs e1 e2⟩)
theorem i_vc_count {k : Nat} {u : SX} {v : SY} (I : i_Rel k u v) (hk : k + 4 ≤ 2048) (v1 : Int32) (v2 : Int32) : wpX_count (fun r u' => wpY_count (fun r' => r' = r ∧ i_Rel (k + 4) u' v) v v1 v2) u v1 v2 := by
  obtain ⟨ne, fn, xc, xl, xn, gn, ge, sn, us, ch, cl, bc, bk, bv, be, kd, ky, nv, od, ik, ip, gk, gv, gs, ak, av, so, sk, sv⟩ := u
  obtain ⟨ye, yw, yh, yv, yp, yk, yn, hb, vb⟩ := v
  obtain ⟨M, s, X, Y, hs, e1, e2, e3, e4, e5⟩ := I
  subst e3 e4 e5
  refine xw_count X ?_
  intro fn' xc' xl' xn' gn' ge' kd' ky' nv' od' ik' ip' gk' gv' gs' X'
  exact yw_count Y ⟨rfl, dt_mk X' Y hs e1 e2⟩
theorem i_vc_swap {k : Nat} {u : SX} {v : SY} (I : i_Rel k u v) (hk : k + 4 ≤ 2048) (v1 : Int32) (v2 : Int32) (v3 : Int32) : wpX_swap (fun r u' => wpY_swap (fun r' v' => r' = r ∧ i_Rel (k + 4) u' v') v v1 v2 v3) u v1 v2 v3 := by
  obtain ⟨ne, fn, xc, xl, xn, gn, ge, sn, us, ch, cl, bc, bk, bv, be, kd, ky, nv, od, ik, ip, gk, gv, gs, ak, av, so, sk, sv⟩ := u
  obtain ⟨ye, yw, yh, yv, yp, yk, yn, hb, vb⟩ := v
  obtain ⟨M, s, X, Y, hs, e1, e2, e3, e4, e5⟩ := I
  subst e3 e4 e5
  rcases dt_key v1 with hv | ⟨k1, hk1, rfl⟩
  · unfold wpX_swap
    dsimp only
    refine xw_key_f hv ?_
    refine br_t rfl ?_
    unfold wpY_swap
    dsimp only
    refine yw_bad_f hv ?_
    exact br_f (by decide) ⟨rfl, dt_mk X Y hs e1 e2⟩
  · refine xw_swap X hk1 ?_ ?_
    · intro em ne' fn' xc' xl' xn' gn' ge' us' ch' cl' bc' bk' bv' be' kd' ky' nv' od' ik' ip' gk' gv' gs' ak' av' X'
      exact yw_swap Y hk1 (fun _ => ⟨rfl, dt_mk X' Y hs e1 e2⟩) (fun h => absurd h em)
    · intro em ne' fn' xc' xl' xn' gn' ge' us' ch' cl' bc' bk' bv' be' kd' ky' nv' od' ik' ip' gk' gv' gs' ak' av' X'
      exact yw_swap Y hk1 (fun h => absurd em h) (fun h ye' yh' yv' Y' => ⟨rfl, dt_mk X' Y' hs e1 e2⟩)
theorem i_vc_stage {k : Nat} {u : SX} {v : SY} (I : i_Rel k u v) (hk : k + 4 ≤ 2048) (v1 : Int32) (v2 : Int32) (v3 : Int32) : wpX_stage (fun r u' => wpY_stage (fun r' v' => r' = r ∧ i_Rel (k + 4) u' v') v (lw_bz v1) v2 v3) u (lw_bz v1) v2 v3 := by
  obtain ⟨ne, fn, xc, xl, xn, gn, ge, sn, us, ch, cl, bc, bk, bv, be, kd, ky, nv, od, ik, ip, gk, gv, gs, ak, av, so, sk, sv⟩ := u
  obtain ⟨ye, yw, yh, yv, yp, yk, yn, hb, vb⟩ := v
  obtain ⟨M, s, X, Y, hs, e1, e2, e3, e4, e5⟩ := I
  subst e3 e4 e5
  rcases dt_key v2 with hv | ⟨k1, hk1, rfl⟩
  · unfold wpX_stage
    dsimp only
    refine xw_key_f hv ?_
    refine br_t rfl ?_
    unfold wpY_stage
    dsimp only
    refine yw_bad_f hv ?_
    exact br_f (by decide) ⟨rfl, dt_mk X Y hs e1 e2⟩
  · subst e1 e2
    have hs6 := hs.1
    have c1 : (nI s).toNatClampNeg = s := nI_clamp (by omega)
    unfold wpX_stage
    dsimp only
    refine xw_isKey_t hk1 ?_
    refine br_f (by decide) ?_
    refine pk_lt s 6 (fun h6 => ?_) (fun h6 => ?_)
    · have v1' : vp_in (nI s) 6 := vp_in_nI h6 (by decide)
      refine ⟨v1', nm_r (e' := upd so s (lw_bz v1)) (by rw [c1, dt_vbz]) ⟨v1', nm_r (e' := upd sk s (nI k1)) (by rw [c1]) ⟨v1', nm_r (e' := upd sv s v3) (by rw [c1]) (nm_r (nI_1 s) ?_)⟩⟩⟩
      unfold wpY_stage
      dsimp only
      refine yw_bad_t hk1 ?_
      refine br_t rfl ?_
      refine pk_eq s 6 (fun e => by omega) (fun _ => ?_)
      refine ⟨v1', nm_r (e' := upd so s (lw_bz v1)) (by rw [c1, dt_vbz]) ⟨v1', nm_r (e' := upd sk s (nI k1)) (by rw [c1]) ⟨v1', nm_r (e' := upd sv s v3) (by rw [c1]) (nm_r (nI_1 s) ?_)⟩⟩⟩
      exact ⟨rfl, dt_mk X Y (dt_st_push hs h6 (lw_bz_01 v1) hk1) rfl rfl⟩
    · unfold wpY_stage
      dsimp only
      refine yw_bad_t hk1 ?_
      refine br_t rfl ?_
      refine pk_eq s 6 (fun e => ?_) (fun e => by omega)
      exact ⟨rfl, dt_mk X Y hs rfl rfl⟩
theorem i_vc_commit {k : Nat} {u : SX} {v : SY} (I : i_Rel k u v) (hk : k + 4 ≤ 2048) : wpX_commit (fun r u' => wpY_commit (fun r' v' => r' = r ∧ i_Rel (k + 4) u' v') v) u := by
  obtain ⟨ne, fn, xc, xl, xn, gn, ge, sn, us, ch, cl, bc, bk, bv, be, kd, ky, nv, od, ik, ip, gk, gv, gs, ak, av, so, sk, sv⟩ := u
  obtain ⟨ye, yw, yh, yv, yp, yk, yn, hb, vb⟩ := v
  obtain ⟨M, s, X, Y, hs, e1, e2, e3, e4, e5⟩ := I
  subst e3 e4 e5
  refine xw_commit X hs e1 ?_ ?_
  · intro hf ne' fn' xc' xl' xn' gn' ge' us' ch' cl' bc' bk' bv' be' kd' ky' nv' od' ik' ip' gk' gv' gs' ak' av' X'
    refine yw_commit Y hs e2 (fun _ ye' yh' yv' hb' vb' Y' => ⟨rfl, dt_mk X' Y' dt_st_0 rfl rfl⟩) (fun h => by rw [hf] at h; exact absurd h (by decide))
  · intro hf ne' fn' xc' xl' xn' gn' ge' us' ch' cl' bc' bk' bv' be' kd' ky' nv' od' ik' ip' gk' gv' gs' ak' av' X'
    refine yw_commit Y hs e2 (fun h => by rw [hf] at h; exact absurd h (by decide)) (fun _ ye' yh' yv' hb' vb' Y' => ⟨rfl, dt_mk X' Y' dt_st_0 rfl rfl⟩)
theorem i_vc_tidy {k : Nat} {u : SX} {v : SY} (I : i_Rel k u v) (hk : k + 4 ≤ 2048) : wpX_tidy (fun u' => wpY_tidy (fun v' => i_Rel (k + 4) u' v') v) u := by
  obtain ⟨ne, fn, xc, xl, xn, gn, ge, sn, us, ch, cl, bc, bk, bv, be, kd, ky, nv, od, ik, ip, gk, gv, gs, ak, av, so, sk, sv⟩ := u
  obtain ⟨ye, yw, yh, yv, yp, yk, yn, hb, vb⟩ := v
  obtain ⟨M, s, X, Y, hs, e1, e2, e3, e4, e5⟩ := I
  subst e3 e4 e5
  refine xw_tidy X ?_
  intro ne' fn' xc' xl' xn' gn' ge' us' ch' cl' bc' bk' bv' be' kd' ky' nv' od' ik' ip' gk' gv' gs' ak' av' X'
  exact dt_mk (k := k + 4) (gn := gn') (ge := ge') (gk := gk') (gv := gv') (gs := gs') (ak := ak') (av := av') (sv := sv) (hb := hb) (vb := vb) X' Y hs e1 e2
end
