section
-- rows of kit/rows (starting texts): pk_us pk_un pk_sub pk_mul pk_ix
theorem pk_us {f : Nat → Int32} {k : Nat} {x : Int32} : upd f k x k = x := if_pos rfl
theorem pk_un {f : Nat → Int32} {k j : Nat} {x : Int32} (h : j ≠ k) : upd f k x j = f j := if_neg h
theorem pk_sub {a b : Nat} (h : b ≤ a) : nI a - nI b = nI (a - b) := by
  obtain ⟨c, rfl⟩ : ∃ c, a = c + b := ⟨a - b, by omega⟩
  rw [← nI_add, Int32.add_sub_cancel, Nat.add_sub_cancel]
theorem pk_mul (a b : Nat) : nI a * nI b = nI (a * b) := (Int32.ofNat_mul a b).symm
theorem pk_ix (x : Int32) {n : Nat} (hn : n < 2 ^ 31) : x < 0 ∨ nI n ≤ x ∨ ∃ j : Nat, j < n ∧ x = nI j := by
  by_cases h : x < 0
  · exact Or.inl h
  · obtain ⟨j, hj, rfl⟩ := nI_of h
    by_cases h2 : j < n
    · exact Or.inr (Or.inr ⟨j, h2, rfl⟩)
    · exact Or.inr (Or.inl (nI_le (by omega) hj))
-- numbers of this claim
theorem cb_us (f : Nat → Int32) (k : Nat) : upd f k (f k) = f := by
  funext j
  by_cases h : j = k
  · rw [h, pk_us]
  · rw [pk_un h]
def cb_b (b : Bool) : Int32 := if b = true then 1 else 0
theorem cb_b0 (b : Bool) : cb_b b = 0 ↔ b = false := by cases b <;> decide
theorem cb_b1 (b : Bool) : cb_b b = 1 ↔ b = true := by cases b <;> decide
theorem cb_bf : cb_b false = 0 := by decide
theorem cb_bt : cb_b true = 1 := by decide
theorem cb_n0 : vp_nar .boolean 0 = 0 := rfl
theorem cb_n1 : vp_nar .boolean 1 = 1 := rfl
theorem cb_nb (b : Bool) : vp_nar .boolean (cb_b b) = cb_b b := by cases b <;> rfl
theorem cb_x4 (s f : Nat) : nI s * 4 + nI f = nI (s * 4 + f) := by
  show nI s * nI 4 + nI f = nI (s * 4 + f)
  rw [pk_mul, nI_add]
theorem cb_x5 (s f : Nat) : nI s * 5 + nI f = nI (s * 5 + f) := by
  show nI s * nI 5 + nI f = nI (s * 5 + f)
  rw [pk_mul, nI_add]
theorem cb_x6 (s f : Nat) : nI s * 6 + nI f = nI (s * 6 + f) := by
  show nI s * nI 6 + nI f = nI (s * 6 + f)
  rw [pk_mul, nI_add]
theorem cb_x60 (s : Nat) : nI s * 6 = nI (s * 6) := by
  show nI s * nI 6 = nI (s * 6)
  rw [pk_mul]
theorem cb_y4 (s : Nat) : nI s * 4 = nI (s * 4) := by
  show nI s * nI 4 = nI (s * 4)
  rw [pk_mul]
theorem cb_fb (s : Nat) : nI s * 4 + 4 - 1 = nI (s * 4 + 3) := by
  show nI s * nI 4 + nI 4 - nI 1 = nI (s * 4 + 3)
  rw [pk_mul, nI_add, pk_sub (by omega)]
  rfl
theorem cb_l4 {i : Nat} (h : i < 4) : ¬ (4 : Int32) ≤ nI i := nI_ge (b := 4) h (by decide)
theorem cb_l5 {i : Nat} (h : i < 5) : ¬ (5 : Int32) ≤ nI i := nI_ge (b := 5) h (by decide)
theorem cb_l6 {i : Nat} (h : i < 6) : ¬ (6 : Int32) ≤ nI i := nI_ge (b := 6) h (by decide)
theorem cb_l20 {i : Nat} (h : i < 20) : ¬ (20 : Int32) ≤ nI i := nI_ge (b := 20) h (by decide)
theorem cb_e4 : (4 : Int32) ≤ nI 4 := nI_le (a := 4) (b := 4) (by decide) (by decide)
theorem cb_e5 : (5 : Int32) ≤ nI 5 := nI_le (a := 5) (b := 5) (by decide) (by decide)
theorem cb_e6 : (6 : Int32) ≤ nI 6 := nI_le (a := 6) (b := 6) (by decide) (by decide)
theorem cb_e20 : (20 : Int32) ≤ nI 20 := nI_le (a := 20) (b := 20) (by decide) (by decide)
theorem cb_lt4 {i : Nat} (h : i < 4) : nI i < (4 : Int32) := nI_lt (b := 4) h (by decide)
theorem cb_lt5 {i : Nat} (h : i < 5) : nI i < (5 : Int32) := nI_lt (b := 5) h (by decide)
theorem cb_lt6 {i : Nat} (h : i < 6) : nI i < (6 : Int32) := nI_lt (b := 6) h (by decide)
theorem cb_le5 {i : Nat} (h : i < 6) : nI i ≤ (5 : Int32) := nI_le (b := 5) (by omega) (by decide)
theorem cb_neg (n : Nat) (h : n < 2 ^ 31) : ¬ (-1 : Int32) = nI n := fun e => nI_pos h (e ▸ (by decide))
-- masks of five bits
def cb_k1 (m : Int32) (b : Bool) (n : Nat) : Int32 := if b = true then m ||| ((1 : Int32) <<< (nI n &&& 31)) else m
def cb_m (p : Nat → Bool) : Nat → Int32
  | 0 => 0
  | n + 1 => cb_k1 (cb_m p n) (p n) n
def cb_k (a b c d e : Bool) : Int32 := cb_k1 (cb_k1 (cb_k1 (cb_k1 (cb_k1 0 a 0) b 1) c 2) d 3) e 4
theorem cb_mk (p : Nat → Bool) : cb_m p 5 = cb_k (p 0) (p 1) (p 2) (p 3) (p 4) := rfl
theorem cb_kb0 : ∀ a b c d e : Bool, ((cb_k a b c d e >>> (nI 0 &&& 31)) &&& 1) = cb_b a := by decide +kernel
theorem cb_kb1 : ∀ a b c d e : Bool, ((cb_k a b c d e >>> (nI 1 &&& 31)) &&& 1) = cb_b b := by decide +kernel
theorem cb_kb2 : ∀ a b c d e : Bool, ((cb_k a b c d e >>> (nI 2 &&& 31)) &&& 1) = cb_b c := by decide +kernel
theorem cb_kb3 : ∀ a b c d e : Bool, ((cb_k a b c d e >>> (nI 3 &&& 31)) &&& 1) = cb_b d := by decide +kernel
theorem cb_kb4 : ∀ a b c d e : Bool, ((cb_k a b c d e >>> (nI 4 &&& 31)) &&& 1) = cb_b e := by decide +kernel
theorem cb_bit (p : Nat → Bool) {s : Nat} (hs : s < 5) : ((cb_m p 5 >>> (nI s &&& 31)) &&& 1) = cb_b (p s) := by
  rw [cb_mk]
  have h : s = 0 ∨ s = 1 ∨ s = 2 ∨ s = 3 ∨ s = 4 := by omega
  rcases h with rfl | rfl | rfl | rfl | rfl
  · exact cb_kb0 _ _ _ _ _
  · exact cb_kb1 _ _ _ _ _
  · exact cb_kb2 _ _ _ _ _
  · exact cb_kb3 _ _ _ _ _
  · exact cb_kb4 _ _ _ _ _
theorem cb_kand : ∀ a b c d e a' b' c' d' e' : Bool, cb_k a b c d e &&& cb_k a' b' c' d' e' = cb_k (a && a') (b && b') (c && c') (d && d') (e && e') := by decide +kernel
theorem cb_kandn : ∀ a b c d e a' b' c' d' e' : Bool, cb_k a b c d e &&& (cb_k a' b' c' d' e' ^^^ (-1)) = cb_k (a && !a') (b && !b') (c && !c') (d && !d') (e && !e') := by decide +kernel
theorem cb_kinj : ∀ a b c d e a' b' c' d' e' : Bool, cb_k a b c d e = cb_k a' b' c' d' e' → (a = a' ∧ b = b' ∧ c = c' ∧ d = d' ∧ e = e') := by decide +kernel
theorem cb_kd0 : ∀ a b c d e : Bool, cb_k a b c d e &&& (((1 : Int32) <<< (nI 0 &&& 31)) ^^^ (-1)) = cb_k false b c d e := by decide +kernel
theorem cb_kd1 : ∀ a b c d e : Bool, cb_k a b c d e &&& (((1 : Int32) <<< (nI 1 &&& 31)) ^^^ (-1)) = cb_k a false c d e := by decide +kernel
theorem cb_kd2 : ∀ a b c d e : Bool, cb_k a b c d e &&& (((1 : Int32) <<< (nI 2 &&& 31)) ^^^ (-1)) = cb_k a b false d e := by decide +kernel
theorem cb_kd3 : ∀ a b c d e : Bool, cb_k a b c d e &&& (((1 : Int32) <<< (nI 3 &&& 31)) ^^^ (-1)) = cb_k a b c false e := by decide +kernel
theorem cb_kd4 : ∀ a b c d e : Bool, cb_k a b c d e &&& (((1 : Int32) <<< (nI 4 &&& 31)) ^^^ (-1)) = cb_k a b c d false := by decide +kernel
theorem cb_and (p q : Nat → Bool) : cb_m p 5 &&& cb_m q 5 = cb_m (fun s => p s && q s) 5 := by
  rw [cb_mk p, cb_mk q, cb_mk]
  exact cb_kand _ _ _ _ _ _ _ _ _ _
theorem cb_andn (p q : Nat → Bool) : cb_m p 5 &&& (cb_m q 5 ^^^ (-1)) = cb_m (fun s => p s && !q s) 5 := by
  rw [cb_mk p, cb_mk q, cb_mk]
  exact cb_kandn _ _ _ _ _ _ _ _ _ _
theorem cb_del (p : Nat → Bool) {s : Nat} (hs : s < 5) : cb_m p 5 &&& (((1 : Int32) <<< (nI s &&& 31)) ^^^ (-1)) = cb_m (fun i => if i = s then false else p i) 5 := by
  rw [cb_mk p, cb_mk]
  have h : s = 0 ∨ s = 1 ∨ s = 2 ∨ s = 3 ∨ s = 4 := by omega
  rcases h with rfl | rfl | rfl | rfl | rfl
  · exact cb_kd0 _ _ _ _ _
  · exact cb_kd1 _ _ _ _ _
  · exact cb_kd2 _ _ _ _ _
  · exact cb_kd3 _ _ _ _ _
  · exact cb_kd4 _ _ _ _ _
theorem cb_m_ext {p q : Nat → Bool} (h : ∀ s, s < 5 → p s = q s) : cb_m p 5 = cb_m q 5 := by
  rw [cb_mk p, cb_mk q, h 0 (by decide), h 1 (by decide), h 2 (by decide), h 3 (by decide), h 4 (by decide)]
theorem cb_m_inj {p q : Nat → Bool} (e : cb_m p 5 = cb_m q 5) : ∀ s, s < 5 → p s = q s := by
  rw [cb_mk p, cb_mk q] at e
  obtain ⟨h0, h1, h2, h3, h4⟩ := cb_kinj _ _ _ _ _ _ _ _ _ _ e
  intro s hs
  have h : s = 0 ∨ s = 1 ∨ s = 2 ∨ s = 3 ∨ s = 4 := by omega
  rcases h with rfl | rfl | rfl | rfl | rfl <;> assumption
theorem cb_m_f : cb_m (fun _ => false) 5 = 0 := by decide +kernel
theorem cb_m_z {p : Nat → Bool} (h : ∀ s, s < 5 → p s = false) : cb_m p 5 = 0 := by
  rw [cb_m_ext (q := fun _ => false) h, cb_m_f]
theorem cb_m_nz {p : Nat → Bool} (e : cb_m p 5 = 0) : ∀ s, s < 5 → p s = false := cb_m_inj (q := fun _ => false) (e.trans cb_m_f.symm)
-- counts
def cb_i (b : Bool) : Nat := if b = true then 1 else 0
def cb_c (p : Nat → Bool) : Nat → Nat
  | 0 => 0
  | n + 1 => cb_c p n + cb_i (p n)
theorem cb_i_le (b : Bool) : cb_i b ≤ 1 := by cases b <;> decide
theorem cb_b_i (b : Bool) : cb_b b = nI (cb_i b) := by cases b <;> decide
theorem cb_c_le (p : Nat → Bool) : ∀ n, cb_c p n ≤ n := by
  intro n
  induction n with
  | zero => exact Nat.le_refl 0
  | succ n ih =>
    have h := cb_i_le (p n)
    show cb_c p n + cb_i (p n) ≤ n + 1
    omega
theorem cb_c_ext {p q : Nat → Bool} : ∀ n, (∀ i, i < n → p i = q i) → cb_c p n = cb_c q n := by
  intro n
  induction n with
  | zero => intro _; rfl
  | succ n ih =>
    intro h
    show cb_c p n + cb_i (p n) = cb_c q n + cb_i (q n)
    rw [ih (fun i hi => h i (by omega)), h n (by omega)]
theorem cb_c_p {p : Nat → Bool} : ∀ n i, i < n → p i = true → cb_c p n ≠ 0 := by
  intro n
  induction n with
  | zero => intro i hi; omega
  | succ n ih =>
    intro i hi hp
    show cb_c p n + cb_i (p n) ≠ 0
    by_cases h : i = n
    · subst h
      rw [hp]
      show cb_c p i + 1 ≠ 0
      omega
    · have := ih i (by omega) hp
      omega
theorem cb_c_z {p : Nat → Bool} : ∀ n, (∀ i, i < n → p i = false) → cb_c p n = 0 := by
  intro n
  induction n with
  | zero => intro _; rfl
  | succ n ih =>
    intro h
    show cb_c p n + cb_i (p n) = 0
    rw [ih (fun i hi => h i (by omega)), h n (by omega)]
    rfl
theorem cb_c_x {p : Nat → Bool} : ∀ n, cb_c p n ≠ 0 → ∃ i, i < n ∧ p i = true := by
  intro n
  induction n with
  | zero => intro h; exact absurd rfl h
  | succ n ih =>
    intro h
    cases hp : p n with
    | true => exact ⟨n, by omega, hp⟩
    | false =>
      have h2 : cb_c p n + cb_i (p n) ≠ 0 := h
      rw [hp] at h2
      obtain ⟨i, hi, e⟩ := ih h2
      exact ⟨i, by omega, e⟩
theorem cb_c_s {p q : Nat → Bool} {s : Nat} (hp : p s = false) (hq : q s = true) : ∀ n, s < n → (∀ i, i < n → i ≠ s → q i = p i) → cb_c q n = cb_c p n + 1 := by
  intro n
  induction n with
  | zero => intro h; omega
  | succ n ih =>
    intro h he
    show cb_c q n + cb_i (q n) = cb_c p n + cb_i (p n) + 1
    by_cases e : s = n
    · subst e
      rw [hp, hq, cb_c_ext s (fun i hi => he i (by omega) (by omega))]
      rfl
    · rw [ih (by omega) (fun i hi => he i (by omega)), he n (by omega) (by omega)]
      omega
-- the first server of a set
def cb_ps (ld : Nat → Nat) (n : Nat) : Option Nat → Option Nat
  | none => some n
  | some b => if ld n < ld b then some n else some b
def cb_pk (p : Nat → Bool) (ld : Nat → Nat) : Nat → Option Nat
  | 0 => none
  | n + 1 => if p n = true then cb_ps ld n (cb_pk p ld n) else cb_pk p ld n
theorem cb_pk_t {p : Nat → Bool} {ld : Nat → Nat} {n : Nat} (h : p n = true) : cb_pk p ld (n + 1) = cb_ps ld n (cb_pk p ld n) := if_pos h
theorem cb_pk_f {p : Nat → Bool} {ld : Nat → Nat} {n : Nat} (h : ¬ p n = true) : cb_pk p ld (n + 1) = cb_pk p ld n := if_neg h
theorem cb_ps_s (ld : Nat → Nat) (n : Nat) (o : Option Nat) : cb_ps ld n o = some n ∨ (cb_ps ld n o = o ∧ ∃ b, o = some b) := by
  cases o with
  | none => exact Or.inl rfl
  | some b =>
    by_cases h : ld n < ld b
    · exact Or.inl (if_pos h)
    · exact Or.inr ⟨if_neg h, b, rfl⟩
theorem cb_pk_some {p : Nat → Bool} {ld : Nat → Nat} : ∀ n s, cb_pk p ld n = some s → s < n ∧ p s = true := by
  intro n
  induction n with
  | zero => intro s h; exact nomatch h
  | succ n ih =>
    intro s h
    by_cases hp : p n = true
    · rw [cb_pk_t hp] at h
      rcases cb_ps_s ld n (cb_pk p ld n) with e | ⟨e, -⟩
      · rw [e] at h
        cases h
        exact ⟨by omega, hp⟩
      · rw [e] at h
        obtain ⟨a, b⟩ := ih s h
        exact ⟨by omega, b⟩
    · rw [cb_pk_f hp] at h
      obtain ⟨a, b⟩ := ih s h
      exact ⟨by omega, b⟩
theorem cb_pk_z {p : Nat → Bool} {ld : Nat → Nat} : ∀ n, (∀ i, i < n → p i = false) → cb_pk p ld n = none := by
  intro n
  induction n with
  | zero => intro _; rfl
  | succ n ih =>
    intro h
    rw [cb_pk_f (by rw [h n (by omega)]; decide)]
    exact ih (fun i hi => h i (by omega))
theorem cb_pk_n {p : Nat → Bool} {ld : Nat → Nat} : ∀ n, cb_pk p ld n = none → ∀ i, i < n → p i = false := by
  intro n
  induction n with
  | zero => intro _ i hi; omega
  | succ n ih =>
    intro h i hi
    by_cases hp : p n = true
    · rw [cb_pk_t hp] at h
      rcases cb_ps_s ld n (cb_pk p ld n) with e | ⟨e, b, eb⟩
      · rw [e] at h; exact nomatch h
      · rw [e, eb] at h; exact nomatch h
    · rw [cb_pk_f hp] at h
      by_cases e : i = n
      · rw [e]; exact Bool.eq_false_iff.mpr hp
      · exact ih h i (by omega)
theorem cb_pk_ext {p q : Nat → Bool} {ld : Nat → Nat} : ∀ n, (∀ i, i < n → p i = q i) → cb_pk p ld n = cb_pk q ld n := by
  intro n
  induction n with
  | zero => intro _; rfl
  | succ n ih =>
    intro h
    show (if p n = true then cb_ps ld n (cb_pk p ld n) else cb_pk p ld n) = (if q n = true then cb_ps ld n (cb_pk q ld n) else cb_pk q ld n)
    rw [ih (fun i hi => h i (by omega)), h n (by omega)]
def cb_oI : Option Nat → Int32
  | none => -1
  | some b => nI b
def cb_lI (ld : Nat → Nat) : Option Nat → Int32
  | none => 0
  | some b => nI (ld b)
-- filling a file
def cb_set (c : Nat → Nat → Bool) (s f : Nat) (x : Bool) : Nat → Nat → Bool := fun s' f' => if s' = s ∧ f' = f then x else c s' f'
theorem cb_set_s (c : Nat → Nat → Bool) (s f : Nat) (x : Bool) : cb_set c s f x s f = x := if_pos ⟨rfl, rfl⟩
theorem cb_set_n (c : Nat → Nat → Bool) {s f : Nat} (x : Bool) {s' f' : Nat} (h : ¬ (s' = s ∧ f' = f)) : cb_set c s f x s' f' = c s' f' := if_neg h
def cb_up {α : Type} (g : Nat → α) (k : Nat) (x : α) : Nat → α := fun i => if i = k then x else g i
theorem cb_up_s {α : Type} (g : Nat → α) (k : Nat) (x : α) : cb_up g k x k = x := if_pos rfl
theorem cb_up_n {α : Type} (g : Nat → α) {k : Nat} (x : α) {i : Nat} (h : i ≠ k) : cb_up g k x i = g i := if_neg h
def cb_ld (c : Nat → Nat → Bool) (s : Nat) : Nat := cb_c (fun f => c s f) 4
def cb_nx (U : Nat → Bool) (c : Nat → Nat → Bool) (f : Nat) : Option Nat := cb_pk (fun s => U s && !c s f) (cb_ld c) 5
def cb_hd (U : Nat → Bool) (c : Nat → Nat → Bool) (f : Nat) : Nat := cb_c (fun s => c s f && U s) 5
def cb_f1 (w : Nat) (U : Nat → Bool) (f : Nat) (z : (Nat → Nat → Bool) × Nat) : Option Nat → (Nat → Nat → Bool) × Nat
  | none => z
  | some s => if w ≤ cb_hd U z.1 f then z else (cb_set z.1 s f true, z.2 + 1)
def cb_fs (w : Nat) (U : Nat → Bool) (f : Nat) (z : (Nat → Nat → Bool) × Nat) : (Nat → Nat → Bool) × Nat := cb_f1 w U f z (cb_nx U z.1 f)
def cb_fn (w : Nat) (U : Nat → Bool) (f : Nat) : Nat → (Nat → Nat → Bool) × Nat → (Nat → Nat → Bool) × Nat
  | 0, z => z
  | n + 1, z => cb_fn w U f n (cb_fs w U f z)
theorem cb_fs_n {w : Nat} {U : Nat → Bool} {f : Nat} {z : (Nat → Nat → Bool) × Nat} (h : cb_nx U z.1 f = none) : cb_fs w U f z = z := by
  unfold cb_fs; rw [h]; rfl
theorem cb_fs_w {w : Nat} {U : Nat → Bool} {f : Nat} {z : (Nat → Nat → Bool) × Nat} (h : w ≤ cb_hd U z.1 f) : cb_fs w U f z = z := by
  unfold cb_fs
  cases cb_nx U z.1 f with
  | none => rfl
  | some s => exact if_pos h
theorem cb_fs_s {w : Nat} {U : Nat → Bool} {f : Nat} {z : (Nat → Nat → Bool) × Nat} {s : Nat} (e : cb_nx U z.1 f = some s) (h : ¬ w ≤ cb_hd U z.1 f) : cb_fs w U f z = (cb_set z.1 s f true, z.2 + 1) := by
  unfold cb_fs; rw [e]; exact if_neg h
theorem cb_nx_s {U : Nat → Bool} {c : Nat → Nat → Bool} {f s : Nat} (h : cb_nx U c f = some s) : s < 5 ∧ U s = true ∧ c s f = false := by
  obtain ⟨a, b⟩ := cb_pk_some _ _ h
  have b' : (U s && !c s f) = true := b
  refine ⟨a, ?_, ?_⟩
  · cases hU : U s with
    | true => rfl
    | false => rw [hU] at b'; exact nomatch b'
  · cases hc : c s f with
    | false => rfl
    | true => rw [hc, Bool.not_true, Bool.and_false] at b'; exact nomatch b'
theorem cb_hd_set {U : Nat → Bool} {c : Nat → Nat → Bool} {f s : Nat} (hs : s < 5) (hU : U s = true) (hc : c s f = false) : cb_hd U (cb_set c s f true) f = cb_hd U c f + 1 := by
  refine cb_c_s (s := s) ?_ ?_ 5 hs ?_
  · show (c s f && U s) = false
    rw [hc]; rfl
  · show (cb_set c s f true s f && U s) = true
    rw [cb_set_s, hU]; rfl
  · intro i _ hi
    show (cb_set c s f true i f && U i) = (c i f && U i)
    rw [cb_set_n _ _ (fun h => hi h.1)]
theorem cb_fn_x {w : Nat} {U : Nat → Bool} {f : Nat} {z : (Nat → Nat → Bool) × Nat} (h : cb_fs w U f z = z) : ∀ n, cb_fn w U f n z = z := by
  intro n
  induction n with
  | zero => rfl
  | succ n ih =>
    show cb_fn w U f n (cb_fs w U f z) = z
    rw [h, ih]
theorem cb_fn_g {w : Nat} {U : Nat → Bool} {f : Nat} : ∀ n m z, n ≤ m → (cb_fs w U f z = z ∨ w ≤ cb_hd U z.1 f + n) → cb_fn w U f n z = cb_fn w U f m z := by
  intro n
  induction n with
  | zero =>
    intro m z _ h
    have e : cb_fs w U f z = z := by
      rcases h with h | h
      · exact h
      · exact cb_fs_w h
    rw [cb_fn_x e, cb_fn_x e]
  | succ n ih =>
    intro m z hm h
    by_cases e : cb_fs w U f z = z
    · rw [cb_fn_x e, cb_fn_x e]
    · have h2 : w ≤ cb_hd U z.1 f + (n + 1) := h.resolve_left e
      obtain ⟨m, rfl⟩ : ∃ m', m = m' + 1 := ⟨m - 1, by omega⟩
      show cb_fn w U f n (cb_fs w U f z) = cb_fn w U f m (cb_fs w U f z)
      refine ih m _ (by omega) (Or.inr ?_)
      cases hn : cb_nx U z.1 f with
      | none => exact absurd (cb_fs_n hn) e
      | some s =>
        by_cases hw : w ≤ cb_hd U z.1 f
        · exact absurd (cb_fs_w hw) e
        · obtain ⟨a, b, c⟩ := cb_nx_s hn
          rw [cb_fs_s hn hw]
          show w ≤ cb_hd U (cb_set z.1 s f true) f + n
          rw [cb_hd_set a b c]
          omega
theorem cb_fn_w {w : Nat} (hw : w ≤ 3) (U : Nat → Bool) (f : Nat) (z : (Nat → Nat → Bool) × Nat) : cb_fn w U f w z = cb_fn w U f 5 z := cb_fn_g w 5 z (by omega) (Or.inr (by omega))
end
section
-- X's disks: a block each, or none, for server and file; what it holds; the holders' counts
abbrev dk_cv : Type := Int32 × Int32 × Int32 × (Nat → Int32)
def dk_w (cl : Nat → Int32) (b : Nat) : Nat → Int32 := fun i => if i < 6 then cl (b * 6 + i) else 0
def dk_e (x : Int32) (n : Nat) : Nat := if x = nI n then 1 else 0
def dk_n (bo : Nat → Int32) (s j : Nat) : Nat := dk_e (bo (s * 4 + 0)) (s * 4 + j) + dk_e (bo (s * 4 + 1)) (s * 4 + j) + dk_e (bo (s * 4 + 2)) (s * 4 + j) + dk_e (bo (s * 4 + 3)) (s * 4 + j)
def dk_v (bo vo cl ln ck : Nat → Int32) (s f : Nat) (o : Option dk_cv) : Prop :=
  (bo (s * 4 + f) = -1 ∧ o = none) ∨ ∃ j, j < 4 ∧ bo (s * 4 + f) = nI (s * 4 + j) ∧ o = some (vo (s * 4 + f), ln (s * 4 + j), ck (s * 4 + j), dk_w cl (s * 4 + j))
def dk_R (bo vo cl ln ck ho : Nat → Int32) (VA : Nat → Nat → Option dk_cv) : Prop :=
  (∀ s f, s < 5 → f < 4 → dk_v bo vo cl ln ck s f (VA s f)) ∧ (∀ s j, s < 5 → j < 4 → ho (s * 4 + j) = nI (dk_n bo s j))
def dk_u (VA : Nat → Nat → Option dk_cv) (s f : Nat) (o : Option dk_cv) : Nat → Nat → Option dk_cv := fun s' f' => if s' = s ∧ f' = f then o else VA s' f'
theorem dk_u_s (VA : Nat → Nat → Option dk_cv) (s f : Nat) (o : Option dk_cv) : dk_u VA s f o s f = o := if_pos ⟨rfl, rfl⟩
theorem dk_u_n (VA : Nat → Nat → Option dk_cv) {s f : Nat} (o : Option dk_cv) {s' f' : Nat} (h : ¬ (s' = s ∧ f' = f)) : dk_u VA s f o s' f' = VA s' f' := if_neg h
theorem dk_uu (VA : Nat → Nat → Option dk_cv) (s f : Nat) (o o' : Option dk_cv) : dk_u (dk_u VA s f o) s f o' = dk_u VA s f o' := by
  funext s' f'
  by_cases h : s' = s ∧ f' = f
  · obtain ⟨rfl, rfl⟩ := h
    rw [dk_u_s, dk_u_s]
  · rw [dk_u_n _ _ h, dk_u_n _ _ h, dk_u_n _ _ h]
theorem dk_u_id {VA : Nat → Nat → Option dk_cv} {s f : Nat} {o : Option dk_cv} (e : VA s f = o) : dk_u VA s f o = VA := by
  funext s' f'
  by_cases h : s' = s ∧ f' = f
  · obtain ⟨rfl, rfl⟩ := h
    rw [dk_u_s, e]
  · rw [dk_u_n _ _ h]
theorem dk_e_le (x : Int32) (n : Nat) : dk_e x n ≤ 1 := by
  unfold dk_e
  by_cases h : x = nI n
  · rw [if_pos h]; exact Nat.le_refl 1
  · rw [if_neg h]; exact Nat.zero_le 1
theorem dk_e_t {x : Int32} {n : Nat} (h : x = nI n) : dk_e x n = 1 := if_pos h
theorem dk_e_f {x : Int32} {n : Nat} (h : ¬ x = nI n) : dk_e x n = 0 := if_neg h
theorem dk_e_m {n : Nat} (h : n < 2 ^ 31) : dk_e (-1) n = 0 := if_neg (cb_neg n h)
theorem dk_e_n {a b : Nat} (ha : a < 2 ^ 31) (hb : b < 2 ^ 31) (h : a ≠ b) : dk_e (nI a) b = 0 := if_neg (fun e => h ((nI_eq ha hb).mp e))
theorem dk_e4 (x : Int32) {s : Nat} (hs : s < 5) : dk_e x (s * 4 + 0) + dk_e x (s * 4 + 1) + dk_e x (s * 4 + 2) + dk_e x (s * 4 + 3) ≤ 1 := by
  have h0 := dk_e_le x (s * 4 + 0)
  have h1 := dk_e_le x (s * 4 + 1)
  have h2 := dk_e_le x (s * 4 + 2)
  have h3 := dk_e_le x (s * 4 + 3)
  by_cases z0 : x = nI (s * 4 + 0)
  · rw [z0, dk_e_n (b := s * 4 + 1) (by omega) (by omega) (by omega), dk_e_n (b := s * 4 + 2) (by omega) (by omega) (by omega), dk_e_n (b := s * 4 + 3) (by omega) (by omega) (by omega)]
    rw [z0] at h0; omega
  · by_cases z1 : x = nI (s * 4 + 1)
    · rw [dk_e_f z0, z1, dk_e_n (b := s * 4 + 2) (by omega) (by omega) (by omega), dk_e_n (b := s * 4 + 3) (by omega) (by omega) (by omega)]
      rw [z1] at h1; omega
    · by_cases z2 : x = nI (s * 4 + 2)
      · rw [dk_e_f z0, dk_e_f z1, z2, dk_e_n (b := s * 4 + 3) (by omega) (by omega) (by omega)]
        rw [z2] at h2; omega
      · rw [dk_e_f z0, dk_e_f z1, dk_e_f z2]
        omega
theorem dk_n_o (bo : Nat → Int32) {s s' f : Nat} (j : Nat) (hf : f < 4) (x : Int32) (h : s' ≠ s) : dk_n (upd bo (s * 4 + f) x) s' j = dk_n bo s' j := by
  unfold dk_n
  rw [pk_un (j := s' * 4 + 0) (by omega), pk_un (j := s' * 4 + 1) (by omega), pk_un (j := s' * 4 + 2) (by omega), pk_un (j := s' * 4 + 3) (by omega)]
theorem dk_n_u (bo : Nat → Int32) (s j : Nat) {f : Nat} (hf : f < 4) (x : Int32) : dk_n (upd bo (s * 4 + f) x) s j + dk_e (bo (s * 4 + f)) (s * 4 + j) = dk_n bo s j + dk_e x (s * 4 + j) := by
  unfold dk_n
  have h : f = 0 ∨ f = 1 ∨ f = 2 ∨ f = 3 := by omega
  rcases h with rfl | rfl | rfl | rfl
  · rw [pk_us, pk_un (j := s * 4 + 1) (by omega), pk_un (j := s * 4 + 2) (by omega), pk_un (j := s * 4 + 3) (by omega)]; omega
  · rw [pk_us, pk_un (j := s * 4 + 0) (by omega), pk_un (j := s * 4 + 2) (by omega), pk_un (j := s * 4 + 3) (by omega)]; omega
  · rw [pk_us, pk_un (j := s * 4 + 0) (by omega), pk_un (j := s * 4 + 1) (by omega), pk_un (j := s * 4 + 3) (by omega)]; omega
  · rw [pk_us, pk_un (j := s * 4 + 0) (by omega), pk_un (j := s * 4 + 1) (by omega), pk_un (j := s * 4 + 2) (by omega)]; omega
theorem dk_n1 (bo : Nat → Int32) (s j : Nat) {f : Nat} (hf : f < 4) : dk_e (bo (s * 4 + f)) (s * 4 + j) ≤ dk_n bo s j := by
  unfold dk_n
  have h : f = 0 ∨ f = 1 ∨ f = 2 ∨ f = 3 := by omega
  rcases h with rfl | rfl | rfl | rfl <;> omega
theorem dk_n2 (bo : Nat → Int32) (s j : Nat) {f g : Nat} (hf : f < 4) (hg : g < 4) (hn : f ≠ g) : dk_e (bo (s * 4 + f)) (s * 4 + j) + dk_e (bo (s * 4 + g)) (s * 4 + j) ≤ dk_n bo s j := by
  unfold dk_n
  have h : f = 0 ∨ f = 1 ∨ f = 2 ∨ f = 3 := by omega
  have h' : g = 0 ∨ g = 1 ∨ g = 2 ∨ g = 3 := by omega
  rcases h with rfl | rfl | rfl | rfl <;> rcases h' with rfl | rfl | rfl | rfl <;> omega
theorem dk_n4 (bo : Nat → Int32) (s j : Nat) : dk_n bo s j ≤ 4 := by
  unfold dk_n
  have h0 := dk_e_le (bo (s * 4 + 0)) (s * 4 + j)
  have h1 := dk_e_le (bo (s * 4 + 1)) (s * 4 + j)
  have h2 := dk_e_le (bo (s * 4 + 2)) (s * 4 + j)
  have h3 := dk_e_le (bo (s * 4 + 3)) (s * 4 + j)
  omega
theorem dk_tot (bo : Nat → Int32) {s : Nat} (hs : s < 5) : dk_n bo s 0 + dk_n bo s 1 + dk_n bo s 2 + dk_n bo s 3 ≤ 4 := by
  unfold dk_n
  have h0 := dk_e4 (bo (s * 4 + 0)) hs
  have h1 := dk_e4 (bo (s * 4 + 1)) hs
  have h2 := dk_e4 (bo (s * 4 + 2)) hs
  have h3 := dk_e4 (bo (s * 4 + 3)) hs
  omega
theorem dk_tot3 (bo : Nat → Int32) {s f : Nat} (hs : s < 5) (hf : f < 4) (hb : bo (s * 4 + f) = -1) : dk_n bo s 0 + dk_n bo s 1 + dk_n bo s 2 + dk_n bo s 3 ≤ 3 := by
  have k0 : dk_e (bo (s * 4 + f)) (s * 4 + 0) = 0 := by rw [hb]; exact dk_e_m (by omega)
  have k1 : dk_e (bo (s * 4 + f)) (s * 4 + 1) = 0 := by rw [hb]; exact dk_e_m (by omega)
  have k2 : dk_e (bo (s * 4 + f)) (s * 4 + 2) = 0 := by rw [hb]; exact dk_e_m (by omega)
  have k3 : dk_e (bo (s * 4 + f)) (s * 4 + 3) = 0 := by rw [hb]; exact dk_e_m (by omega)
  have h0 := dk_e4 (bo (s * 4 + 0)) hs
  have h1 := dk_e4 (bo (s * 4 + 1)) hs
  have h2 := dk_e4 (bo (s * 4 + 2)) hs
  have h3 := dk_e4 (bo (s * 4 + 3)) hs
  clear hb
  unfold dk_n
  have h : f = 0 ∨ f = 1 ∨ f = 2 ∨ f = 3 := by omega
  rcases h with rfl | rfl | rfl | rfl <;> omega
theorem dk_some4 {P : Nat → Nat} (h : P 0 = 0 ∨ P 1 = 0 ∨ P 2 = 0 ∨ P 3 = 0) : ∃ j, j < 4 ∧ P j = 0 := by
  rcases h with h | h | h | h
  · exact ⟨0, by omega, h⟩
  · exact ⟨1, by omega, h⟩
  · exact ⟨2, by omega, h⟩
  · exact ⟨3, by omega, h⟩
theorem dk_free1 (bo : Nat → Int32) {s f : Nat} (hs : s < 5) (hf : f < 4) (hb : bo (s * 4 + f) = -1) : ∃ j, j < 4 ∧ dk_n bo s j = 0 := by
  have h := dk_tot3 bo hs hf hb
  exact dk_some4 (P := fun j => dk_n bo s j) (by show dk_n bo s 0 = 0 ∨ dk_n bo s 1 = 0 ∨ dk_n bo s 2 = 0 ∨ dk_n bo s 3 = 0; omega)
theorem dk_free2 (bo : Nat → Int32) {s j : Nat} (hs : s < 5) (hj : j < 4) (hb : 2 ≤ dk_n bo s j) : ∃ j, j < 4 ∧ dk_n bo s j = 0 := by
  have h := dk_tot bo hs
  have h' : j = 0 ∨ j = 1 ∨ j = 2 ∨ j = 3 := by omega
  refine dk_some4 (P := fun j => dk_n bo s j) (?_ : dk_n bo s 0 = 0 ∨ dk_n bo s 1 = 0 ∨ dk_n bo s 2 = 0 ∨ dk_n bo s 3 = 0)
  rcases h' with rfl | rfl | rfl | rfl <;> omega
theorem dk_sole {bo : Nat → Int32} {s j f g : Nat} (hf : f < 4) (hg : g < 4) (h1 : dk_n bo s j = 1) (hb : bo (s * 4 + f) = nI (s * 4 + j)) (hc : bo (s * 4 + g) = nI (s * 4 + j)) : g = f := by
  by_cases e : g = f
  · exact e
  · have := dk_n2 bo s j hg hf e
    rw [dk_e_t hb, dk_e_t hc] at this
    omega
-- what a picture tells
theorem dk_none {bo vo cl ln ck ho : Nat → Int32} {VA : Nat → Nat → Option dk_cv} (h : dk_R bo vo cl ln ck ho VA) {s f : Nat} (hs : s < 5) (hf : f < 4) (e : VA s f = none) : bo (s * 4 + f) = -1 := by
  rcases h.1 s f hs hf with ⟨a, _⟩ | ⟨j, _, _, b⟩
  · exact a
  · rw [e] at b; exact nomatch b
theorem dk_some {bo vo cl ln ck ho : Nat → Int32} {VA : Nat → Nat → Option dk_cv} (h : dk_R bo vo cl ln ck ho VA) {s f : Nat} (hs : s < 5) (hf : f < 4) {q l k : Int32} {t : Nat → Int32} (e : VA s f = some (q, l, k, t)) :
    ∃ j, j < 4 ∧ bo (s * 4 + f) = nI (s * 4 + j) ∧ vo (s * 4 + f) = q ∧ ln (s * 4 + j) = l ∧ ck (s * 4 + j) = k ∧ dk_w cl (s * 4 + j) = t := by
  rcases h.1 s f hs hf with ⟨_, a⟩ | ⟨j, hj, hb, b⟩
  · rw [e] at a; exact nomatch a
  · rw [e] at b
    injection b with b
    injection b with b1 b
    injection b with b2 b
    injection b with b3 b4
    exact ⟨j, hj, hb, b1.symm, b2.symm, b3.symm, b4.symm⟩
theorem dk_R_ext {bo vo cl ln ck ho : Nat → Int32} {VA VB : Nat → Nat → Option dk_cv} (h : dk_R bo vo cl ln ck ho VA) (e : ∀ s f, s < 5 → f < 4 → VB s f = VA s f) : dk_R bo vo cl ln ck ho VB :=
  ⟨fun s f hs hf => by rw [e s f hs hf]; exact h.1 s f hs hf, h.2⟩
-- stores
def dk_f (b0 : Nat) (cl ln ck cl' ln' ck' : Nat → Int32) : Prop := ∀ b, b ≠ b0 → ln' b = ln b ∧ ck' b = ck b ∧ dk_w cl' b = dk_w cl b
theorem dk_wr {bo vo cl ln ck ho cl' ln' ck' : Nat → Int32} {VA : Nat → Nat → Option dk_cv} {s f j : Nat} (h : dk_R bo vo cl ln ck ho VA) (hs : s < 5) (hf : f < 4) (hj : j < 4) (hb : bo (s * 4 + f) = nI (s * 4 + j)) (h1 : dk_n bo s j = 1) (hw : dk_f (s * 4 + j) cl ln ck cl' ln' ck') :
    dk_R bo vo cl' ln' ck' ho (dk_u VA s f (some (vo (s * 4 + f), ln' (s * 4 + j), ck' (s * 4 + j), dk_w cl' (s * 4 + j)))) := by
  refine ⟨?_, h.2⟩
  intro s' f' hs' hf'
  by_cases e : s' = s ∧ f' = f
  · obtain ⟨rfl, rfl⟩ := e
    rw [dk_u_s]
    exact Or.inr ⟨j, hj, hb, rfl⟩
  · rw [dk_u_n _ _ e]
    rcases h.1 s' f' hs' hf' with ⟨a, b⟩ | ⟨i, hi, a, b⟩
    · exact Or.inl ⟨a, b⟩
    · refine Or.inr ⟨i, hi, a, ?_⟩
      have hne : s' * 4 + i ≠ s * 4 + j := by
        intro hq
        have q1 : s' = s := by omega
        have q2 : i = j := by omega
        subst q1 q2
        exact e ⟨rfl, dk_sole hf hf' h1 hb a⟩
      obtain ⟨w1, w2, w3⟩ := hw _ hne
      rw [b, w1, w2, w3]
theorem dk_wr0 {bo vo cl ln ck ho cl' ln' ck' : Nat → Int32} {VA : Nat → Nat → Option dk_cv} {s j : Nat} (h : dk_R bo vo cl ln ck ho VA) (hj : j < 4) (h0 : dk_n bo s j = 0) (hw : dk_f (s * 4 + j) cl ln ck cl' ln' ck') :
    dk_R bo vo cl' ln' ck' ho VA := by
  refine ⟨?_, h.2⟩
  intro s' f' hs' hf'
  rcases h.1 s' f' hs' hf' with ⟨a, b⟩ | ⟨i, hi, a, b⟩
  · exact Or.inl ⟨a, b⟩
  · refine Or.inr ⟨i, hi, a, ?_⟩
    have hne : s' * 4 + i ≠ s * 4 + j := by
      intro hq
      have q1 : s' = s := by omega
      have q2 : i = j := by omega
      subst q1 q2
      have := dk_n1 bo s' i hf'
      rw [dk_e_t a] at this
      omega
    obtain ⟨w1, w2, w3⟩ := hw _ hne
    rw [b, w1, w2, w3]
theorem dk_put {bo vo cl ln ck ho vo' ho' : Nat → Int32} {VA : Nat → Nat → Option dk_cv} {s f : Nat} (h : dk_R bo vo cl ln ck ho VA) (hs : s < 5) (hf : f < 4) (x : Int32) (o : Option dk_cv)
    (hv : ∀ i, i ≠ s * 4 + f → vo' i = vo i) (hx : dk_v (upd bo (s * 4 + f) x) vo' cl ln ck s f o)
    (h1 : ∀ j, j < 4 → ho' (s * 4 + j) = nI (dk_n (upd bo (s * 4 + f) x) s j)) (h2 : ∀ s' j, s' ≠ s → j < 4 → ho' (s' * 4 + j) = ho (s' * 4 + j)) :
    dk_R (upd bo (s * 4 + f) x) vo' cl ln ck ho' (dk_u VA s f o) := by
  constructor
  · intro s' f' hs' hf'
    by_cases e : s' = s ∧ f' = f
    · obtain ⟨rfl, rfl⟩ := e
      rw [dk_u_s]
      exact hx
    · rw [dk_u_n _ _ e]
      have hne : s' * 4 + f' ≠ s * 4 + f := by
        intro hq
        exact e ⟨by omega, by omega⟩
      unfold dk_v
      rw [pk_un hne, hv _ hne]
      exact h.1 s' f' hs' hf'
  · intro s' j hs' hj
    by_cases e : s' = s
    · subst e
      exact h1 j hj
    · rw [h2 s' j e hj, dk_n_o bo j hf x e]
      exact h.2 s' j hs' hj
theorem dk_ver {bo vo cl ln ck ho : Nat → Int32} {VA : Nat → Nat → Option dk_cv} {s f : Nat} (h : dk_R bo vo cl ln ck ho VA) (hs : s < 5) (hf : f < 4) {q l k : Int32} {t : Nat → Int32} (e : VA s f = some (q, l, k, t)) (q' : Int32) :
    dk_R bo (upd vo (s * 4 + f) q') cl ln ck ho (dk_u VA s f (some (q', l, k, t))) := by
  obtain ⟨j, hj, hb, _, rfl, rfl, rfl⟩ := dk_some h hs hf e
  have K := dk_put (vo' := upd vo (s * 4 + f) q') (ho' := ho) h hs hf (bo (s * 4 + f)) (some (q', ln (s * 4 + j), ck (s * 4 + j), dk_w cl (s * 4 + j))) (fun i hi => pk_un hi)
    (by rw [cb_us]; exact Or.inr ⟨j, hj, hb, by rw [pk_us]⟩) (by rw [cb_us]; exact fun j' hj' => h.2 s j' hs hj') (fun _ _ _ _ => rfl)
  rw [cb_us] at K
  exact K
-- the sum
def dk_s (t : Nat → Int32) (l : Int32) : Nat → Int32
  | 0 => 29 + l
  | n + 1 => dk_s t l n * 16777619 + t n
theorem dk_s_ext {t t' : Nat → Int32} (l : Int32) : ∀ n, (∀ i, i < n → t i = t' i) → dk_s t l n = dk_s t' l n := by
  intro n
  induction n with
  | zero => intro _; rfl
  | succ n ih =>
    intro h
    show dk_s t l n * 16777619 + t n = dk_s t' l n * 16777619 + t' n
    rw [ih (fun i hi => h i (by omega)), h n (by omega)]
theorem dk_add_inj {x y a : Int32} (h : x + a = y + a) : x = y := by
  have := congrArg (fun z => z - a) h
  simpa only [Int32.add_sub_cancel] using this
theorem dk_inv : (16777619 : Int32) * 899433627 = 1 := by decide +kernel
theorem dk_mul_inj {x y : Int32} (h : x * 16777619 = y * 16777619) : x = y := by
  have := congrArg (fun z => z * (899433627 : Int32)) h
  simpa only [Int32.mul_assoc, dk_inv, Int32.mul_one] using this
theorem dk_s_inj {t t' : Nat → Int32} {l l' : Int32} {n : Nat} (h : dk_s t l n ≠ dk_s t' l' n) (e : t n = t' n) : dk_s t l (n + 1) ≠ dk_s t' l' (n + 1) := by
  intro q
  have q' : dk_s t l n * 16777619 + t n = dk_s t' l' n * 16777619 + t' n := q
  rw [e] at q'
  exact h (dk_mul_inj (dk_add_inj q'))
theorem dk_xor (x : Int32) : x ^^^ 1 ≠ x := by
  intro h
  have h2 : (x ^^^ 1).toBitVec = x.toBitVec := congrArg Int32.toBitVec h
  rw [Int32.toBitVec_xor] at h2
  have h3 : (x.toBitVec ^^^ (1 : Int32).toBitVec).getLsbD 0 = x.toBitVec.getLsbD 0 := congrArg (fun z => BitVec.getLsbD z 0) h2
  rw [BitVec.getLsbD_xor, show (1 : Int32).toBitVec.getLsbD 0 = true by decide] at h3
  cases hb : x.toBitVec.getLsbD 0 <;> rw [hb] at h3 <;> exact nomatch h3
theorem dk_dam (t : Nat → Int32) (l : Int32) : dk_s (upd t 0 (t 0 ^^^ 1)) l 6 ≠ dk_s t l 6 := by
  have h1 : dk_s (upd t 0 (t 0 ^^^ 1)) l 1 ≠ dk_s t l 1 := by
    intro q
    have q' : (29 + l) * 16777619 + upd t 0 (t 0 ^^^ 1) 0 = (29 + l) * 16777619 + t 0 := q
    rw [pk_us, Int32.add_comm, Int32.add_comm ((29 + l) * 16777619)] at q'
    exact dk_xor _ (dk_add_inj q')
  have h2 := dk_s_inj h1 (pk_un (by decide))
  have h3 := dk_s_inj h2 (pk_un (by decide))
  have h4 := dk_s_inj h3 (pk_un (by decide))
  have h5 := dk_s_inj h4 (pk_un (by decide))
  exact dk_s_inj h5 (pk_un (by decide))
-- cells
theorem dk_w_u (cl : Nat → Int32) (b : Nat) {i : Nat} (hi : i < 6) (x : Int32) : dk_w (upd cl (b * 6 + i) x) b = upd (dk_w cl b) i x := by
  funext j
  unfold dk_w
  by_cases h : j = i
  · subst h
    rw [if_pos hi, pk_us, pk_us]
  · rw [pk_un h, pk_un (by omega)]
theorem dk_w_o (cl : Nat → Int32) {b b' : Nat} (h : b' ≠ b) {i : Nat} (hi : i < 6) (x : Int32) : dk_w (upd cl (b * 6 + i) x) b' = dk_w cl b' := by
  funext j
  unfold dk_w
  by_cases hj : j < 6
  · rw [if_pos hj, if_pos hj, pk_un (by omega)]
  · rw [if_neg hj, if_neg hj]
theorem dk_w_at (cl : Nat → Int32) (b : Nat) {i : Nat} (hi : i < 6) : dk_w cl b i = cl (b * 6 + i) := if_pos hi
-- who is current
def dk_c (e vr : Int32) : Option dk_cv → Bool
  | none => false
  | some (q, l, k, t) => decide (¬ e = 0) && (decide (q = vr) && decide (dk_s t l 6 = k))
end
section
section dx
variable {fc fl : Int32} {up ex ver bo vo cl ln ck ho : Nat → Int32} {VA : Nat → Nat → Option dk_cv} {s f : Nat}
-- sumOf
theorem dx_sum_l {post : Int32 → Prop} {b : Nat} (hb : b < 20) (K : post (dk_s (dk_w cl b) (ln b) 6)) : ∀ d i, i + d = 6 → wX_sumOf_12 post (nI b) fc fl up ex ver bo vo cl ln ck ho (d + 1) (dk_s (dk_w cl b) (ln b) i) (nI i) := by
  intro d
  induction d with
  | zero =>
    intro i hi
    obtain rfl : i = 6 := by omega
    exact br_t cb_e6 K
  | succ d ih =>
    intro i hi
    refine br_f (cb_l6 (by omega)) ⟨?_, nm_r (e' := dk_s (dk_w cl b) (ln b) (i + 1)) ?_ (nm_r (nI_1 i) (ih (i + 1) (by omega)))⟩
    · rw [cb_x6]; exact vp_in_nI (by omega) (by omega)
    · rw [cb_x6, nI_clamp (by omega)]
      show _ = dk_s (dk_w cl b) (ln b) i * 16777619 + dk_w cl b i
      rw [dk_w_at cl b (by omega)]
theorem dx_sum {post : Int32 → Prop} {b : Nat} (hb : b < 20) (K : post (dk_s (dk_w cl b) (ln b) 6)) : wpX_sumOf post (fc, fl, up, ex, ver, bo, vo, cl, ln, ck, ho) (nI b) := by
  have e : (nI b).toNatClampNeg = b := nI_clamp (by omega)
  refine ⟨vp_in_nI hb (by omega), nm_r (e' := dk_s (dk_w cl b) (ln b) 0) ?_ ⟨7, ?_⟩⟩
  · rw [e]; rfl
  · exact dx_sum_l hb K 6 0 rfl
-- letGo
theorem dx_letGo {post : SX → Prop} (h : dk_R bo vo cl ln ck ho VA) (hs : s < 5) (hf : f < 4) (K : ∀ bo' ho', dk_R bo' vo cl ln ck ho' (dk_u VA s f none) → post (fc, fl, up, ex, ver, bo', vo, cl, ln, ck, ho')) : wpX_letGo post (fc, fl, up, ex, ver, bo, vo, cl, ln, ck, ho) (nI s) (nI f) := by
  have e1 := cb_x4 s f
  have e2 : (nI (s * 4 + f)).toNatClampNeg = s * 4 + f := nI_clamp (by omega)
  have e3 : vp_in (nI (s * 4 + f)) 20 := vp_in_nI (by omega) (by omega)
  simp only [wpX_letGo, wX_letGo_25, e1, e2]
  refine ⟨e3, nm_e ?_⟩
  rcases h.1 s f hs hf with ⟨hb, hv⟩ | ⟨j, hj, hb, hv⟩
  · rw [hb]
    refine br_t (by decide) ⟨e3, nm_e (K _ _ ?_)⟩
    refine dk_put h hs hf (-1) none (fun _ _ => rfl) (Or.inl ⟨pk_us, rfl⟩) ?_ (fun _ _ _ _ => rfl)
    intro j' hj'
    have q := dk_n_u bo s j' hf (-1)
    rw [hb] at q
    rw [h.2 s j' hs hj']
    exact congrArg nI (by omega)
  · rw [hb]
    have e4 : (nI (s * 4 + j)).toNatClampNeg = s * 4 + j := nI_clamp (by omega)
    have e5 : vp_in (nI (s * 4 + j)) 20 := vp_in_nI (by omega) (by omega)
    rw [e4]
    refine br_f (nI_pos (by omega)) ⟨e5, e5, nm_e ⟨e3, nm_e (K _ _ ?_)⟩⟩
    refine dk_put h hs hf (-1) none (fun _ _ => rfl) (Or.inl ⟨pk_us, rfl⟩) ?_ ?_
    · intro j' hj'
      have q := dk_n_u bo s j' hf (-1)
      rw [dk_e_m (by omega)] at q
      by_cases e : j' = j
      · subst e
        rw [hb, dk_e_t rfl] at q
        have q' : dk_n bo s j' = dk_n (upd bo (s * 4 + f) (-1)) s j' + 1 := by omega
        rw [pk_us, h.2 s j' hs hj', q']
        exact nI_pred _
      · rw [hb, dk_e_n (by omega) (by omega) (by omega)] at q
        rw [pk_un (by omega), h.2 s j' hs hj']
        exact congrArg nI (by omega)
    · intro s' j' hne hj'
      exact pk_un (by omega)
-- freeBlock
theorem dx_free_l (h : dk_R bo vo cl ln ck ho VA) (hs : s < 5) (hz : ∃ j, j < 4 ∧ dk_n bo s j = 0) : ∀ d i, i + d = 3 → (∀ j, j < i → dk_n bo s j ≠ 0) →
    ∃ j, j < 4 ∧ dk_n bo s j = 0 ∧ ∀ post : Int32 → Prop, post (nI (s * 4 + j)) → wX_freeBlock_4 post (nI s) fc fl up ex ver bo vo cl ln ck ho (d + 1) (nI (s * 4 + i)) := by
  intro d
  induction d with
  | zero =>
    intro i hi hn
    obtain rfl : i = 3 := by omega
    obtain ⟨j, hj, h0⟩ := hz
    have hj3 : j = 3 := by
      by_cases e : j = 3
      · exact e
      · exact absurd h0 (hn j (by omega))
    subst hj3
    refine ⟨3, by omega, h0, fun post K => br_t ?_ K⟩
    rw [cb_fb]
    exact nI_le (by omega) (by omega)
  | succ d ih =>
    intro i hi hn
    have b1 : ¬ (nI s * 4 + 4 - 1) ≤ nI (s * 4 + i) := by
      rw [cb_fb]; exact nI_ge (by omega) (by omega)
    have b2 : vp_in (nI (s * 4 + i)) 20 := vp_in_nI (by omega) (by omega)
    have b3 : ho (nI (s * 4 + i)).toNatClampNeg = nI (dk_n bo s i) := by
      rw [nI_clamp (by omega)]; exact h.2 s i hs (by omega)
    by_cases h0 : dk_n bo s i = 0
    · refine ⟨i, by omega, h0, fun post K => br_f b1 ⟨b2, br_t ?_ K⟩⟩
      rw [b3, h0]; decide
    · have b4 : ¬ ho (nI (s * 4 + i)).toNatClampNeg ≤ 0 := by
        rw [b3]
        have := dk_n4 bo s i
        exact nI_nle (by omega) (by omega)
      obtain ⟨j, hj, hj0, H⟩ := ih (i + 1) (by omega) (fun j hj => by
        by_cases e : j = i
        · rw [e]; exact h0
        · exact hn j (by omega))
      exact ⟨j, hj, hj0, fun post K => br_f b1 ⟨b2, br_f b4 (nm_r (nI_1 _) (H post K))⟩⟩
theorem dx_free (h : dk_R bo vo cl ln ck ho VA) (hs : s < 5) (hz : ∃ j, j < 4 ∧ dk_n bo s j = 0) :
    ∃ j, j < 4 ∧ dk_n bo s j = 0 ∧ ∀ post : Int32 → Prop, post (nI (s * 4 + j)) → wpX_freeBlock post (fc, fl, up, ex, ver, bo, vo, cl, ln, ck, ho) (nI s) := by
  obtain ⟨j, hj, h0, H⟩ := dx_free_l (fc := fc) (fl := fl) (up := up) (ex := ex) (ver := ver) h hs hz 3 0 rfl (fun j hj => absurd hj (by omega))
  exact ⟨j, hj, h0, fun post K => nm_r (cb_y4 s) ⟨4, H post K⟩⟩
-- copyBlock
theorem dx_copy_l {post : SX → Prop} {a b : Nat} (ha : a < 20) (hb : b < 20) (hab : a ≠ b)
    (K : ∀ cl', dk_w cl' b = dk_w cl a → (∀ b', b' ≠ b → dk_w cl' b' = dk_w cl b') → post (fc, fl, up, ex, ver, bo, vo, cl', (upd ln b (ln a)), (upd ck b (ck a)), ho)) :
    ∀ d i cl', i + d = 6 → (∀ c, c < i → cl' (b * 6 + c) = cl (a * 6 + c)) → (∀ x, (x < b * 6 ∨ b * 6 + 6 ≤ x) → cl' x = cl x) →
      wX_copyBlock_2 post (nI a) (nI b) fc fl (d + 1) (nI i) up ex ver bo vo cl' ln ck ho := by
  have va : vp_in (nI a) 20 := vp_in_nI ha (by omega)
  have vb : vp_in (nI b) 20 := vp_in_nI hb (by omega)
  have ea : (nI a).toNatClampNeg = a := nI_clamp (by omega)
  have eb : (nI b).toNatClampNeg = b := nI_clamp (by omega)
  intro d
  induction d with
  | zero =>
    intro i cl' hi h1 h2
    obtain rfl : i = 6 := by omega
    refine br_t cb_e6 ⟨va, vb, ?_⟩
    rw [ea, eb]
    refine nm_e ⟨va, vb, nm_e (K cl' ?_ ?_)⟩
    · funext c
      unfold dk_w
      by_cases hc : c < 6
      · rw [if_pos hc, if_pos hc]; exact h1 c hc
      · rw [if_neg hc, if_neg hc]
    · intro b' hb'
      funext c
      unfold dk_w
      by_cases hc : c < 6
      · rw [if_pos hc, if_pos hc]; exact h2 _ (by omega)
      · rw [if_neg hc, if_neg hc]
  | succ d ih =>
    intro i cl' hi h1 h2
    have v1 : vp_in (nI a * 6 + nI i) 120 := by rw [cb_x6]; exact vp_in_nI (by omega) (by omega)
    have v2 : vp_in (nI b * 6 + nI i) 120 := by rw [cb_x6]; exact vp_in_nI (by omega) (by omega)
    have e1 : (nI a * 6 + nI i).toNatClampNeg = a * 6 + i := by rw [cb_x6]; exact nI_clamp (by omega)
    have e2 : (nI b * 6 + nI i).toNatClampNeg = b * 6 + i := by rw [cb_x6]; exact nI_clamp (by omega)
    refine br_f (cb_l6 (by omega)) ⟨v1, v2, ?_⟩
    rw [e1, e2]
    refine nm_e (nm_r (nI_1 i) (ih (i + 1) _ (by omega) ?_ ?_))
    · intro c hc
      by_cases e : c = i
      · subst e
        rw [pk_us]
        exact h2 _ (by omega)
      · rw [pk_un (by omega)]
        exact h1 c (by omega)
    · intro x hx
      rw [pk_un (by omega)]
      exact h2 x hx
theorem dx_copy {post : SX → Prop} {a b : Nat} (ha : a < 20) (hb : b < 20) (hab : a ≠ b)
    (K : ∀ cl', dk_w cl' b = dk_w cl a → (∀ b', b' ≠ b → dk_w cl' b' = dk_w cl b') → post (fc, fl, up, ex, ver, bo, vo, cl', (upd ln b (ln a)), (upd ck b (ck a)), ho)) :
    wpX_copyBlock post (fc, fl, up, ex, ver, bo, vo, cl, ln, ck, ho) (nI a) (nI b) :=
  ⟨7, dx_copy_l ha hb hab K 6 0 cl rfl (fun c hc => absurd hc (by omega)) (fun _ _ => rfl)⟩
-- ownBlock
theorem dx_own {post : Int32 → SX → Prop} (h : dk_R bo vo cl ln ck ho VA) (hs : s < 5) (hf : f < 4) {q l k : Int32} {t : Nat → Int32} (hv : VA s f = some (q, l, k, t))
    (K : ∀ j bo' cl' ln' ck' ho', j < 4 → dk_R bo' vo cl' ln' ck' ho' VA → bo' (s * 4 + f) = nI (s * 4 + j) → dk_n bo' s j = 1 → post (nI (s * 4 + j)) (fc, fl, up, ex, ver, bo', vo, cl', ln', ck', ho')) :
    wpX_ownBlock post (fc, fl, up, ex, ver, bo, vo, cl, ln, ck, ho) (nI s) (nI f) := by
  obtain ⟨j, hj, hb, hq, hl, hk, ht⟩ := dk_some h hs hf hv
  have e1 := cb_x4 s f
  have e2 : (nI (s * 4 + f)).toNatClampNeg = s * 4 + f := nI_clamp (by omega)
  have e3 : vp_in (nI (s * 4 + f)) 20 := vp_in_nI (by omega) (by omega)
  have e4 : (nI (s * 4 + j)).toNatClampNeg = s * 4 + j := nI_clamp (by omega)
  have e5 : vp_in (nI (s * 4 + j)) 20 := vp_in_nI (by omega) (by omega)
  have e6 := h.2 s j hs hj
  have n4 := dk_n4 bo s j
  simp only [wpX_ownBlock, e1, e2]
  refine ⟨e3, nm_r hb ⟨e5, ?_⟩⟩
  rw [e4]
  by_cases h1 : dk_n bo s j = 1
  · rw [e6, h1]
    exact br_t rfl (K j bo cl ln ck ho hj h hb h1)
  · have n1 := dk_n1 bo s j hf
    rw [dk_e_t hb] at n1
    obtain ⟨i, hi, h0, H⟩ := dx_free (fc := fc) (fl := fl) (up := up) (ex := ex) (ver := ver) h hs (dk_free2 bo hs hj (by omega))
    have hne : ¬ ho (s * 4 + j) = 1 := by
      rw [e6]
      intro z
      exact h1 ((nI_eq (b := 1) (by omega) (by omega)).mp z)
    have hij : i ≠ j := by
      intro z
      subst z
      omega
    refine br_f hne (H _ ?_)
    refine dx_copy (by omega) (by omega) (by omega) ?_
    intro cl' c1 c2
    have e7 : (nI (s * 4 + i)).toNatClampNeg = s * 4 + i := nI_clamp (by omega)
    have e8 : vp_in (nI (s * 4 + i)) 20 := vp_in_nI (by omega) (by omega)
    dsimp only
    rw [e7]
    refine ⟨e5, e5, nm_e ⟨e8, nm_e ⟨e3, nm_e ?_⟩⟩⟩
    have D1 : dk_R bo vo cl' (upd ln (s * 4 + i) (ln (s * 4 + j))) (upd ck (s * 4 + i) (ck (s * 4 + j))) ho VA :=
      dk_wr0 h hi h0 (fun b hb => ⟨pk_un hb, pk_un hb, c2 b hb⟩)
    have D2 := dk_put (vo' := vo) (ho' := upd (upd ho (s * 4 + j) (ho (s * 4 + j) - 1)) (s * 4 + i) 1) D1 hs hf (nI (s * 4 + i)) (some (q, l, k, t)) (fun _ _ => rfl)
      (Or.inr ⟨i, hi, pk_us, by rw [pk_us, pk_us, c1, hq, hl, hk, ht]⟩)
      (by
        intro j' hj'
        have q := dk_n_u bo s j' hf (nI (s * 4 + i))
        by_cases z1 : j' = i
        · subst z1
          rw [pk_us]
          rw [dk_e_t (x := nI (s * 4 + j')) rfl, hb, dk_e_n (by omega) (by omega) (by omega), h0] at q
          exact congrArg nI (by omega : 1 = _)
        · rw [pk_un (by omega)]
          rw [dk_e_n (a := s * 4 + i) (by omega) (by omega) (by omega), hb] at q
          by_cases z2 : j' = j
          · subst z2
            rw [dk_e_t rfl] at q
            rw [pk_us, e6, ← (by omega : dk_n (upd bo (s * 4 + f) (nI (s * 4 + i))) s j' + 1 = dk_n bo s j')]
            exact nI_pred _
          · rw [dk_e_n (by omega) (by omega) (by omega)] at q
            rw [pk_un (by omega), h.2 s j' hs hj']
            exact congrArg nI (by omega))
      (fun s' j' hne hj' => by rw [pk_un (by omega), pk_un (by omega)])
    rw [dk_u_id hv] at D2
    refine K i _ _ _ _ _ hi D2 pk_us ?_
    have q := dk_n_u bo s i hf (nI (s * 4 + i))
    rw [dk_e_t (x := nI (s * 4 + i)) rfl, hb, dk_e_n (by omega) (by omega) (by omega), h0] at q
    omega
-- newReplica
theorem dx_new {post : Int32 → SX → Prop} (h : dk_R bo vo cl ln ck ho VA) (hs : s < 5) (hf : f < 4)
    (K : ∀ j bo' ho', j < 4 → dk_R bo' (upd vo (s * 4 + f) (ver f)) cl ln ck ho' (dk_u VA s f (some (ver f, ln (s * 4 + j), ck (s * 4 + j), dk_w cl (s * 4 + j)))) → bo' (s * 4 + f) = nI (s * 4 + j) → dk_n bo' s j = 1 →
      post (nI (s * 4 + j)) (fc, fl, up, ex, ver, bo', (upd vo (s * 4 + f) (ver f)), cl, ln, ck, ho')) :
    wpX_newReplica post (fc, fl, up, ex, ver, bo, vo, cl, ln, ck, ho) (nI s) (nI f) := by
  have e1 := cb_x4 s f
  have e2 : (nI (s * 4 + f)).toNatClampNeg = s * 4 + f := nI_clamp (by omega)
  have e3 : vp_in (nI (s * 4 + f)) 20 := vp_in_nI (by omega) (by omega)
  have ef : (nI f).toNatClampNeg = f := nI_clamp (by omega)
  have vf : vp_in (nI f) 4 := vp_in_nI hf (by omega)
  simp only [wpX_newReplica, e1, e2, ef]
  refine dx_letGo h hs hf ?_
  intro bo1 ho1 D1
  have hb : bo1 (s * 4 + f) = -1 := dk_none D1 hs hf (dk_u_s _ _ _ _)
  obtain ⟨i, hi, h0, H⟩ := dx_free (fc := fc) (fl := fl) (up := up) (ex := ex) (ver := ver) D1 hs (dk_free1 bo1 hs hf hb)
  dsimp only
  refine H _ ?_
  have e7 : (nI (s * 4 + i)).toNatClampNeg = s * 4 + i := nI_clamp (by omega)
  have e8 : vp_in (nI (s * 4 + i)) 20 := vp_in_nI (by omega) (by omega)
  rw [e7]
  refine ⟨e8, nm_e ⟨e3, nm_e ⟨vf, e3, nm_e ?_⟩⟩⟩
  have D2 := dk_put (vo' := upd vo (s * 4 + f) (ver f)) (ho' := upd ho1 (s * 4 + i) 1) D1 hs hf (nI (s * 4 + i)) (some (ver f, ln (s * 4 + i), ck (s * 4 + i), dk_w cl (s * 4 + i))) (fun _ hi => pk_un hi)
      (Or.inr ⟨i, hi, pk_us, by rw [pk_us]⟩)
      (by
        intro j' hj'
        have q := dk_n_u bo1 s j' hf (nI (s * 4 + i))
        rw [hb, dk_e_m (by omega)] at q
        by_cases z1 : j' = i
        · subst z1
          rw [pk_us]
          rw [dk_e_t (x := nI (s * 4 + j')) rfl, h0] at q
          exact congrArg nI (by omega : 1 = _)
        · rw [pk_un (by omega)]
          rw [dk_e_n (a := s * 4 + i) (by omega) (by omega) (by omega)] at q
          rw [D1.2 s j' hs hj']
          exact congrArg nI (by omega))
      (fun s' j' hne hj' => pk_un (by omega))
  rw [dk_uu] at D2
  refine K i _ _ hi D2 pk_us ?_
  have q := dk_n_u bo1 s i hf (nI (s * 4 + i))
  rw [dk_e_t (x := nI (s * 4 + i)) rfl, hb, dk_e_m (by omega), h0] at q
  omega
-- current
theorem dx_cur {post : Int32 → Prop} (h : dk_R bo vo cl ln ck ho VA) (hs : s < 5) (hf : f < 4) (K : post (cb_b (dk_c (ex f) (ver f) (VA s f)))) : wpX_current post (fc, fl, up, ex, ver, bo, vo, cl, ln, ck, ho) (nI s) (nI f) := by
  have e1 := cb_x4 s f
  have e2 : (nI (s * 4 + f)).toNatClampNeg = s * 4 + f := nI_clamp (by omega)
  have e3 : vp_in (nI (s * 4 + f)) 20 := vp_in_nI (by omega) (by omega)
  have ef : (nI f).toNatClampNeg = f := nI_clamp (by omega)
  have vf : vp_in (nI f) 4 := vp_in_nI hf (by omega)
  simp only [wpX_current, e1, e2, ef]
  refine ⟨e3, nm_e ?_⟩
  rcases h.1 s f hs hf with ⟨hb, hv⟩ | ⟨j, hj, hb, hv⟩
  · rw [hb]
    rw [hv] at K
    exact br_t (by decide) K
  · rw [hb]
    rw [hv] at K
    have e4 : (nI (s * 4 + j)).toNatClampNeg = s * 4 + j := nI_clamp (by omega)
    have e5 : vp_in (nI (s * 4 + j)) 20 := vp_in_nI (by omega) (by omega)
    rw [e4]
    have K' : post (cb_b (decide (¬ ex f = 0) && (decide (vo (s * 4 + f) = ver f) && decide (dk_s (dk_w cl (s * 4 + j)) (ln (s * 4 + j)) 6 = ck (s * 4 + j))))) := K
    refine br_f (nI_pos (by omega)) ⟨vf, br_c ?_ ?_⟩
    · intro z
      rw [decide_eq_false (not_not_intro z)] at K'
      exact K'
    · intro z
      rw [decide_eq_true z, Bool.true_and] at K'
      refine ⟨e3, vf, br_c ?_ ?_⟩
      · intro z2
        rw [decide_eq_true z2, Bool.true_and] at K'
        refine dx_sum (by omega) ⟨e5, br_c ?_ ?_⟩
        · intro z3
          rw [decide_eq_true z3] at K'
          exact K'
        · intro z3
          rw [decide_eq_false z3] at K'
          exact K'
      · intro z2
        rw [decide_eq_false z2, Bool.false_and] at K'
        exact K'
end dx
end
section
-- X's readers over the answers c of current
theorem cb_m_t {p : Nat → Bool} {n : Nat} (h : p n = true) : cb_m p n ||| ((1 : Int32) <<< (nI n &&& 31)) = cb_m p (n + 1) := by
  show _ = cb_k1 (cb_m p n) (p n) n
  rw [h]; rfl
theorem cb_m_o {p : Nat → Bool} {n : Nat} (h : p n = false) : cb_m p (n + 1) = cb_m p n := by
  show cb_k1 (cb_m p n) (p n) n = _
  rw [h]; rfl
theorem cb_c_t {p : Nat → Bool} {n : Nat} (h : p n = true) : nI (cb_c p n) + 1 = nI (cb_c p (n + 1)) := by
  show _ = nI (cb_c p n + cb_i (p n))
  rw [h, nI_1]; rfl
theorem cb_c_o {p : Nat → Bool} {n : Nat} (h : p n = false) : cb_c p (n + 1) = cb_c p n := by
  show cb_c p n + cb_i (p n) = _
  rw [h]; rfl
def xr_C (c : Nat → Nat → Bool) (u : SX) : Prop := ∀ s f, s < 5 → f < 4 → ∀ post : Int32 → Prop, post (cb_b (c s f)) → wpX_current post u (nI s) (nI f)
theorem cb_z0 : cb_b false = 0 := by decide
theorem cb_z1 : ¬ cb_b true = 0 := by decide
section xr
variable {fc fl : Int32} {up ex ver bo vo cl ln ck ho : Nat → Int32} {c : Nat → Nat → Bool} {U : Nat → Bool} {s f : Nat} {post : Int32 → Prop}
theorem xr_cset_l (H : xr_C c (fc, fl, up, ex, ver, bo, vo, cl, ln, ck, ho)) (hf : f < 4) (K : post (cb_m (fun s => c s f) 5)) : ∀ d i, i + d = 5 → wX_currentSet_4 post (nI f) fc fl up ex ver bo vo cl ln ck ho (d + 1) (cb_m (fun s => c s f) i) (nI i) := by
  intro d
  induction d with
  | zero =>
    intro i hi
    obtain rfl : i = 5 := by omega
    exact br_t cb_e5 K
  | succ d ih =>
    intro i hi
    refine br_f (cb_l5 (by omega)) (H i f (by omega) hf _ ?_)
    have IH := ih (i + 1) (by omega)
    cases hc : c i f with
    | false =>
      rw [cb_m_o (p := fun s => c s f) hc] at IH
      exact br_t cb_z0 (nm_r (nI_1 i) IH)
    | true => exact br_f cb_z1 (nm_r (cb_m_t (p := fun s => c s f) hc) (nm_r (nI_1 i) IH))
theorem xr_cset (H : xr_C c (fc, fl, up, ex, ver, bo, vo, cl, ln, ck, ho)) (hf : f < 4) (K : post (cb_m (fun s => c s f) 5)) : wpX_currentSet post (fc, fl, up, ex, ver, bo, vo, cl, ln, ck, ho) (nI f) := ⟨6, xr_cset_l H hf K 5 0 rfl⟩
theorem xr_uset_l (hu : ∀ s, s < 5 → up s = cb_b (U s)) (K : post (cb_m U 5)) : ∀ d i, i + d = 5 → wX_upSet_4 post fc fl up ex ver bo vo cl ln ck ho (d + 1) (cb_m U i) (nI i) := by
  intro d
  induction d with
  | zero =>
    intro i hi
    obtain rfl : i = 5 := by omega
    exact br_t cb_e5 K
  | succ d ih =>
    intro i hi
    have IH := ih (i + 1) (by omega)
    have e : (nI i).toNatClampNeg = i := nI_clamp (by omega)
    refine br_f (cb_l5 (by omega)) ⟨vp_in_nI (by omega) (by omega), ?_⟩
    rw [e, hu i (by omega)]
    cases hc : U i with
    | false =>
      rw [cb_m_o hc] at IH
      exact br_t cb_z0 (nm_r (nI_1 i) IH)
    | true => exact br_f cb_z1 (nm_r (cb_m_t hc) (nm_r (nI_1 i) IH))
theorem xr_uset (hu : ∀ s, s < 5 → up s = cb_b (U s)) (K : post (cb_m U 5)) : wpX_upSet post (fc, fl, up, ex, ver, bo, vo, cl, ln, ck, ho) := ⟨6, xr_uset_l hu K 5 0 rfl⟩
theorem xr_bits_l (p : Nat → Bool) (K : post (nI (cb_c p 5))) : ∀ d i, i + d = 5 → wX_bits_4 post (cb_m p 5) (d + 1) (nI (cb_c p i)) (nI i) := by
  intro d
  induction d with
  | zero =>
    intro i hi
    obtain rfl : i = 5 := by omega
    exact br_t cb_e5 K
  | succ d ih =>
    intro i hi
    have IH := ih (i + 1) (by omega)
    refine br_f (cb_l5 (by omega)) (nm_r (e' := nI (cb_c p (i + 1))) ?_ (nm_r (nI_1 i) IH))
    rw [cb_bit p (by omega), cb_b_i, nI_add]
    rfl
theorem xr_bits (p : Nat → Bool) (K : post (nI (cb_c p 5))) : wpX_bits post (cb_m p 5) := ⟨6, xr_bits_l p K 5 0 rfl⟩
def xr_S (U : Nat → Bool) (c : Nat → Nat → Bool) (f : Nat) (r : Int32) : Prop := (r = -1 ∧ ∀ s, s < 5 → (c s f && U s) = false) ∨ ∃ s, s < 5 ∧ r = nI s ∧ U s = true ∧ c s f = true
theorem xr_src_l (H : xr_C c (fc, fl, up, ex, ver, bo, vo, cl, ln, ck, ho)) (hu : ∀ s, s < 5 → up s = cb_b (U s)) (hf : f < 4) : ∀ d i, i + d = 5 → (∀ s, s < i → (c s f && U s) = false) →
    ∃ r, xr_S U c f r ∧ ∀ post : Int32 → Prop, post r → wX_source_2 post (nI f) fc fl up ex ver bo vo cl ln ck ho (d + 1) (nI i) := by
  intro d
  induction d with
  | zero =>
    intro i hi hn
    obtain rfl : i = 5 := by omega
    exact ⟨-1, Or.inl ⟨rfl, hn⟩, fun post K => br_t cb_e5 K⟩
  | succ d ih =>
    intro i hi hn
    have e : (nI i).toNatClampNeg = i := nI_clamp (by omega)
    have hz := hu i (by omega)
    rw [← e] at hz
    have v : vp_in (nI i) 5 := vp_in_nI (by omega) (by omega)
    have b1 := cb_l5 (i := i) (by omega)
    have IH := fun (q : (c i f && U i) = false) => ih (i + 1) (by omega) (fun s hs => by
        by_cases z : s = i
        · rw [z]; exact q
        · exact hn s (by omega))
    rw [e] at hz
    cases hU : U i with
    | false =>
      obtain ⟨r, h1, h2⟩ := IH (by rw [hU, Bool.and_false])
      refine ⟨r, h1, fun post K => br_f b1 ⟨v, br_t ?_ (nm_r (nI_1 i) (h2 post K))⟩⟩
      rw [e, hz, hU]; rfl
    | true =>
      have z1 : ¬ up (nI i).toNatClampNeg = 0 := by rw [e, hz, hU]; exact cb_z1
      cases hc : c i f with
      | true =>
        refine ⟨nI i, Or.inr ⟨i, by omega, rfl, hU, hc⟩, fun post K => br_f b1 ⟨v, br_f z1 (H i f (by omega) hf _ ?_)⟩⟩
        rw [hc]
        exact br_f cb_z1 K
      | false =>
        obtain ⟨r, h1, h2⟩ := IH (by rw [hc, Bool.false_and])
        refine ⟨r, h1, fun post K => br_f b1 ⟨v, br_f z1 (H i f (by omega) hf _ ?_)⟩⟩
        rw [hc]
        exact br_t cb_z0 (nm_r (nI_1 i) (h2 post K))
theorem xr_src (H : xr_C c (fc, fl, up, ex, ver, bo, vo, cl, ln, ck, ho)) (hu : ∀ s, s < 5 → up s = cb_b (U s)) (hf : f < 4) : ∃ r, xr_S U c f r ∧ ∀ post : Int32 → Prop, post r → wpX_source post (fc, fl, up, ex, ver, bo, vo, cl, ln, ck, ho) (nI f) := by
  obtain ⟨r, h1, h2⟩ := xr_src_l H hu hf 5 0 rfl (fun s hs => absurd hs (by omega))
  exact ⟨r, h1, fun post K => ⟨6, h2 post K⟩⟩
theorem xr_load_l (H : xr_C c (fc, fl, up, ex, ver, bo, vo, cl, ln, ck, ho)) (hs : s < 5) (K : post (nI (cb_ld c s))) : ∀ d i, i + d = 4 → wX_loadOf_4 post (nI s) fc fl up ex ver bo vo cl ln ck ho (d + 1) (nI (cb_c (fun f => c s f) i)) (nI i) := by
  intro d
  induction d with
  | zero =>
    intro i hi
    obtain rfl : i = 4 := by omega
    exact br_t cb_e4 K
  | succ d ih =>
    intro i hi
    refine br_f (cb_l4 (by omega)) (H s i hs (by omega) _ ?_)
    have IH := ih (i + 1) (by omega)
    cases hc : c s i with
    | false =>
      rw [cb_c_o hc] at IH
      exact br_t cb_z0 (nm_r (nI_1 i) IH)
    | true => exact br_f cb_z1 (nm_r (cb_c_t (p := fun f => c s f) hc) (nm_r (nI_1 i) IH))
theorem xr_load (H : xr_C c (fc, fl, up, ex, ver, bo, vo, cl, ln, ck, ho)) (hs : s < 5) (K : post (nI (cb_ld c s))) : wpX_loadOf post (fc, fl, up, ex, ver, bo, vo, cl, ln, ck, ho) (nI s) := ⟨5, xr_load_l H hs K 4 0 rfl⟩
theorem cb_ld_le (c : Nat → Nat → Bool) (s : Nat) : cb_ld c s ≤ 4 := cb_c_le _ 4
theorem xr_first_l (H : xr_C c (fc, fl, up, ex, ver, bo, vo, cl, ln, ck, ho)) (p : Nat → Bool) (K : post (cb_oI (cb_pk p (cb_ld c) 5))) : ∀ d i, i + d = 5 →
    wX_firstOf_7 post (cb_m p 5) fc fl up ex ver bo vo cl ln ck ho (d + 1) (cb_oI (cb_pk p (cb_ld c) i)) (cb_lI (cb_ld c) (cb_pk p (cb_ld c) i)) (nI i) := by
  intro d
  induction d with
  | zero =>
    intro i hi
    obtain rfl : i = 5 := by omega
    exact br_t cb_e5 K
  | succ d ih =>
    intro i hi
    have IH := ih (i + 1) (by omega)
    refine br_f (cb_l5 (by omega)) ?_
    rw [cb_bit p (by omega)]
    cases hp : p i with
    | false =>
      rw [cb_pk_f (by rw [hp]; decide)] at IH
      exact br_f (by decide) (nm_r (nI_1 i) IH)
    | true =>
      rw [cb_pk_t hp] at IH
      refine br_t (by decide) (xr_load H (by omega) ?_)
      cases hk : cb_pk p (cb_ld c) i with
      | none =>
        rw [hk] at IH
        exact br_t (by decide) (nm_r (nI_1 i) IH)
      | some b =>
        rw [hk] at IH
        have hb := (cb_pk_some _ _ hk).1
        have l1 := cb_ld_le c b
        have l2 := cb_ld_le c i
        refine br_f (nI_pos (n := b) (by omega)) ?_
        by_cases hl : cb_ld c i < cb_ld c b
        · have e : cb_ps (cb_ld c) i (some b) = some i := if_pos hl
          rw [e] at IH
          exact br_f (nI_ge hl (by omega)) (nm_r (nI_1 i) IH)
        · have e : cb_ps (cb_ld c) i (some b) = some b := if_neg hl
          rw [e] at IH
          exact br_t (nI_le (by omega) (by omega)) (nm_r (nI_1 i) IH)
theorem xr_first (H : xr_C c (fc, fl, up, ex, ver, bo, vo, cl, ln, ck, ho)) (p : Nat → Bool) (K : post (cb_oI (cb_pk p (cb_ld c) 5))) : wpX_firstOf post (fc, fl, up, ex, ver, bo, vo, cl, ln, ck, ho) (cb_m p 5) := ⟨6, xr_first_l H p K 5 0 rfl⟩
theorem xr_bf (hf : f < 4) (K : post 0) : wpX_badFile post (nI f) := br_f (nI_pos (by omega)) (br_t (cb_lt4 hf) K)
theorem xr_bfx {x : Int32} (h : x < 0 ∨ nI 4 ≤ x) (K : post 1) : wpX_badFile post x := by
  by_cases z : x < 0
  · exact br_t z K
  · refine br_f z (br_f ?_ K)
    exact Int32.not_lt.mpr (h.resolve_left z)
theorem xr_bs (hs : s < 5) (K : post 0) : wpX_badServer post (nI s) := br_f (nI_pos (by omega)) (br_t (cb_lt5 hs) K)
theorem xr_bsx {x : Int32} (h : x < 0 ∨ nI 5 ≤ x) (K : post 1) : wpX_badServer post x := by
  by_cases z : x < 0
  · exact br_t z K
  · refine br_f z (br_f ?_ K)
    exact Int32.not_lt.mpr (h.resolve_left z)
end xr
end
section
-- Y's readers
section yr
variable {fw : Int32} {dn ey le ce cu : Nat → Int32} {c : Nat → Nat → Bool} {U : Nat → Bool} {s f : Nat} {post : Int32 → Prop}
def yr_C (c : Nat → Nat → Bool) (cu : Nat → Int32) : Prop := ∀ s f, s < 5 → f < 4 → cu (f * 5 + s) = cb_b (c s f)
def yr_D (U : Nat → Bool) (dn : Nat → Int32) : Prop := ∀ s, s < 5 → dn s = cb_b (!U s)
theorem yr_at (H : yr_C c cu) (hs : s < 5) (hf : f < 4) : vp_in (nI f * 5 + nI s) 20 ∧ cu (nI f * 5 + nI s).toNatClampNeg = cb_b (c s f) := by
  rw [cb_x5, nI_clamp (by omega)]
  exact ⟨vp_in_nI (by omega) (by omega), H s f hs hf⟩
theorem yr_dn (H : yr_D U dn) (hs : s < 5) : vp_in (nI s) 5 ∧ dn (nI s).toNatClampNeg = cb_b (!U s) := by
  rw [nI_clamp (by omega)]
  exact ⟨vp_in_nI hs (by omega), H s hs⟩
theorem yr_load_l (H : yr_C c cu) (hs : s < 5) (K : post (nI (cb_ld c s))) : ∀ d i, i + d = 4 → wY_load_4 post (nI s) fw dn ey le ce cu (d + 1) (nI (cb_c (fun f => c s f) i)) (nI i) := by
  intro d
  induction d with
  | zero =>
    intro i hi
    obtain rfl : i = 4 := by omega
    exact br_t cb_e4 K
  | succ d ih =>
    intro i hi
    obtain ⟨a1, a2⟩ := yr_at H hs (show i < 4 by omega)
    refine br_f (cb_l4 (by omega)) ⟨a1, ?_⟩
    rw [a2]
    have IH := ih (i + 1) (by omega)
    cases hc : c s i with
    | false =>
      rw [cb_c_o hc] at IH
      exact br_t cb_z0 (nm_r (nI_1 i) IH)
    | true => exact br_f cb_z1 (nm_r (cb_c_t (p := fun f => c s f) hc) (nm_r (nI_1 i) IH))
theorem yr_load (H : yr_C c cu) (hs : s < 5) (K : post (nI (cb_ld c s))) : wpY_load post (fw, dn, ey, le, ce, cu) (nI s) := ⟨5, yr_load_l H hs K 4 0 rfl⟩
theorem yr_hd0_l (H : yr_C c cu) (hf : f < 4) (K : post (nI (cb_c (fun s => c s f) 5))) : ∀ d i, i + d = 5 → wY_holders_5 post (nI f) 0 fw dn ey le ce cu (d + 1) (nI (cb_c (fun s => c s f) i)) (nI i) := by
  intro d
  induction d with
  | zero =>
    intro i hi
    obtain rfl : i = 5 := by omega
    exact br_t cb_e5 K
  | succ d ih =>
    intro i hi
    obtain ⟨a1, a2⟩ := yr_at H (show i < 5 by omega) hf
    refine br_f (cb_l5 (by omega)) ⟨a1, ?_⟩
    rw [a2]
    have IH := ih (i + 1) (by omega)
    cases hc : c i f with
    | false =>
      rw [cb_c_o (p := fun s => c s f) hc] at IH
      exact br_t cb_z0 (nm_r (nI_1 i) IH)
    | true => exact br_f cb_z1 (br_t rfl (nm_r (cb_c_t (p := fun s => c s f) hc) (nm_r (nI_1 i) IH)))
theorem yr_hd0 (H : yr_C c cu) (hf : f < 4) (K : post (nI (cb_c (fun s => c s f) 5))) : wpY_holders post (fw, dn, ey, le, ce, cu) (nI f) 0 := ⟨6, yr_hd0_l H hf K 5 0 rfl⟩
theorem yr_hd1_l (H : yr_C c cu) (D : yr_D U dn) (hf : f < 4) (K : post (nI (cb_hd U c f))) : ∀ d i, i + d = 5 → wY_holders_5 post (nI f) 1 fw dn ey le ce cu (d + 1) (nI (cb_c (fun s => c s f && U s) i)) (nI i) := by
  intro d
  induction d with
  | zero =>
    intro i hi
    obtain rfl : i = 5 := by omega
    exact br_t cb_e5 K
  | succ d ih =>
    intro i hi
    obtain ⟨a1, a2⟩ := yr_at H (show i < 5 by omega) hf
    obtain ⟨a3, a4⟩ := yr_dn D (show i < 5 by omega)
    refine br_f (cb_l5 (by omega)) ⟨a1, ?_⟩
    rw [a2]
    have IH := ih (i + 1) (by omega)
    cases hc : c i f with
    | false =>
      rw [cb_c_o (by show (c i f && U i) = false; rw [hc]; rfl)] at IH
      exact br_t cb_z0 (nm_r (nI_1 i) IH)
    | true =>
      refine br_f cb_z1 (br_f (by decide) ⟨a3, ?_⟩)
      rw [a4]
      cases hU : U i with
      | true => exact br_t cb_z0 (nm_r (cb_c_t (p := fun s => c s f && U s) (by show (c i f && U i) = true; rw [hc, hU]; rfl)) (nm_r (nI_1 i) IH))
      | false =>
        rw [cb_c_o (by show (c i f && U i) = false; rw [hU, Bool.and_false])] at IH
        exact br_f cb_z1 (nm_r (nI_1 i) IH)
theorem yr_hd1 (H : yr_C c cu) (D : yr_D U dn) (hf : f < 4) (K : post (nI (cb_hd U c f))) : wpY_holders post (fw, dn, ey, le, ce, cu) (nI f) 1 := ⟨6, yr_hd1_l H D hf K 5 0 rfl⟩
theorem yr_next_l (H : yr_C c cu) (D : yr_D U dn) (hf : f < 4) (K : post (cb_oI (cb_nx U c f))) : ∀ d i, i + d = 5 → wY_nextServer_4 post (nI f) fw dn ey le ce cu (d + 1) (cb_oI (cb_pk (fun s => U s && !c s f) (cb_ld c) i)) (nI i) := by
  intro d
  induction d with
  | zero =>
    intro i hi
    obtain rfl : i = 5 := by omega
    exact br_t cb_e5 K
  | succ d ih =>
    intro i hi
    obtain ⟨a1, a2⟩ := yr_at H (show i < 5 by omega) hf
    obtain ⟨a3, a4⟩ := yr_dn D (show i < 5 by omega)
    refine br_f (cb_l5 (by omega)) ⟨a3, ?_⟩
    rw [a4, a2]
    have IH := ih (i + 1) (by omega)
    cases hU : U i with
    | false =>
      rw [cb_pk_f (by show ¬ (U i && !c i f) = true; rw [hU, Bool.false_and]; decide)] at IH
      exact br_f cb_z1 (br_t rfl (nm_r (nI_1 i) IH))
    | true =>
      refine br_t cb_z0 ⟨a1, ?_⟩
      cases hc : c i f with
      | true =>
        rw [cb_pk_f (by show ¬ (U i && !c i f) = true; rw [hU, hc]; decide)] at IH
        exact br_f cb_z1 (br_t rfl (nm_r (nI_1 i) IH))
      | false =>
        rw [cb_pk_t (by show (U i && !c i f) = true; rw [hU, hc]; rfl)] at IH
        refine br_t cb_z0 (br_f (by decide) ?_)
        cases hk : cb_pk (fun s => U s && !c s f) (cb_ld c) i with
        | none =>
          rw [hk] at IH
          exact br_t (by decide) (nm_r (nI_1 i) IH)
        | some b =>
          rw [hk] at IH
          have hb := (cb_pk_some _ _ hk).1
          have l1 := cb_ld_le c b
          have l2 := cb_ld_le c i
          refine br_f (nI_pos (n := b) (by omega)) (yr_load H (by omega) (yr_load H (s := b) (by omega) ?_))
          by_cases hl : cb_ld c i < cb_ld c b
          · have e : cb_ps (cb_ld c) i (some b) = some i := if_pos hl
            rw [e] at IH
            exact br_f (nI_ge hl (by omega)) (nm_r (nI_1 i) IH)
          · have e : cb_ps (cb_ld c) i (some b) = some b := if_neg hl
            rw [e] at IH
            exact br_t (nI_le (by omega) (by omega)) (nm_r (nI_1 i) IH)
theorem yr_next (H : yr_C c cu) (D : yr_D U dn) (hf : f < 4) (K : post (cb_oI (cb_nx U c f))) : wpY_nextServer post (fw, dn, ey, le, ce, cu) (nI f) := ⟨6, yr_next_l H D hf K 5 0 rfl⟩
theorem yr_if (hf : f < 4) (K : post 1) : wpY_isFile post (fw, dn, ey, le, ce, cu) (nI f) := br_f (nI_pos (by omega)) (br_f (cb_l4 hf) K)
theorem yr_ifx {x : Int32} (h : x < 0 ∨ nI 4 ≤ x) (K : post 0) : wpY_isFile post (fw, dn, ey, le, ce, cu) x := by
  by_cases z : x < 0
  · exact br_t z K
  · exact br_f z (br_t (h.resolve_left z) K)
theorem yr_is (hs : s < 5) (K : post 1) : wpY_isServer post (fw, dn, ey, le, ce, cu) (nI s) := br_f (nI_pos (by omega)) (br_f (cb_l5 hs) K)
theorem yr_isx {x : Int32} (h : x < 0 ∨ nI 5 ≤ x) (K : post 0) : wpY_isServer post (fw, dn, ey, le, ce, cu) x := by
  by_cases z : x < 0
  · exact br_t z K
  · exact br_f z (br_t (h.resolve_left z) K)
theorem yr_mask_l (H : yr_C c cu) (hf : f < 4) (K : post (cb_m (fun s => c s f) 5)) : ∀ d i, i + d = 5 → wY_replicas_26 post (nI f) fw dn ey le ce cu (d + 1) (cb_m (fun s => c s f) i) (nI i) := by
  intro d
  induction d with
  | zero =>
    intro i hi
    obtain rfl : i = 5 := by omega
    exact br_t cb_e5 K
  | succ d ih =>
    intro i hi
    obtain ⟨a1, a2⟩ := yr_at H (show i < 5 by omega) hf
    refine br_f (cb_l5 (by omega)) ⟨a1, ?_⟩
    rw [a2]
    have IH := ih (i + 1) (by omega)
    cases hc : c i f with
    | false =>
      rw [cb_m_o (p := fun s => c s f) hc] at IH
      exact br_t cb_z0 (nm_r (nI_1 i) IH)
    | true => exact br_f cb_z1 (nm_r (cb_m_t (p := fun s => c s f) hc) (nm_r (nI_1 i) IH))
theorem yr_mask (H : yr_C c cu) (hf : f < 4) (K : post (cb_m (fun s => c s f) 5)) : ∃ n, wY_replicas_26 post (nI f) fw dn ey le ce cu n 0 0 := ⟨6, yr_mask_l H hf K 5 0 rfl⟩
end yr
end
section
-- X's state over the abstract one: U who is up, E which files exist, c who is current, T what a file holds
def xs_ok (L : Nat) (e vr : Int32) (T : Int32 × (Nat → Int32)) (o : Option dk_cv) (c : Bool) : Prop :=
  dk_c e vr o = c ∧ ∀ q l k t, o = some (q, l, k, t) → (∃ n, n ≤ L ∧ q = nI n) ∧ (c = true → (l, t) = T)
def xs_P (L : Nat) (U E : Nat → Bool) (c : Nat → Nat → Bool) (T : Nat → Int32 × (Nat → Int32)) (up ex ver : Nat → Int32) (VA : Nat → Nat → Option dk_cv) : Prop :=
  (∀ s, s < 5 → up s = cb_b (U s)) ∧ (∀ f, f < 4 → ex f = cb_b (E f)) ∧ (∀ f, f < 4 → ∃ n, n ≤ L ∧ ver f = nI n) ∧ (∀ s f, s < 5 → f < 4 → xs_ok L (ex f) (ver f) (T f) (VA s f) (c s f))
def xs_R (L : Nat) (U E : Nat → Bool) (c : Nat → Nat → Bool) (T : Nat → Int32 × (Nat → Int32)) (up ex ver bo vo cl ln ck ho : Nat → Int32) : Prop :=
  ∃ VA, dk_R bo vo cl ln ck ho VA ∧ xs_P L U E c T up ex ver VA
def xs_X (k w : Nat) (U E : Nat → Bool) (c : Nat → Nat → Bool) (T : Nat → Int32 × (Nat → Int32)) (u : SX) : Prop :=
  ∃ (L : Nat) (up ex ver bo vo cl ln ck ho : Nat → Int32), u = (nI w, nI L, up, ex, ver, bo, vo, cl, ln, ck, ho) ∧ 1 ≤ w ∧ w ≤ 3 ∧ L ≤ k ∧ xs_R L U E c T up ex ver bo vo cl ln ck ho
def cb_z : Nat → Int32 := fun _ => 0
-- one replica
theorem xs_true {L : Nat} {e vr : Int32} {T : Int32 × (Nat → Int32)} {o : Option dk_cv} (h : xs_ok L e vr T o true) : o = some (vr, T.1, dk_s T.2 T.1 6, T.2) ∧ ¬ e = 0 := by
  obtain ⟨h1, h2⟩ := h
  match o with
  | none => exact nomatch h1
  | some (q, l, k, t) =>
    have h3 : (decide (¬ e = 0) && (decide (q = vr) && decide (dk_s t l 6 = k))) = true := h1
    rw [Bool.and_eq_true, Bool.and_eq_true, decide_eq_true_iff, decide_eq_true_iff, decide_eq_true_iff] at h3
    obtain ⟨a, b, d⟩ := h3
    have h4 := (h2 q l k t rfl).2 rfl
    subst h4
    rw [b, ← d]
    exact ⟨rfl, a⟩
theorem xs_mk {L : Nat} {e vr : Int32} {T : Int32 × (Nat → Int32)} (he : ¬ e = 0) (hv : ∃ n, n ≤ L ∧ vr = nI n) : xs_ok L e vr T (some (vr, T.1, dk_s T.2 T.1 6, T.2)) true := by
  constructor
  · show (decide (¬ e = 0) && (decide (vr = vr) && decide (dk_s T.2 T.1 6 = dk_s T.2 T.1 6))) = true
    rw [decide_eq_true he, decide_eq_true rfl, decide_eq_true rfl]; rfl
  · intro q l k t h
    injection h with h
    injection h with h1 h
    injection h with h2 h
    injection h with h3 h4
    subst h1 h2 h4
    exact ⟨hv, fun _ => rfl⟩
theorem xs_no (L : Nat) (e vr : Int32) (T : Int32 × (Nat → Int32)) : xs_ok L e vr T none false := ⟨rfl, fun _ _ _ _ h => nomatch h⟩
theorem xs_up {L L' : Nat} {e vr : Int32} {T : Int32 × (Nat → Int32)} {o : Option dk_cv} {c : Bool} (h : xs_ok L e vr T o c) (hL : L ≤ L') : xs_ok L' e vr T o c := by
  refine ⟨h.1, fun q l k t e => ?_⟩
  obtain ⟨⟨n, hn, hq⟩, h2⟩ := h.2 q l k t e
  exact ⟨⟨n, by omega, hq⟩, h2⟩
theorem xs_fresh {L : Nat} {e vr : Int32} {T : Int32 × (Nat → Int32)} {o : Option dk_cv} {c : Bool} (h : xs_ok L e vr T o c) (hL : L + 1 < 2 ^ 31) (e' : Int32) (T' : Int32 × (Nat → Int32)) : xs_ok (L + 1) e' (nI (L + 1)) T' o false := by
  match o with
  | none => exact xs_no _ _ _ _
  | some (q, l, k, t) =>
    obtain ⟨⟨n, hn, hq⟩, _⟩ := h.2 q l k t rfl
    constructor
    · show (decide (¬ e' = 0) && (decide (q = nI (L + 1)) && decide (dk_s t l 6 = k))) = false
      rw [decide_eq_false (p := q = nI (L + 1)) (by rw [hq, nI_eq (by omega) hL]; omega), Bool.false_and, Bool.and_false]
    · intro q' l' k' t' h'
      injection h' with h'
      injection h' with h1 h'
      subst h1
      exact ⟨⟨n, by omega, hq⟩, fun z => nomatch z⟩
theorem xs_gone {L : Nat} {e vr : Int32} {T : Int32 × (Nat → Int32)} {o : Option dk_cv} {c : Bool} (h : xs_ok L e vr T o c) : xs_ok L 0 vr T o false := by
  constructor
  · match o with
    | none => rfl
    | some (q, l, k, t) =>
      show (decide (¬ (0 : Int32) = 0) && (decide (q = vr) && decide (dk_s t l 6 = k))) = false
      rw [decide_eq_false (p := ¬ (0 : Int32) = 0) (by decide), Bool.false_and]
  · intro q l k t e
    exact ⟨(h.2 q l k t e).1, fun z => nomatch z⟩
theorem xs_lost {L : Nat} {e vr : Int32} {T T' : Int32 × (Nat → Int32)} {o : Option dk_cv} (h : xs_ok L e vr T o false) : xs_ok L e vr T' o false :=
  ⟨h.1, fun q l k t e => ⟨(h.2 q l k t e).1, fun z => nomatch z⟩⟩
-- the whole state
section xs
variable {fc fl : Int32} {L : Nat} {U E : Nat → Bool} {c : Nat → Nat → Bool} {T : Nat → Int32 × (Nat → Int32)} {up ex ver bo vo cl ln ck ho : Nat → Int32} {VA : Nat → Nat → Option dk_cv} {s f : Nat}
theorem xs_C (h : xs_R L U E c T up ex ver bo vo cl ln ck ho) : xr_C c (fc, fl, up, ex, ver, bo, vo, cl, ln, ck, ho) := by
  obtain ⟨VA, D, P⟩ := h
  intro s f hs hf post K
  refine dx_cur D hs hf ?_
  rw [(P.2.2.2 s f hs hf).1]
  exact K
theorem xs_E (h : xs_R L U E c T up ex ver bo vo cl ln ck ho) (hs : s < 5) (hf : f < 4) (hc : c s f = true) : E f = true := by
  obtain ⟨VA, D, P⟩ := h
  have h1 := P.2.2.2 s f hs hf
  rw [hc] at h1
  have h2 := (xs_true h1).2
  rw [P.2.1 f hf] at h2
  cases hE : E f with
  | true => rfl
  | false => rw [hE] at h2; exact absurd cb_z0 h2
theorem xs_Ef (h : xs_R L U E c T up ex ver bo vo cl ln ck ho) (hs : s < 5) (hf : f < 4) (hE : E f = false) : c s f = false := by
  cases hc : c s f with
  | false => rfl
  | true => rw [xs_E h hs hf hc] at hE; exact nomatch hE
theorem xs_ext {c' : Nat → Nat → Bool} (h : xs_R L U E c T up ex ver bo vo cl ln ck ho) (e : ∀ s f, s < 5 → f < 4 → c' s f = c s f) : xs_R L U E c' T up ex ver bo vo cl ln ck ho := by
  obtain ⟨VA, D, P1, P2, P3, P4⟩ := h
  exact ⟨VA, D, P1, P2, P3, fun s f hs hf => by rw [e s f hs hf]; exact P4 s f hs hf⟩
-- what stands on the disk of a server that is current
theorem xs_disk (h : xs_R L U E c T up ex ver bo vo cl ln ck ho) (hs : s < 5) (hf : f < 4) (hc : c s f = true) :
    ∃ j, j < 4 ∧ bo (s * 4 + f) = nI (s * 4 + j) ∧ ln (s * 4 + j) = (T f).1 ∧ dk_w cl (s * 4 + j) = (T f).2 := by
  obtain ⟨VA, D, P⟩ := h
  have h1 := P.2.2.2 s f hs hf
  rw [hc] at h1
  obtain ⟨j, hj, h2, _, h3, _, h4⟩ := dk_some D hs hf (xs_true h1).1
  exact ⟨j, hj, h2, h3, h4⟩
-- letGo
theorem xs_drop {bo' ho' : Nat → Int32} (P : xs_P L U E c T up ex ver VA) (D : dk_R bo' vo cl ln ck ho' (dk_u VA s f none)) : xs_R L U E (cb_set c s f false) T up ex ver bo' vo cl ln ck ho' := by
  refine ⟨_, D, P.1, P.2.1, P.2.2.1, ?_⟩
  intro s' f' hs' hf'
  by_cases e : s' = s ∧ f' = f
  · obtain ⟨rfl, rfl⟩ := e
    rw [dk_u_s, cb_set_s]
    exact xs_no _ _ _ _
  · rw [dk_u_n _ _ e, cb_set_n _ _ e]
    exact P.2.2.2 s' f' hs' hf'
theorem xs_letGo {post : SX → Prop} (h : xs_R L U E c T up ex ver bo vo cl ln ck ho) (hs : s < 5) (hf : f < 4) (K : ∀ bo' ho', xs_R L U E (cb_set c s f false) T up ex ver bo' vo cl ln ck ho' → post (fc, fl, up, ex, ver, bo', vo, cl, ln, ck, ho')) : wpX_letGo post (fc, fl, up, ex, ver, bo, vo, cl, ln, ck, ho) (nI s) (nI f) := by
  obtain ⟨VA, D, P⟩ := h
  exact dx_letGo D hs hf (fun bo' ho' D' => K bo' ho' (xs_drop P D'))
theorem xs_letGo0 {post : SX → Prop} (h : xs_R L U E c T up ex ver bo vo cl ln ck ho) (hs : s < 5) (hf : f < 4) (hc : c s f = false) (K : ∀ bo' ho', xs_R L U E c T up ex ver bo' vo cl ln ck ho' → post (fc, fl, up, ex, ver, bo', vo, cl, ln, ck, ho')) : wpX_letGo post (fc, fl, up, ex, ver, bo, vo, cl, ln, ck, ho) (nI s) (nI f) := by
  refine xs_letGo h hs hf (fun bo' ho' h' => K bo' ho' (xs_ext h' ?_))
  intro s' f' _ _
  by_cases e : s' = s ∧ f' = f
  · obtain ⟨rfl, rfl⟩ := e
    rw [cb_set_s, hc]
  · rw [cb_set_n _ _ e]
-- a new replica
theorem xs_made {bo' vo' cl' ln' ck' ho' : Nat → Int32} (P : xs_P L U E c T up ex ver VA) (hf : f < 4) (hE : E f = true) (D : dk_R bo' vo' cl' ln' ck' ho' (dk_u VA s f (some (ver f, (T f).1, dk_s (T f).2 (T f).1 6, (T f).2)))) :
    xs_R L U E (cb_set c s f true) T up ex ver bo' vo' cl' ln' ck' ho' := by
  refine ⟨_, D, P.1, P.2.1, P.2.2.1, ?_⟩
  intro s' f' hs' hf'
  by_cases e : s' = s ∧ f' = f
  · obtain ⟨rfl, rfl⟩ := e
    rw [dk_u_s, cb_set_s]
    exact xs_mk (by rw [P.2.1 f' hf, hE]; exact cb_z1) (P.2.2.1 f' hf)
  · rw [dk_u_n _ _ e, cb_set_n _ _ e]
    exact P.2.2.2 s' f' hs' hf'
-- a new version
theorem xs_newver (P : xs_P L U E c T up ex ver VA) (hf : f < 4) (hL : L + 1 < 2 ^ 31) (b : Bool) (x : Int32 × (Nat → Int32)) (c' : Nat → Nat → Bool) (h1 : ∀ s, s < 5 → c' s f = false) (h2 : ∀ s f', s < 5 → f' < 4 → f' ≠ f → c' s f' = c s f') :
    xs_P (L + 1) U (cb_up E f b) c' (cb_up T f x) up (upd ex f (cb_b b)) (upd ver f (nI (L + 1))) VA := by
  refine ⟨P.1, ?_, ?_, ?_⟩
  · intro f' hf'
    by_cases e : f' = f
    · subst e; rw [pk_us, cb_up_s]
    · rw [pk_un e, cb_up_n _ _ e]; exact P.2.1 f' hf'
  · intro f' hf'
    by_cases e : f' = f
    · subst e; rw [pk_us]; exact ⟨L + 1, Nat.le_refl _, rfl⟩
    · rw [pk_un e]
      obtain ⟨n, hn, hv⟩ := P.2.2.1 f' hf'
      exact ⟨n, by omega, hv⟩
  · intro s f' hs hf'
    by_cases e : f' = f
    · subst e
      rw [pk_us, pk_us, cb_up_s, h1 s hs]
      exact xs_fresh (P.2.2.2 s f' hs hf') hL _ _
    · rw [pk_un e, pk_un e, cb_up_n _ _ e, h2 s f' hs hf' e]
      exact xs_up (P.2.2.2 s f' hs hf') (by omega)
-- a map over the servers of a set
def xs_mp (VA : Nat → Nat → Option dk_cv) (f i : Nat) (p : Nat → Bool) (g : dk_cv → dk_cv) : Nat → Nat → Option dk_cv := fun s' f' => if f' = f ∧ s' < i ∧ p s' = true then (VA s' f').map g else VA s' f'
theorem xs_mp_y {p : Nat → Bool} {g : dk_cv → dk_cv} {i : Nat} (hi : s < i) (hp : p s = true) : xs_mp VA f i p g s f = (VA s f).map g := if_pos ⟨rfl, hi, hp⟩
theorem xs_mp_n {p : Nat → Bool} {g : dk_cv → dk_cv} {i s' f' : Nat} (h : ¬ (f' = f ∧ s' < i ∧ p s' = true)) : xs_mp VA f i p g s' f' = VA s' f' := if_neg h
theorem xs_mp_0 (D : dk_R bo vo cl ln ck ho VA) (f : Nat) (p : Nat → Bool) (g : dk_cv → dk_cv) : dk_R bo vo cl ln ck ho (xs_mp VA f 0 p g) :=
  dk_R_ext D (fun s f' _ _ => xs_mp_n (fun h => absurd h.2.1 (by omega)))
theorem xs_mp_f {p : Nat → Bool} {g : dk_cv → dk_cv} {i : Nat} (D : dk_R bo vo cl ln ck ho (xs_mp VA f i p g)) (hp : p i = false) : dk_R bo vo cl ln ck ho (xs_mp VA f (i + 1) p g) := by
  refine dk_R_ext D (fun s f' _ _ => ?_)
  by_cases h : f' = f ∧ s < i ∧ p s = true
  · obtain ⟨rfl, h2, h3⟩ := h
    rw [xs_mp_y h2 h3, xs_mp_y (by omega) h3]
  · rw [xs_mp_n h, xs_mp_n]
    intro h'
    by_cases e : s = i
    · rw [e, hp] at h'; exact nomatch h'.2.2
    · exact h ⟨h'.1, by omega, h'.2.2⟩
theorem xs_mp_t {p : Nat → Bool} {g : dk_cv → dk_cv} {i : Nat} {cv : dk_cv} (hv : VA i f = some cv) (hp : p i = true) (D : dk_R bo vo cl ln ck ho (dk_u (xs_mp VA f i p g) i f (some (g cv)))) : dk_R bo vo cl ln ck ho (xs_mp VA f (i + 1) p g) := by
  refine dk_R_ext D (fun s f' _ _ => ?_)
  by_cases e : s = i ∧ f' = f
  · obtain ⟨rfl, rfl⟩ := e
    rw [dk_u_s, xs_mp_y (by omega) hp, hv]
    rfl
  · rw [dk_u_n _ _ e]
    by_cases h : f' = f ∧ s < i ∧ p s = true
    · obtain ⟨rfl, h2, h3⟩ := h
      rw [xs_mp_y h2 h3, xs_mp_y (by omega) h3]
    · rw [xs_mp_n h, xs_mp_n]
      intro h'
      by_cases z : s = i
      · exact e ⟨z, h'.1⟩
      · exact h ⟨h'.1, by omega, h'.2.2⟩
end xs
end
section
section xm
variable {fc fl : Int32} {L : Nat} {U E : Nat → Bool} {c : Nat → Nat → Bool} {T : Nat → Int32 × (Nat → Int32)} {up ex ver bo vo cl ln ck ho : Nat → Int32} {s f : Nat}
theorem xs_hu (h : xs_R L U E c T up ex ver bo vo cl ln ck ho) : ∀ s, s < 5 → up s = cb_b (U s) := by
  obtain ⟨VA, D, P⟩ := h
  exact P.1
theorem xs_he (h : xs_R L U E c T up ex ver bo vo cl ln ck ho) : ∀ f, f < 4 → ex f = cb_b (E f) := by
  obtain ⟨VA, D, P⟩ := h
  exact P.2.1
theorem xs_vo (h : xs_R L U E c T up ex ver bo vo cl ln ck ho) (hs : s < 5) (hf : f < 4) (hc : c s f = true) : vo (s * 4 + f) = ver f := by
  obtain ⟨VA, D, P⟩ := h
  have h1 := P.2.2.2 s f hs hf
  rw [hc] at h1
  obtain ⟨j, hj, h2, h3, _⟩ := dk_some D hs hf (xs_true h1).1
  exact h3
theorem xm_src (h : xs_R L U E c T up ex ver bo vo cl ln ck ho) (hf : f < 4) (hh : cb_hd U c f ≠ 0) : ∃ s, s < 5 ∧ c s f = true ∧ ∀ post : Int32 → Prop, post (nI s) → wpX_source post (fc, fl, up, ex, ver, bo, vo, cl, ln, ck, ho) (nI f) := by
  obtain ⟨r, h1, h2⟩ := xr_src (fc := fc) (fl := fl) (xs_C h) (xs_hu h) hf
  rcases h1 with ⟨_, h1⟩ | ⟨s, hs, rfl, hU, hc⟩
  · exact absurd (cb_c_z 5 h1) hh
  · exact ⟨s, hs, hc, h2⟩
theorem xm_src0 {post : Int32 → Prop} (h : xs_R L U E c T up ex ver bo vo cl ln ck ho) (hf : f < 4) (hh : cb_hd U c f = 0) (K : post (-1)) : wpX_source post (fc, fl, up, ex, ver, bo, vo, cl, ln, ck, ho) (nI f) := by
  obtain ⟨r, h1, h2⟩ := xr_src (fc := fc) (fl := fl) (xs_C h) (xs_hu h) hf
  rcases h1 with ⟨rfl, _⟩ | ⟨s, hs, rfl, hU, hc⟩
  · exact h2 post K
  · exact absurd hh (cb_c_p 5 s hs (by show (c s f && U s) = true; rw [hc, hU]; rfl))
theorem xm_ex (h : xs_R L U E c T up ex ver bo vo cl ln ck ho) (hf : f < 4) : vp_in (nI f) 4 ∧ ex (nI f).toNatClampNeg = cb_b (E f) := by
  rw [nI_clamp (by omega)]
  exact ⟨vp_in_nI hf (by omega), xs_he h f hf⟩
theorem xm_ref {post : Int32 → Prop} (h : xs_R L U E c T up ex ver bo vo cl ln ck ho) (hf : f < 4) (K0 : E f = false → post (-3)) (K1 : E f = true → cb_hd U c f = 0 → post (-5)) (K2 : E f = true → cb_hd U c f ≠ 0 → post 0) : wpX_refusal post (fc, fl, up, ex, ver, bo, vo, cl, ln, ck, ho) (nI f) := by
  obtain ⟨a1, a2⟩ := xm_ex h hf
  simp only [wpX_refusal]
  refine xr_bf hf (br_t rfl ⟨a1, ?_⟩)
  rw [a2]
  cases hE : E f with
  | false => exact br_t cb_z0 (K0 hE)
  | true =>
    refine br_f cb_z1 ?_
    by_cases hh : cb_hd U c f = 0
    · exact xm_src0 h hf hh (br_f (by decide) (K1 hE hh))
    · obtain ⟨s, hs, hc, H⟩ := xm_src (fc := fc) (fl := fl) h hf hh
      exact H _ (br_t (nI_pos' (by omega)) (K2 hE hh))
theorem xm_refx {post : Int32 → Prop} {x : Int32} (hx : x < 0 ∨ nI 4 ≤ x) (K : post (-1)) : wpX_refusal post (fc, fl, up, ex, ver, bo, vo, cl, ln, ck, ho) x := by
  simp only [wpX_refusal]
  exact xr_bfx hx (br_f (by decide) K)
theorem xm_read {post : Int32 → Prop} {x : Int32} (h : xs_R L U E c T up ex ver bo vo cl ln ck ho) (hf : f < 4) (K0 : E f = false → post (-3)) (K1 : E f = true → cb_hd U c f = 0 → post (-5))
    (K2 : E f = true → cb_hd U c f ≠ 0 → (x < 0 ∨ nI 6 ≤ x) → post (-6)) (K3 : E f = true → cb_hd U c f ≠ 0 → ∀ i, i < 6 → x = nI i → post ((T f).2 i)) : wpX_read post (fc, fl, up, ex, ver, bo, vo, cl, ln, ck, ho) (nI f) x := by
  simp only [wpX_read]
  refine xm_ref h hf (fun hE => br_f (by decide) (K0 hE)) (fun hE hh => br_f (by decide) (K1 hE hh)) (fun hE hh => br_t rfl ?_)
  by_cases x0 : x < 0
  · exact br_t x0 (K2 hE hh (Or.inl x0))
  · refine br_f x0 ?_
    by_cases x6 : x < 6
    · refine br_t x6 ?_
      obtain ⟨i, hi, rfl⟩ := nI_of x0
      have hi6 : i < 6 := (nI_ltI (b := 6) hi (by decide)).mp x6
      obtain ⟨s, hs, hc, H⟩ := xm_src (fc := fc) (fl := fl) h hf hh
      obtain ⟨j, hj, h1, h2, h3⟩ := xs_disk h hs hf hc
      refine H _ ?_
      rw [cb_x4, nI_clamp (n := s * 4 + f) (by omega), h1, cb_x6, nI_clamp (n := (s * 4 + j) * 6 + i) (by omega)]
      refine ⟨vp_in_nI (by omega) (by omega), vp_in_nI (by omega) (by omega), ?_⟩
      rw [← dk_w_at cl (s * 4 + j) hi6, h3]
      exact K3 hE hh i hi6 rfl
    · exact br_f x6 (K2 hE hh (Or.inr (Int32.not_lt.mp x6)))
theorem xm_length {post : Int32 → Prop} (h : xs_R L U E c T up ex ver bo vo cl ln ck ho) (hf : f < 4) (K0 : E f = false → post (-3)) (K1 : E f = true → cb_hd U c f = 0 → post (-5))
    (K2 : E f = true → cb_hd U c f ≠ 0 → post (T f).1) : wpX_length post (fc, fl, up, ex, ver, bo, vo, cl, ln, ck, ho) (nI f) := by
  simp only [wpX_length]
  refine xm_ref h hf (fun hE => br_f (by decide) (K0 hE)) (fun hE hh => br_f (by decide) (K1 hE hh)) (fun hE hh => br_t rfl ?_)
  obtain ⟨s, hs, hc, H⟩ := xm_src (fc := fc) (fl := fl) h hf hh
  obtain ⟨j, hj, h1, h2, h3⟩ := xs_disk h hs hf hc
  refine H _ ?_
  rw [cb_x4, nI_clamp (n := s * 4 + f) (by omega), h1, nI_clamp (n := s * 4 + j) (by omega)]
  refine ⟨vp_in_nI (by omega) (by omega), vp_in_nI (by omega) (by omega), ?_⟩
  rw [h2]
  exact K2 hE hh
theorem xm_replicas {post : Int32 → Prop} (h : xs_R L U E c T up ex ver bo vo cl ln ck ho) (hf : f < 4) (K0 : E f = false → post (-3)) (K1 : E f = true → post (cb_m (fun s => c s f) 5)) : wpX_replicas post (fc, fl, up, ex, ver, bo, vo, cl, ln, ck, ho) (nI f) := by
  obtain ⟨a1, a2⟩ := xm_ex h hf
  simp only [wpX_replicas]
  refine xr_bf hf (br_t rfl ⟨a1, ?_⟩)
  rw [a2]
  cases hE : E f with
  | false => exact br_t cb_z0 (K0 hE)
  | true => exact br_f cb_z1 (xr_cset (xs_C h) hf (K1 hE))
-- servers
theorem xs_setU (h : xs_R L U E c T up ex ver bo vo cl ln ck ho) (b : Bool) : xs_R L (cb_up U s b) E c T (upd up s (cb_b b)) ex ver bo vo cl ln ck ho := by
  obtain ⟨VA, D, P1, P2, P3, P4⟩ := h
  refine ⟨VA, D, ?_, P2, P3, P4⟩
  intro s' hs'
  by_cases e : s' = s
  · subst e; rw [pk_us, cb_up_s]
  · rw [pk_un e, cb_up_n _ _ e]; exact P1 s' hs'
theorem xm_crash {post : Int32 → SX → Prop} (h : xs_R L U E c T up ex ver bo vo cl ln ck ho) (hs : s < 5) (K : xs_R L (cb_up U s false) E c T (upd up s (cb_b false)) ex ver bo vo cl ln ck ho → post (cb_b (U s)) (fc, fl, (upd up s (cb_b false)), ex, ver, bo, vo, cl, ln, ck, ho)) : wpX_crash post (fc, fl, up, ex, ver, bo, vo, cl, ln, ck, ho) (nI s) := by
  have e : (nI s).toNatClampNeg = s := nI_clamp (by omega)
  have v : vp_in (nI s) 5 := vp_in_nI hs (by omega)
  have K' := K (xs_setU h false)
  simp only [wpX_crash, wX_crash_23, e]
  refine xr_bs hs (br_t rfl ⟨v, ?_⟩)
  rw [xs_hu h s hs]
  cases hU : U s with
  | false =>
    rw [hU] at K'
    exact br_t cb_z0 ⟨v, nm_e K'⟩
  | true =>
    rw [hU] at K'
    exact br_f cb_z1 ⟨v, nm_e K'⟩
theorem xm_restart_l {post : Int32 → SX → Prop} {r : Int32} (hs : s < 5) (K : ∀ bo' ho', xs_R L U E c T up ex ver bo' vo cl ln ck ho' → post r (fc, fl, up, ex, ver, bo', vo, cl, ln, ck, ho')) :
    ∀ d i bo ho, i + d = 4 → xs_R L U E c T up ex ver bo vo cl ln ck ho → wX_restart_33 post (nI s) r (d + 1) (nI i) fc fl up ex ver bo vo cl ln ck ho := by
  intro d
  induction d with
  | zero =>
    intro i bo ho hi h
    obtain rfl : i = 4 := by omega
    exact br_t cb_e4 (K bo ho h)
  | succ d ih =>
    intro i bo ho hi h
    obtain ⟨a1, a2⟩ := xm_ex h (show i < 4 by omega)
    have e1 : (nI i).toNatClampNeg = i := nI_clamp (by omega)
    have G : c s i = false → wX_restart_66 post (wX_restart_33 post (nI s) r (d + 1)) (nI s) r (nI i) fc fl up ex ver bo vo cl ln ck ho := by
      intro hc
      unfold wX_restart_66
      refine xs_letGo0 h hs (by omega) hc (fun bo' ho' h' => ?_)
      exact nm_r (nI_1 i) (ih (i + 1) bo' ho' (by omega) h')
    refine br_f (cb_l4 (by omega)) ⟨a1, ?_⟩
    rw [a2]
    cases hE : E i with
    | false => exact br_t cb_z0 (G (xs_Ef h hs (by omega) hE))
    | true =>
      refine br_f cb_z1 ⟨?_, a1, ?_⟩
      · rw [cb_x4]; exact vp_in_nI (by omega) (by omega)
      · rw [cb_x4, nI_clamp (n := s * 4 + i) (by omega), e1]
        by_cases z : vo (s * 4 + i) = ver i
        · exact br_t z (nm_r (nI_1 i) (ih (i + 1) bo ho (by omega) h))
        · refine br_f z (G ?_)
          cases hc : c s i with
          | false => rfl
          | true => exact absurd (xs_vo h hs (by omega) hc) z
theorem xm_restart {post : Int32 → SX → Prop} (h : xs_R L U E c T up ex ver bo vo cl ln ck ho) (hs : s < 5) (K : ∀ bo' ho', xs_R L (cb_up U s true) E c T (upd up s (cb_b true)) ex ver bo' vo cl ln ck ho' → post (cb_b (!U s)) (fc, fl, (upd up s (cb_b true)), ex, ver, bo', vo, cl, ln, ck, ho')) : wpX_restart post (fc, fl, up, ex, ver, bo, vo, cl, ln, ck, ho) (nI s) := by
  have e : (nI s).toNatClampNeg = s := nI_clamp (by omega)
  have v : vp_in (nI s) 5 := vp_in_nI hs (by omega)
  simp only [wpX_restart, wX_restart_23, e]
  refine xr_bs hs (br_t rfl ⟨v, ?_⟩)
  rw [xs_hu h s hs]
  have h' := xs_setU (s := s) h true
  cases hU : U s with
  | false =>
    rw [hU] at K
    exact br_t cb_z0 ⟨v, nm_e ⟨5, xm_restart_l hs K 4 0 _ _ rfl h'⟩⟩
  | true =>
    rw [hU] at K
    exact br_f cb_z1 ⟨v, nm_e ⟨5, xm_restart_l hs K 4 0 _ _ rfl h'⟩⟩
def cb_ls (c : Nat → Nat → Bool) (s i : Nat) : Nat → Nat → Bool := fun s' f' => if s' = s ∧ f' < i then false else c s' f'
theorem cb_ls_s (c : Nat → Nat → Bool) (s i : Nat) : cb_set (cb_ls c s i) s i false = cb_ls c s (i + 1) := by
  funext s' f'
  unfold cb_set cb_ls
  by_cases h1 : s' = s
  · by_cases h2 : f' < i
    · rw [if_pos (⟨h1, h2⟩ : s' = s ∧ f' < i), if_pos (⟨h1, by omega⟩ : s' = s ∧ f' < i + 1)]
      by_cases h3 : s' = s ∧ f' = i
      · rw [if_pos h3]
      · rw [if_neg h3]
    · by_cases h3 : f' = i
      · rw [if_pos (⟨h1, h3⟩ : s' = s ∧ f' = i), if_pos (⟨h1, by omega⟩ : s' = s ∧ f' < i + 1)]
      · rw [if_neg (fun z => h3 z.2), if_neg (fun z => h2 z.2), if_neg (fun z : s' = s ∧ f' < i + 1 => by omega)]
  · rw [if_neg (fun z => h1 z.1), if_neg (fun z => h1 z.1), if_neg (fun z => h1 z.1)]
theorem xm_lose_l {post : Int32 → SX → Prop} {r : Int32} (hs : s < 5) (K : ∀ bo' ho', xs_R L U E (cb_ls c s 4) T up ex ver bo' vo cl ln ck ho' → post r (fc, fl, up, ex, ver, bo', vo, cl, ln, ck, ho')) :
    ∀ d i bo ho, i + d = 4 → xs_R L U E (cb_ls c s i) T up ex ver bo vo cl ln ck ho → wX_loseDisk_17 post (nI s) r (d + 1) (nI i) fc fl up ex ver bo vo cl ln ck ho := by
  intro d
  induction d with
  | zero =>
    intro i bo ho hi h
    obtain rfl : i = 4 := by omega
    exact br_t cb_e4 (K bo ho h)
  | succ d ih =>
    intro i bo ho hi h
    refine br_f (cb_l4 (by omega)) (xs_letGo h hs (by omega) (fun bo' ho' h' => ?_))
    rw [cb_ls_s] at h'
    exact nm_r (nI_1 i) (ih (i + 1) bo' ho' (by omega) h')
theorem xm_lose {post : Int32 → SX → Prop} (h : xs_R L U E c T up ex ver bo vo cl ln ck ho) (hs : s < 5) (K : ∀ bo' ho', xs_R L U E (cb_ls c s 4) T up ex ver bo' vo cl ln ck ho' → post (nI (cb_ld c s)) (fc, fl, up, ex, ver, bo', vo, cl, ln, ck, ho')) : wpX_loseDisk post (fc, fl, up, ex, ver, bo, vo, cl, ln, ck, ho) (nI s) := by
  simp only [wpX_loseDisk]
  refine xr_bs hs (br_t rfl (xr_load (xs_C h) hs ⟨5, xm_lose_l hs K 4 0 _ _ rfl (xs_ext h ?_)⟩))
  intro s' f' _ _
  exact if_neg (fun z => absurd z.2 (by omega))
-- remove
def cb_rm (c : Nat → Nat → Bool) (f : Nat) : Nat → Nat → Bool := fun s' f' => if f' = f then false else c s' f'
theorem cb_rm_s (c : Nat → Nat → Bool) (f s' : Nat) : cb_rm c f s' f = false := if_pos rfl
theorem cb_rm_n (c : Nat → Nat → Bool) {f f' : Nat} (s' : Nat) (h : f' ≠ f) : cb_rm c f s' f' = c s' f' := if_neg h
theorem xm_remove_l {post : Int32 → SX → Prop} (hf : f < 4) (hc : ∀ s, s < 5 → c s f = false) (K : ∀ bo' ho', xs_R L U E c T up ex ver bo' vo cl ln ck ho' → post 0 (fc, fl, up, ex, ver, bo', vo, cl, ln, ck, ho')) :
    ∀ d i bo ho, i + d = 5 → xs_R L U E c T up ex ver bo vo cl ln ck ho → wX_remove_30 post (nI f) (d + 1) (nI i) fc fl up ex ver bo vo cl ln ck ho := by
  intro d
  induction d with
  | zero =>
    intro i bo ho hi h
    obtain rfl : i = 5 := by omega
    exact br_t cb_e5 (K bo ho h)
  | succ d ih =>
    intro i bo ho hi h
    have e1 : (nI i).toNatClampNeg = i := nI_clamp (by omega)
    refine br_f (cb_l5 (by omega)) ⟨vp_in_nI (by omega) (by omega), ?_⟩
    rw [e1, xs_hu h i (by omega)]
    cases hU : U i with
    | false => exact br_t cb_z0 (nm_r (nI_1 i) (ih (i + 1) bo ho (by omega) h))
    | true =>
      refine br_f cb_z1 (xs_letGo0 h (by omega) hf (hc i (by omega)) (fun bo' ho' h' => ?_))
      exact nm_r (nI_1 i) (ih (i + 1) bo' ho' (by omega) h')
theorem xs_rm (h : xs_R L U E c T up ex ver bo vo cl ln ck ho) : xs_R L U (cb_up E f false) (cb_rm c f) T up (upd ex f (cb_b false)) ver bo vo cl ln ck ho := by
  obtain ⟨VA, D, P1, P2, P3, P4⟩ := h
  refine ⟨VA, D, P1, ?_, P3, ?_⟩
  · intro f' hf'
    by_cases e : f' = f
    · subst e; rw [pk_us, cb_up_s]
    · rw [pk_un e, cb_up_n _ _ e]; exact P2 f' hf'
  · intro s f' hs hf'
    by_cases e : f' = f
    · subst e
      rw [pk_us, cb_rm_s]
      exact xs_gone (P4 s f' hs hf')
    · rw [pk_un e, cb_rm_n _ _ e]; exact P4 s f' hs hf'
theorem xm_remove {post : Int32 → SX → Prop} (h : xs_R L U E c T up ex ver bo vo cl ln ck ho) (hf : f < 4) (K0 : E f = false → post (-3) (fc, fl, up, ex, ver, bo, vo, cl, ln, ck, ho))
    (K : E f = true → ∀ bo' ho', xs_R L U (cb_up E f false) (cb_rm c f) T up (upd ex f (cb_b false)) ver bo' vo cl ln ck ho' → post 0 (fc, fl, up, (upd ex f (cb_b false)), ver, bo', vo, cl, ln, ck, ho')) : wpX_remove post (fc, fl, up, ex, ver, bo, vo, cl, ln, ck, ho) (nI f) := by
  have e : (nI f).toNatClampNeg = f := nI_clamp (by omega)
  have v : vp_in (nI f) 4 := vp_in_nI hf (by omega)
  simp only [wpX_remove, e]
  refine xr_bf hf (br_t rfl ⟨v, ?_⟩)
  rw [xs_he h f hf]
  cases hE : E f with
  | false => exact br_t cb_z0 (K0 hE)
  | true =>
    exact br_f cb_z1 ⟨v, nm_e ⟨6, xm_remove_l hf (fun s _ => cb_rm_s c f s) (K hE) 5 0 _ _ rfl (xs_rm h)⟩⟩
-- damage
theorem xm_damage {post : Int32 → SX → Prop} (h : xs_R L U E c T up ex ver bo vo cl ln ck ho) (hs : s < 5) (hf : f < 4) (K0 : E f = false → post (-3) (fc, fl, up, ex, ver, bo, vo, cl, ln, ck, ho))
    (K : E f = true → ∀ bo' cl' ln' ck' ho', xs_R L U E (cb_set c s f false) T up ex ver bo' vo cl' ln' ck' ho' → post (cb_b (c s f)) (fc, fl, up, ex, ver, bo', vo, cl', ln', ck', ho')) : wpX_damage post (fc, fl, up, ex, ver, bo, vo, cl, ln, ck, ho) (nI s) (nI f) := by
  obtain ⟨a1, a2⟩ := xm_ex h hf
  simp only [wpX_damage]
  refine xr_bs hs (br_t rfl (xr_bf hf (br_t rfl ⟨a1, ?_⟩)))
  rw [a2]
  cases hE : E f with
  | false => exact br_t cb_z0 (K0 hE)
  | true =>
    refine br_f cb_z1 (xs_C h s f hs hf _ ?_)
    have K := K hE
    cases hc : c s f with
    | false =>
      rw [hc] at K
      refine br_t cb_z0 (K bo cl ln ck ho (xs_ext h ?_))
      intro s' f' _ _
      by_cases e : s' = s ∧ f' = f
      · obtain ⟨rfl, rfl⟩ := e
        rw [cb_set_s, hc]
      · rw [cb_set_n _ _ e]
    | true =>
      rw [hc] at K
      obtain ⟨VA, D, P⟩ := h
      have h1 := P.2.2.2 s f hs hf
      rw [hc] at h1
      obtain ⟨hv, he⟩ := xs_true h1
      refine br_f cb_z1 (dx_own D hs hf hv ?_)
      intro j bo' cl' ln' ck' ho' hj D1 hb hn
      obtain ⟨j', hj', hb', hq, hl, hk, ht⟩ := dk_some D1 hs hf hv
      have hjj : j' = j := by
        rw [hb, nI_eq (by omega) (by omega)] at hb'
        omega
      subst hjj
      have e6 : (nI (s * 4 + j') * 6).toNatClampNeg = (s * 4 + j') * 6 + 0 := by rw [cb_x60]; exact nI_clamp (by omega)
      have v6 : vp_in (nI (s * 4 + j') * 6) 120 := by rw [cb_x60]; exact vp_in_nI (by omega) (by omega)
      dsimp only
      rw [e6]
      refine ⟨v6, v6, nm_e (K _ _ _ _ _ ?_)⟩
      have D2 := dk_wr (cl' := upd cl' ((s * 4 + j') * 6 + 0) (cl' ((s * 4 + j') * 6 + 0) ^^^ 1)) (ln' := ln') (ck' := ck') D1 hs hf hj hb hn
        (fun b hb => ⟨rfl, rfl, dk_w_o cl' hb (by omega) _⟩)
      have ew : dk_w (upd cl' ((s * 4 + j') * 6 + 0) (cl' ((s * 4 + j') * 6 + 0) ^^^ 1)) (s * 4 + j') = upd (T f).2 0 ((T f).2 0 ^^^ 1) := by
        rw [dk_w_u cl' _ (by omega), ← dk_w_at cl' (s * 4 + j') (i := 0) (by omega), ht]
      rw [ew, hq, hl, hk] at D2
      refine ⟨_, D2, P.1, P.2.1, P.2.2.1, ?_⟩
      intro s' f' hs' hf'
      by_cases e : s' = s ∧ f' = f
      · obtain ⟨rfl, rfl⟩ := e
        rw [dk_u_s, cb_set_s]
        constructor
        · show (decide (¬ ex f' = 0) && (decide (ver f' = ver f') && decide (dk_s (upd (T f').2 0 ((T f').2 0 ^^^ 1)) (T f').1 6 = dk_s (T f').2 (T f').1 6))) = false
          rw [decide_eq_false (dk_dam _ _), Bool.and_false, Bool.and_false]
        · intro q l k t h'
          injection h' with h'
          injection h' with h2 h'
          subst h2
          exact ⟨P.2.2.1 f' hf', fun z => nomatch z⟩
      · rw [dk_u_n _ _ e, cb_set_n _ _ e]
        exact P.2.2.2 s' f' hs' hf'
end xm
end
section
section xc
variable {fc : Int32} {L w : Nat} {U E : Nat → Bool} {T : Nat → Int32 × (Nat → Int32)} {up ex ver : Nat → Int32} {s f : Nat}
-- create: the cells of a new block
theorem xc_zero_l {post : Int32 → SX → Prop} {fl x1 x2 x3 x4 : Int32} {b : Nat} {bo vo cl ln ck ho : Nat → Int32} {J : Int32 → Int32 → Int32 → Int32 → Int32 → (Nat → Int32) → (Nat → Int32) → (Nat → Int32) → (Nat → Int32) → (Nat → Int32) → (Nat → Int32) → (Nat → Int32) → (Nat → Int32) → (Nat → Int32) → Prop}
    (hb : b < 20) (K : ∀ cl', dk_w cl' b = cb_z → (∀ b', b' ≠ b → dk_w cl' b' = dk_w cl b') → J x2 (x3 + 1) (x4 + 1) fc fl up ex ver bo vo cl' (upd ln b 0) (upd ck b (dk_s cb_z 0 6)) ho) :
    ∀ d i cl', i + d = 6 → (∀ c, c < i → cl' (b * 6 + c) = 0) → (∀ x, (x < b * 6 ∨ b * 6 + 6 ≤ x) → cl' x = cl x) → wX_create_91 post J x1 x2 x3 x4 (nI b) fc fl (d + 1) (nI i) up ex ver bo vo cl' ln ck ho := by
  have vb : vp_in (nI b) 20 := vp_in_nI hb (by omega)
  have eb : (nI b).toNatClampNeg = b := nI_clamp (by omega)
  intro d
  induction d with
  | zero =>
    intro i cl' hi h1 h2
    obtain rfl : i = 6 := by omega
    have w1 : dk_w cl' b = cb_z := by
      funext c
      unfold dk_w
      by_cases hc : c < 6
      · rw [if_pos hc]; exact h1 c hc
      · rw [if_neg hc]; rfl
    have w2 : ∀ b', b' ≠ b → dk_w cl' b' = dk_w cl b' := by
      intro b' hb'
      funext c
      unfold dk_w
      by_cases hc : c < 6
      · rw [if_pos hc, if_pos hc]; exact h2 _ (by omega)
      · rw [if_neg hc, if_neg hc]
    refine br_t cb_e6 ⟨vb, ?_⟩
    rw [eb]
    refine nm_e (dx_sum hb ⟨vb, nm_r (e' := upd ck b (dk_s cb_z 0 6)) ?_ (nm_e (nm_e (K cl' w1 w2)))⟩)
    rw [w1, pk_us]
  | succ d ih =>
    intro i cl' hi h1 h2
    have v2 : vp_in (nI b * 6 + nI i) 120 := by rw [cb_x6]; exact vp_in_nI (by omega) (by omega)
    have e2 : (nI b * 6 + nI i).toNatClampNeg = b * 6 + i := by rw [cb_x6]; exact nI_clamp (by omega)
    refine br_f (cb_l6 (by omega)) ⟨v2, ?_⟩
    rw [e2]
    refine nm_e (nm_r (nI_1 i) (ih (i + 1) _ (by omega) ?_ ?_))
    · intro c hc
      by_cases e : c = i
      · subst e
        exact pk_us
      · rw [pk_un (by omega)]
        exact h1 c (by omega)
    · intro x hx
      rw [pk_un (by omega)]
      exact h2 x hx
-- create: the loop
theorem xc_loop {post : Int32 → SX → Prop} (hw : w ≤ 3) (hf : f < 4) (hE : E f = true) (hT : T f = (0, cb_z)) :
    ∀ d i (c : Nat → Nat → Bool) (m : Nat) (bo vo cl ln ck ho : Nat → Int32), i + d = w → cb_hd U c f = i → xs_R L U E c T up ex ver bo vo cl ln ck ho →
      (∀ bo' vo' cl' ln' ck' ho', xs_R L U E (cb_fn w U f d (c, m)).1 T up ex ver bo' vo' cl' ln' ck' ho' → post (nI (cb_fn w U f d (c, m)).2) ((nI w), (nI L), up, ex, ver, bo', vo', cl', ln', ck', ho')) →
      wX_create_50 post (nI f) (d + 1) (cb_m (fun s => U s && !c s f) 5) (nI m) (nI i) (nI w) (nI L) up ex ver bo vo cl ln ck ho := by
  intro d
  induction d with
  | zero =>
    intro i c m bo vo cl ln ck ho hi hh h K
    obtain rfl : i = w := by omega
    exact br_t (nI_le (by omega) (by omega)) (K bo vo cl ln ck ho h)
  | succ d ih =>
    intro i c m bo vo cl ln ck ho hi hh h K
    refine br_f (nI_ge (by omega) (by omega)) ?_
    by_cases hz : cb_m (fun s => U s && !c s f) 5 = 0
    · have hn : cb_nx U c f = none := cb_pk_z 5 (cb_m_nz hz)
      have hx : cb_fn w U f (d + 1) (c, m) = (c, m) := cb_fn_x (z := (c, m)) (cb_fs_n hn) (d + 1)
      rw [hx] at K
      exact br_t hz (K bo vo cl ln ck ho h)
    · refine br_f hz (xr_first (xs_C h) _ ?_)
      cases hn : cb_nx U c f with
      | none => exact absurd (cb_m_z (cb_pk_n 5 hn)) hz
      | some s =>
        obtain ⟨hs, hU, hc⟩ := cb_nx_s hn
        have hx : cb_fn w U f (d + 1) (c, m) = cb_fn w U f d (cb_set c s f true, m + 1) := by
          show cb_fn w U f d (cb_fs w U f (c, m)) = _
          rw [cb_fs_s (z := (c, m)) hn (by show ¬ w ≤ cb_hd U c f; omega)]
        rw [hx] at K
        rw [show cb_pk (fun s => U s && !c s f) (cb_ld c) 5 = some s from hn, show cb_oI (some s) = nI s from rfl]
        have em : cb_m (fun s => U s && !c s f) 5 &&& (((1 : Int32) <<< (nI s &&& 31)) ^^^ (-1)) = cb_m (fun s' => U s' && !cb_set c s f true s' f) 5 := by
          rw [cb_del _ hs]
          refine cb_m_ext (fun s' _ => ?_)
          by_cases e : s' = s
          · subst e
            rw [if_pos rfl, cb_set_s, Bool.not_true, Bool.and_false]
          · rw [if_neg e, cb_set_n _ _ (fun z => e z.1)]
        refine nm_r em ?_
        obtain ⟨VA, D, P⟩ := h
        refine dx_new D hs hf ?_
        intro j bo' ho' hj D1 hb hn1
        refine ⟨7, xc_zero_l (by omega) ?_ 6 0 cl rfl (fun _ hc => absurd hc (by omega)) (fun _ _ => rfl)⟩
        intro cl' w1 w2
        have D2 := dk_wr (cl' := cl') (ln' := upd ln (s * 4 + j) 0) (ck' := upd ck (s * 4 + j) (dk_s cb_z 0 6)) D1 hs hf hj hb hn1 (fun b hb => ⟨pk_un hb, pk_un hb, w2 b hb⟩)
        rw [dk_uu, pk_us, pk_us, pk_us, w1] at D2
        have D3 := xs_made (f := f) (s := s) P hf hE (by rw [hT]; exact D2)
        rw [nI_1, nI_1]
        refine ih (i + 1) _ (m + 1) _ _ _ _ _ _ (by omega) ?_ D3 K
        rw [cb_hd_set hs hU hc, hh]
theorem xc_create {post : Int32 → SX → Prop} {c : Nat → Nat → Bool} {bo vo cl ln ck ho : Nat → Int32} (hw : w ≤ 3) (hL : L + 1 < 2 ^ 31) (h : xs_R L U E c T up ex ver bo vo cl ln ck ho) (hf : f < 4) (K0 : E f = true → post (-2) ((nI w), (nI L), up, ex, ver, bo, vo, cl, ln, ck, ho))
    (K1 : E f = false → (∀ s, s < 5 → U s = false) → post (-4) ((nI w), (nI L), up, ex, ver, bo, vo, cl, ln, ck, ho))
    (K2 : E f = false → ¬ (∀ s, s < 5 → U s = false) → ∀ ex' ver' bo' vo' cl' ln' ck' ho', xs_R (L + 1) U (cb_up E f true) (cb_fn w U f 5 (c, 0)).1 (cb_up T f (0, cb_z)) up ex' ver' bo' vo' cl' ln' ck' ho' →
      post (nI (cb_fn w U f 5 (c, 0)).2) ((nI w), (nI (L + 1)), up, ex', ver', bo', vo', cl', ln', ck', ho')) : wpX_create post ((nI w), (nI L), up, ex, ver, bo, vo, cl, ln, ck, ho) (nI f) := by
  have e : (nI f).toNatClampNeg = f := nI_clamp (by omega)
  have v : vp_in (nI f) 4 := vp_in_nI hf (by omega)
  simp only [wpX_create, wpX_newVersion, e]
  refine xr_bf hf (br_t rfl ⟨v, ?_⟩)
  rw [xs_he h f hf]
  cases hE : E f with
  | true => exact br_f cb_z1 (K0 hE)
  | false =>
    refine br_t cb_z0 (xr_uset (xs_hu h) ?_)
    by_cases hz : cb_m U 5 = 0
    · exact br_t hz (K1 hE (cb_m_nz hz))
    · have hcf : ∀ s, s < 5 → c s f = false := fun s hs => xs_Ef h hs hf hE
      have K2 := K2 hE (fun z => hz (cb_m_z z))
      obtain ⟨VA, D, P⟩ := h
      have P' := xs_newver P hf hL true (0, cb_z) c hcf (fun _ _ _ _ _ => rfl)
      refine br_f hz ⟨v, nm_e (nm_r (nI_1 L) ⟨v, nm_e ⟨w + 1, ?_⟩⟩)⟩
      have em : cb_m U 5 = cb_m (fun s => U s && !c s f) 5 := cb_m_ext (fun s hs => by rw [hcf s hs, Bool.not_false, Bool.and_true])
      rw [em]
      refine xc_loop (f := f) hw hf (cb_up_s _ _ _) (cb_up_s _ _ _) w 0 c 0 _ _ _ _ _ _ (by omega) ?_ ⟨VA, D, P'⟩ ?_
      · exact cb_c_z 5 (fun s hs => by rw [hcf s hs, Bool.false_and])
      · rw [cb_fn_w hw]
        exact fun bo' vo' cl' ln' ck' ho' h' => K2 _ _ bo' vo' cl' ln' ck' ho' h'
-- heal
theorem xc_hloop {post : Int32 → SX → Prop} {g : Nat} (hw : w ≤ 3) (hf : f < 4) (hE : E f = true) (hg : g < 5) :
    ∀ d i (c : Nat → Nat → Bool) (m : Nat) (bo vo cl ln ck ho : Nat → Int32), i + d = w → c g f = true → xs_R L U E c T up ex ver bo vo cl ln ck ho →
      (∀ bo' vo' cl' ln' ck' ho', xs_R L U E (cb_fn w U f d (c, m)).1 T up ex ver bo' vo' cl' ln' ck' ho' → post (nI (cb_fn w U f d (c, m)).2) ((nI w), (nI L), up, ex, ver, bo', vo', cl', ln', ck', ho')) →
      wX_healFile_17 post (nI f) (nI g) (d + 1) (nI m) (nI i) (nI w) (nI L) up ex ver bo vo cl ln ck ho := by
  intro d
  induction d with
  | zero =>
    intro i c m bo vo cl ln ck ho hi hc h K
    obtain rfl : i = w := by omega
    exact br_t (nI_le (by omega) (by omega)) (K bo vo cl ln ck ho h)
  | succ d ih =>
    intro i c m bo vo cl ln ck ho hi hgc h K
    refine br_f (nI_ge (by omega) (by omega)) (xr_uset (xs_hu h) (xr_cset (xs_C h) hf ?_))
    rw [cb_andn, cb_and]
    refine xr_first (xs_C h) _ (xr_bits _ ?_)
    have eh : cb_c (fun s => U s && c s f) 5 = cb_hd U c f := cb_c_ext 5 (fun s _ => Bool.and_comm _ _)
    rw [eh]
    have hle : cb_hd U c f ≤ 5 := cb_c_le _ 5
    have idle : cb_fs w U f (c, m) = (c, m) → wX_healFile_17 post (nI f) (nI g) (d + 1) (nI m) (nI (i + 1)) (nI w) (nI L) up ex ver bo vo cl ln ck ho := by
      intro hx
      have hx2 : cb_fn w U f (d + 1) (c, m) = cb_fn w U f d (c, m) := by
        show cb_fn w U f d (cb_fs w U f (c, m)) = _
        rw [hx]
      rw [hx2] at K
      exact ih (i + 1) c m bo vo cl ln ck ho (by omega) hgc h K
    by_cases hq : w ≤ cb_hd U c f
    · exact br_t (nI_le hq (by omega)) (nm_r (nI_1 i) (idle (cb_fs_w (z := (c, m)) hq)))
    · refine br_f (nI_ge (by omega) (by omega)) ?_
      cases hn : cb_nx U c f with
      | none =>
        rw [show cb_pk (fun s => U s && !c s f) (cb_ld c) 5 = none from hn, show cb_oI none = -1 from rfl]
        exact br_t (by decide) (nm_r (nI_1 i) (idle (cb_fs_n (z := (c, m)) hn)))
      | some s =>
        obtain ⟨hs, hU, hc⟩ := cb_nx_s hn
        have hx : cb_fn w U f (d + 1) (c, m) = cb_fn w U f d (cb_set c s f true, m + 1) := by
          show cb_fn w U f d (cb_fs w U f (c, m)) = _
          rw [cb_fs_s (z := (c, m)) hn hq]
        rw [hx] at K
        rw [show cb_pk (fun s => U s && !c s f) (cb_ld c) 5 = some s from hn, show cb_oI (some s) = nI s from rfl]
        obtain ⟨VA, D, P⟩ := h
        have hgs : g ≠ s := by
          intro z
          rw [z, hc] at hgc
          exact nomatch hgc
        have h1 := P.2.2.2 g f hg hf
        rw [hgc] at h1
        have hv := (xs_true h1).1
        refine br_f (nI_pos (n := s) (by omega)) (dx_new D hs hf ?_)
        intro j bo' ho' hj D1 hb hn1
        have hv1 : dk_u VA s f (some (ver f, ln (s * 4 + j), ck (s * 4 + j), dk_w cl (s * 4 + j))) g f = some (ver f, (T f).1, dk_s (T f).2 (T f).1 6, (T f).2) := by
          rw [dk_u_n _ _ (fun z => hgs z.1)]; exact hv
        obtain ⟨j', hj', hb', _, hl, hk, ht⟩ := dk_some D1 hg hf hv1
        dsimp only
        rw [cb_x4, nI_clamp (n := g * 4 + f) (by omega), hb']
        refine ⟨vp_in_nI (by omega) (by omega), dx_copy (by omega) (by omega) (by omega) ?_⟩
        intro cl' w1 w2
        have D2 := dk_wr (cl' := cl') (ln' := upd ln (s * 4 + j) (ln (g * 4 + j'))) (ck' := upd ck (s * 4 + j) (ck (g * 4 + j'))) D1 hs hf hj hb hn1 (fun b hb => ⟨pk_un hb, pk_un hb, w2 b hb⟩)
        rw [dk_uu, pk_us, pk_us, pk_us, w1, hl, hk, ht] at D2
        have D3 := xs_made (f := f) (s := s) P hf hE D2
        rw [hl, hk]
        refine nm_r (nI_1 m) (nm_r (nI_1 i) (ih (i + 1) _ (m + 1) _ _ _ _ _ _ (by omega) ?_ D3 K))
        rw [cb_set_n _ _ (fun z => hgs z.1)]
        exact hgc
theorem xc_hfile {post : Int32 → SX → Prop} {c : Nat → Nat → Bool} {bo vo cl ln ck ho : Nat → Int32} (hw : w ≤ 3) (h : xs_R L U E c T up ex ver bo vo cl ln ck ho) (hf : f < 4) (hE : E f = true) (K0 : cb_hd U c f = 0 → post 0 ((nI w), (nI L), up, ex, ver, bo, vo, cl, ln, ck, ho))
    (K1 : cb_hd U c f ≠ 0 → ∀ bo' vo' cl' ln' ck' ho', xs_R L U E (cb_fn w U f 5 (c, 0)).1 T up ex ver bo' vo' cl' ln' ck' ho' →
      post (nI (cb_fn w U f 5 (c, 0)).2) ((nI w), (nI L), up, ex, ver, bo', vo', cl', ln', ck', ho')) : wpX_healFile post ((nI w), (nI L), up, ex, ver, bo, vo, cl, ln, ck, ho) (nI f) := by
  simp only [wpX_healFile]
  by_cases hh : cb_hd U c f = 0
  · exact xm_src0 h hf hh (br_f (by decide) (K0 hh))
  · obtain ⟨s, hs, hc, H⟩ := xm_src (fc := nI w) (fl := nI L) h hf hh
    refine H _ (br_t (nI_pos' (by omega)) ⟨w + 1, xc_hloop hw hf hE hs w 0 c 0 bo vo cl ln ck ho (by omega) hc h ?_⟩)
    rw [cb_fn_w hw]
    exact K1 hh
end xc
def cb_h1 (w : Nat) (U E : Nat → Bool) (f : Nat) (z : (Nat → Nat → Bool) × Nat) : (Nat → Nat → Bool) × Nat :=
  if E f = true ∧ cb_hd U z.1 f ≠ 0 then ((cb_fn w U f 5 (z.1, 0)).1, z.2 + (cb_fn w U f 5 (z.1, 0)).2) else z
def cb_hn (w : Nat) (U E : Nat → Bool) : Nat → Nat → (Nat → Nat → Bool) × Nat → (Nat → Nat → Bool) × Nat
  | 0, _, z => z
  | d + 1, i, z => cb_hn w U E d (i + 1) (cb_h1 w U E i z)
theorem cb_h1_t {w : Nat} {U E : Nat → Bool} {f : Nat} {c : Nat → Nat → Bool} {m : Nat} (hE : E f = true) (hh : cb_hd U c f ≠ 0) : cb_h1 w U E f (c, m) = ((cb_fn w U f 5 (c, 0)).1, m + (cb_fn w U f 5 (c, 0)).2) := if_pos ⟨hE, hh⟩
theorem cb_h1_e {w : Nat} {U E : Nat → Bool} {f : Nat} {c : Nat → Nat → Bool} {m : Nat} (hE : E f = false) : cb_h1 w U E f (c, m) = (c, m) := if_neg (fun z => by rw [hE] at z; exact nomatch z.1)
theorem cb_h1_h {w : Nat} {U E : Nat → Bool} {f : Nat} {c : Nat → Nat → Bool} {m : Nat} (hh : cb_hd U c f = 0) : cb_h1 w U E f (c, m) = (c, m) := if_neg (fun z => z.2 hh)
section xh
variable {L w : Nat} {U E : Nat → Bool} {T : Nat → Int32 × (Nat → Int32)} {up ex ver : Nat → Int32}
theorem xc_heal_l {post : Int32 → SX → Prop} (hw : w ≤ 3) :
    ∀ d i (c : Nat → Nat → Bool) (m : Nat) (bo vo cl ln ck ho : Nat → Int32), i + d = 4 → xs_R L U E c T up ex ver bo vo cl ln ck ho →
      (∀ bo' vo' cl' ln' ck' ho', xs_R L U E (cb_hn w U E d i (c, m)).1 T up ex ver bo' vo' cl' ln' ck' ho' → post (nI (cb_hn w U E d i (c, m)).2) ((nI w), (nI L), up, ex, ver, bo', vo', cl', ln', ck', ho')) →
      wX_heal_4 post (d + 1) (nI m) (nI i) (nI w) (nI L) up ex ver bo vo cl ln ck ho := by
  intro d
  induction d with
  | zero =>
    intro i c m bo vo cl ln ck ho hi h K
    obtain rfl : i = 4 := by omega
    exact br_t cb_e4 (K bo vo cl ln ck ho h)
  | succ d ih =>
    intro i c m bo vo cl ln ck ho hi h K
    obtain ⟨a1, a2⟩ := xm_ex h (show i < 4 by omega)
    refine br_f (cb_l4 (by omega)) ⟨a1, ?_⟩
    rw [a2]
    have K' : ∀ bo' vo' cl' ln' ck' ho', xs_R L U E (cb_hn w U E d (i + 1) (cb_h1 w U E i (c, m))).1 T up ex ver bo' vo' cl' ln' ck' ho' → post (nI (cb_hn w U E d (i + 1) (cb_h1 w U E i (c, m))).2) ((nI w), (nI L), up, ex, ver, bo', vo', cl', ln', ck', ho') := K
    cases hE : E i with
    | false =>
      rw [cb_h1_e hE] at K'
      exact br_t cb_z0 (nm_r (nI_1 i) (ih (i + 1) c m bo vo cl ln ck ho (by omega) h K'))
    | true =>
      refine br_f cb_z1 (xc_hfile hw h (by omega) hE ?_ ?_)
      · intro hh
        rw [cb_h1_h hh] at K'
        refine nm_r (e' := nI m) ?_ (nm_r (nI_1 i) (ih (i + 1) c m bo vo cl ln ck ho (by omega) h K'))
        exact Int32.add_zero _
      · intro hh bo' vo' cl' ln' ck' ho' h'
        rw [cb_h1_t hE hh] at K'
        exact nm_r (nI_add _ _) (nm_r (nI_1 i) (ih (i + 1) _ _ bo' vo' cl' ln' ck' ho' (by omega) h' K'))
theorem xc_heal {post : Int32 → SX → Prop} {c : Nat → Nat → Bool} {bo vo cl ln ck ho : Nat → Int32} (hw : w ≤ 3) (h : xs_R L U E c T up ex ver bo vo cl ln ck ho)
    (K : ∀ bo' vo' cl' ln' ck' ho', xs_R L U E (cb_hn w U E 4 0 (c, 0)).1 T up ex ver bo' vo' cl' ln' ck' ho' → post (nI (cb_hn w U E 4 0 (c, 0)).2) ((nI w), (nI L), up, ex, ver, bo', vo', cl', ln', ck', ho')) :
    wpX_heal post ((nI w), (nI L), up, ex, ver, bo, vo, cl, ln, ck, ho) := ⟨5, xc_heal_l hw 4 0 c 0 bo vo cl ln ck ho rfl h K⟩
end xh
end
section
-- mutate, write, append, snapshot
def xw_sv (v : Int32) : dk_cv → dk_cv := fun cv => (v, cv.2)
def xw_l (i : Nat) (l : Int32) : Int32 := if nI (i + 1) ≤ l then l else nI (i + 1)
def xw_mc (i : Nat) (x : Int32) : dk_cv → dk_cv := fun cv => (cv.1, xw_l i cv.2.1, dk_s (upd cv.2.2.2 i x) (xw_l i cv.2.1) 6, upd cv.2.2.2 i x)
def xw_T (i : Nat) (x : Int32) (z : Int32 × (Nat → Int32)) : Int32 × (Nat → Int32) := (xw_l i z.1, upd z.2 i x)
def cb_wr (c : Nat → Nat → Bool) (U : Nat → Bool) (f : Nat) : Nat → Nat → Bool := fun s f' => if f' = f then c s f' && U s else c s f'
theorem cb_wr_s (c : Nat → Nat → Bool) (U : Nat → Bool) (f s : Nat) : cb_wr c U f s f = (c s f && U s) := if_pos rfl
theorem cb_wr_n (c : Nat → Nat → Bool) (U : Nat → Bool) {f f' : Nat} (s : Nat) (h : f' ≠ f) : cb_wr c U f s f' = c s f' := if_neg h
section xw
variable {fc fl : Int32} {L : Nat} {U E : Nat → Bool} {c : Nat → Nat → Bool} {T : Nat → Int32 × (Nat → Int32)} {up ex ver bo vo cl ln ck ho : Nat → Int32} {VA : Nat → Nat → Option dk_cv} {s f : Nat}
theorem xw_ver_l {post : Int32 → SX → Prop} {x2 x3 : Int32} (p : Nat → Bool) (hp : ∀ s, s < 5 → p s = true → ∃ cv, VA s f = some cv) (hf : f < 4)
    (K : ∀ vo', dk_R bo vo' cl ln ck ho (xs_mp VA f 5 p (xw_sv (ver f))) → ∃ n, wX_mutate_74 post (nI f) x2 x3 (cb_m p 5) n 0 fc fl up ex ver bo vo' cl ln ck ho) :
    ∀ d i vo, i + d = 5 → dk_R bo vo cl ln ck ho (xs_mp VA f i p (xw_sv (ver f))) → wX_mutate_31 post (nI f) x2 x3 (cb_m p 5) fc fl (d + 1) (nI i) up ex ver bo vo cl ln ck ho := by
  intro d
  induction d with
  | zero =>
    intro i vo hi D
    obtain rfl : i = 5 := by omega
    exact br_t cb_e5 (K vo D)
  | succ d ih =>
    intro i vo hi D
    refine br_f (cb_l5 (by omega)) ?_
    rw [cb_bit p (by omega)]
    cases hpi : p i with
    | false => exact br_f (by decide) (nm_r (nI_1 i) (ih (i + 1) vo (by omega) (xs_mp_f D hpi)))
    | true =>
      obtain ⟨⟨q, l, k, t⟩, hv⟩ := hp i (by omega) hpi
      have hv' : xs_mp VA f i p (xw_sv (ver f)) i f = some (q, l, k, t) := by
        rw [xs_mp_n (fun h => absurd h.2.1 (by omega))]; exact hv
      have ef : (nI f).toNatClampNeg = f := nI_clamp (by omega)
      have D' := xs_mp_t hv hpi (dk_ver D (by omega) hf hv' (ver f))
      refine br_t (by decide) ⟨vp_in_nI hf (by omega), ?_⟩
      rw [cb_x4, nI_clamp (n := i * 4 + f) (by omega), ef]
      exact ⟨vp_in_nI (by omega) (by omega), nm_e (nm_r (nI_1 i) (ih (i + 1) _ (by omega) D'))⟩
theorem xw_mut_l {post : Int32 → SX → Prop} {x : Int32} {m : Nat} (p : Nat → Bool) (hp : ∀ s, s < 5 → p s = true → ∃ cv, VA s f = some cv) (hf : f < 4) (hm : m < 6)
    (K : ∀ bo' cl' ln' ck' ho', dk_R bo' vo cl' ln' ck' ho' (xs_mp VA f 5 p (xw_mc m x)) → post (nI (cb_c p 5)) (fc, fl, up, ex, ver, bo', vo, cl', ln', ck', ho')) :
    ∀ d i bo cl ln ck ho, i + d = 5 → dk_R bo vo cl ln ck ho (xs_mp VA f i p (xw_mc m x)) → wX_mutate_74 post (nI f) (nI m) x (cb_m p 5) (d + 1) (nI i) fc fl up ex ver bo vo cl ln ck ho := by
  intro d
  induction d with
  | zero =>
    intro i bo cl ln ck ho hi D
    obtain rfl : i = 5 := by omega
    exact br_t cb_e5 (xr_bits p (K bo cl ln ck ho D))
  | succ d ih =>
    intro i bo cl ln ck ho hi D
    refine br_f (cb_l5 (by omega)) ?_
    rw [cb_bit p (by omega)]
    cases hpi : p i with
    | false => exact br_f (by decide) (nm_r (nI_1 i) (ih (i + 1) bo cl ln ck ho (by omega) (xs_mp_f D hpi)))
    | true =>
      obtain ⟨⟨q, l, k, t⟩, hv⟩ := hp i (by omega) hpi
      have hv' : xs_mp VA f i p (xw_mc m x) i f = some (q, l, k, t) := by
        rw [xs_mp_n (fun h => absurd h.2.1 (by omega))]; exact hv
      have hi5 : i < 5 := by omega
      refine br_t (by decide) (dx_own D hi5 hf hv' ?_)
      intro j bo' cl' ln' ck' ho' hj D1 hb hn
      obtain ⟨j', hj', hb', hq, hl, hk, ht⟩ := dk_some D1 hi5 hf hv'
      have hjj : j' = j := by
        rw [hb, nI_eq (by omega) (by omega)] at hb'
        omega
      subst hjj
      have e1 : (nI (i * 4 + j')).toNatClampNeg = i * 4 + j' := nI_clamp (by omega)
      have v1 : vp_in (nI (i * 4 + j')) 20 := vp_in_nI (by omega) (by omega)
      have e6 : (nI (i * 4 + j') * 6 + nI m).toNatClampNeg = (i * 4 + j') * 6 + m := by rw [cb_x6]; exact nI_clamp (by omega)
      have v6 : vp_in (nI (i * 4 + j') * 6 + nI m) 120 := by rw [cb_x6]; exact vp_in_nI (by omega) (by omega)
      have G : ∀ ln2, ln2 = upd ln' (i * 4 + j') (xw_l m l) →
          wX_mutate_136 post (wX_mutate_74 post (nI f) (nI m) x (cb_m p 5) (d + 1)) (nI f) (nI m) x (cb_m p 5) (nI i) (nI (i * 4 + j')) fc fl up ex ver bo' vo (upd cl' ((i * 4 + j') * 6 + m) x) ln2 ck' ho' := by
        intro ln2 e2
        subst e2
        unfold wX_mutate_136
        refine dx_sum (by omega) ⟨v1, ?_⟩
        rw [e1, dk_w_u cl' _ hm, pk_us, ht]
        refine nm_e (nm_r (nI_1 i) (ih (i + 1) _ _ _ _ _ (by omega) (xs_mp_t hv hpi ?_)))
        have D2 := dk_wr (cl' := upd cl' ((i * 4 + j') * 6 + m) x) (ln' := upd ln' (i * 4 + j') (xw_l m l)) (ck' := upd ck' (i * 4 + j') (dk_s (upd t m x) (xw_l m l) 6)) D1 hi5 hf hj hb hn
          (fun b hb => ⟨pk_un hb, pk_un hb, dk_w_o cl' hb hm _⟩)
        have ew : dk_w (upd cl' ((i * 4 + j') * 6 + m) x) (i * 4 + j') = upd t m x := by rw [dk_w_u cl' _ hm, ht]
        rw [ew, hq, pk_us, pk_us] at D2
        exact D2
      dsimp only
      rw [e6, e1, nI_1]
      refine ⟨v6, nm_e ⟨v1, ?_⟩⟩
      rw [hl]
      by_cases hz : nI (m + 1) ≤ l
      · refine br_t hz (G _ ?_)
        have : xw_l m l = ln' (i * 4 + j') := by rw [hl]; exact if_pos hz
        rw [this, cb_us]
      · refine br_f hz ⟨v1, nm_e (G _ ?_)⟩
        have : xw_l m l = nI (m + 1) := if_neg hz
        rw [this]
theorem xw_P1 (P : xs_P L U E c T up ex ver VA) (hf : f < 4) (hL : L + 1 < 2 ^ 31) : xs_P (L + 1) U E (cb_wr c U f) T up ex (upd ver f (nI (L + 1))) (xs_mp VA f 5 (fun s => c s f && U s) (xw_sv (nI (L + 1)))) := by
  refine ⟨P.1, P.2.1, ?_, ?_⟩
  · intro f' hf'
    by_cases e : f' = f
    · subst e; rw [pk_us]; exact ⟨L + 1, Nat.le_refl _, rfl⟩
    · rw [pk_un e]
      obtain ⟨n, hn, hv⟩ := P.2.2.1 f' hf'
      exact ⟨n, by omega, hv⟩
  · intro s f' hs hf'
    have h1 := P.2.2.2 s f' hs hf'
    by_cases e : f' = f
    · subst e
      rw [pk_us, cb_wr_s]
      cases hp : (c s f' && U s) with
      | true =>
        rw [xs_mp_y (p := fun s => c s f' && U s) hs hp]
        have hc : c s f' = true := (Bool.and_eq_true_iff.mp hp).1
        rw [hc] at h1
        obtain ⟨h2, h3⟩ := xs_true h1
        rw [h2]
        exact xs_mk h3 ⟨L + 1, Nat.le_refl _, rfl⟩
      | false =>
        rw [xs_mp_n (fun z => by have q : (c s f' && U s) = true := z.2.2; rw [hp] at q; exact nomatch q)]
        exact xs_fresh h1 hL _ _
    · rw [pk_un e, cb_wr_n _ _ _ e, xs_mp_n (fun z => e z.1)]
      exact xs_up h1 (by omega)
theorem xw_map (m : Nat) (x q l k : Int32) (t : Nat → Int32) : (some (q, l, k, t) : Option dk_cv).map (xw_mc m x) = some (q, xw_l m l, dk_s (upd t m x) (xw_l m l) 6, upd t m x) := by
  simp only [Option.map_some, xw_mc]
theorem xs_mk2 {L : Nat} {e vr l k : Int32} {t : Nat → Int32} (he : ¬ e = 0) (hv : ∃ n, n ≤ L ∧ vr = nI n) (hk : dk_s t l 6 = k) : xs_ok L e vr (l, t) (some (vr, l, k, t)) true := by
  subst hk
  exact xs_mk (T := (l, t)) he hv
theorem xw_ok {L : Nat} {e vr : Int32} {T : Int32 × (Nat → Int32)} {o : Option dk_cv} (m : Nat) (x : Int32) (h : xs_ok L e vr T o true) (hv : ∃ n, n ≤ L ∧ vr = nI n) : xs_ok L e vr (xw_T m x T) (o.map (xw_mc m x)) true := by
  obtain ⟨h2, h3⟩ := xs_true h
  rw [h2, xw_map]
  unfold xw_T
  exact xs_mk2 h3 hv rfl
theorem xw_P2 {p : Nat → Bool} {m : Nat} {x : Int32} (P : xs_P L U E c T up ex ver VA) (hp : ∀ s, s < 5 → p s = c s f) : xs_P L U E c (cb_up T f (xw_T m x (T f))) up ex ver (xs_mp VA f 5 p (xw_mc m x)) := by
  refine ⟨P.1, P.2.1, P.2.2.1, ?_⟩
  intro s f' hs hf'
  have h1 := P.2.2.2 s f' hs hf'
  by_cases e : f' = f
  · subst e
    rw [cb_up_s]
    cases hc : c s f' with
    | true =>
      rw [xs_mp_y hs (by rw [hp s hs, hc])]
      rw [hc] at h1
      exact xw_ok m x h1 (P.2.2.1 f' hf')
    | false =>
      rw [xs_mp_n (fun z => by have := z.2.2; rw [hp s hs, hc] at this; exact nomatch this)]
      rw [hc] at h1
      exact xs_lost h1
  · rw [cb_up_n _ _ e, xs_mp_n (fun z => e z.1)]
    exact h1
theorem xw_some (P : xs_P L U E c T up ex ver VA) (hs : s < 5) (hf : f < 4) (hc : c s f = true) : ∃ cv, VA s f = some cv := by
  have h1 := P.2.2.2 s f hs hf
  rw [hc] at h1
  exact ⟨_, (xs_true h1).1⟩
theorem xw_P0 (P : xs_P L U E c T up ex ver VA) {c' : Nat → Nat → Bool} (e : ∀ s f, s < 5 → f < 4 → c' s f = c s f) : xs_P L U E c' T up ex ver VA :=
  ⟨P.1, P.2.1, P.2.2.1, fun s f hs hf => by rw [e s f hs hf]; exact P.2.2.2 s f hs hf⟩
theorem xw_mutate {post : Int32 → SX → Prop} {m : Nat} {x : Int32} (h : xs_R L U E c T up ex ver bo vo cl ln ck ho) (hf : f < 4) (hm : m < 6) (hL : L + 1 < 2 ^ 31)
    (K : ∀ L' ver' bo' vo' cl' ln' ck' ho', L' ≤ L + 1 → xs_R L' U E (cb_wr c U f) (cb_up T f (xw_T m x (T f))) up ex ver' bo' vo' cl' ln' ck' ho' →
      post (nI (cb_hd U c f)) (fc, (nI L'), up, ex, ver', bo', vo', cl', ln', ck', ho')) : wpX_mutate post (fc, (nI L), up, ex, ver, bo, vo, cl, ln, ck, ho) (nI f) (nI m) x := by
  have e : (nI f).toNatClampNeg = f := nI_clamp (by omega)
  have v : vp_in (nI f) 4 := vp_in_nI hf (by omega)
  simp only [wpX_mutate, wpX_newVersion, e]
  refine xr_cset (xs_C h) hf (xr_uset (xs_hu h) (nm_r (cb_and _ _) ?_))
  obtain ⟨VA, D, P⟩ := h
  by_cases hz : cb_m (fun s => c s f && U s) 5 = cb_m (fun s => c s f) 5
  · have hp : ∀ s, s < 5 → (c s f && U s) = c s f := cb_m_inj hz
    refine br_t hz ⟨6, xw_mut_l (VA := VA) (fun s => c s f && U s) ?_ hf hm ?_ 5 0 bo cl ln ck ho rfl (xs_mp_0 D _ _ _)⟩
    · intro s hs hc
      exact xw_some P hs hf ((Bool.and_eq_true_iff.mp hc).1)
    · intro bo' cl' ln' ck' ho' D'
      refine K L ver bo' vo cl' ln' ck' ho' (by omega) ⟨_, D', xw_P2 (xw_P0 P ?_) ?_⟩
      · intro s f' hs hf'
        by_cases e : f' = f
        · subst e; rw [cb_wr_s, hp s hs]
        · rw [cb_wr_n _ _ _ e]
      · intro s hs
        rw [cb_wr_s]
  · have P1 := xw_P1 P hf hL
    refine br_f hz (nm_r (nI_1 L) ⟨v, nm_e ⟨6, xw_ver_l (VA := VA) (fun s => c s f && U s) ?_ hf ?_ 5 0 vo rfl (xs_mp_0 D _ _ _)⟩⟩)
    · intro s hs hc
      exact xw_some P hs hf ((Bool.and_eq_true_iff.mp hc).1)
    · intro vo' D1
      rw [pk_us] at D1
      refine ⟨6, xw_mut_l (fun s => c s f && U s) ?_ hf hm ?_ 5 0 bo cl ln ck ho rfl (xs_mp_0 D1 _ _ _)⟩
      · intro s hs hc
        exact xw_some P1 hs hf (by rw [cb_wr_s]; exact hc)
      · intro bo' cl' ln' ck' ho' D'
        refine K (L + 1) _ bo' vo' cl' ln' ck' ho' (by omega) ⟨_, D', xw_P2 P1 ?_⟩
        intro s hs
        rw [cb_wr_s]
theorem xw_write {post : Int32 → SX → Prop} {y x : Int32} (h : xs_R L U E c T up ex ver bo vo cl ln ck ho) (hf : f < 4) (hL : L + 1 < 2 ^ 31) (K0 : E f = false → post (-3) (fc, (nI L), up, ex, ver, bo, vo, cl, ln, ck, ho)) (K1 : E f = true → cb_hd U c f = 0 → post (-5) (fc, (nI L), up, ex, ver, bo, vo, cl, ln, ck, ho))
    (K2 : E f = true → cb_hd U c f ≠ 0 → (y < 0 ∨ nI 6 ≤ y) → post (-6) (fc, (nI L), up, ex, ver, bo, vo, cl, ln, ck, ho))
    (K3 : E f = true → cb_hd U c f ≠ 0 → ∀ m, m < 6 → y = nI m → ∀ L' ver' bo' vo' cl' ln' ck' ho', L' ≤ L + 1 → xs_R L' U E (cb_wr c U f) (cb_up T f (xw_T m x (T f))) up ex ver' bo' vo' cl' ln' ck' ho' →
      post (nI (cb_hd U c f)) (fc, (nI L'), up, ex, ver', bo', vo', cl', ln', ck', ho')) : wpX_write post (fc, (nI L), up, ex, ver, bo, vo, cl, ln, ck, ho) (nI f) y x := by
  simp only [wpX_write]
  refine xm_ref h hf (fun hE => br_f (by decide) (K0 hE)) (fun hE hh => br_f (by decide) (K1 hE hh)) (fun hE hh => br_t rfl ?_)
  by_cases x0 : y < 0
  · exact br_t x0 (K2 hE hh (Or.inl x0))
  · refine br_f x0 ?_
    by_cases x6 : y < 6
    · refine br_t x6 ?_
      obtain ⟨i, hi, rfl⟩ := nI_of x0
      have hi6 : i < 6 := (nI_ltI (b := 6) hi (by decide)).mp x6
      exact xw_mutate h hf hi6 hL (K3 hE hh i hi6 rfl)
    · exact br_f x6 (K2 hE hh (Or.inr (Int32.not_lt.mp x6)))
theorem xw_append {post : Int32 → SX → Prop} {x : Int32} {m : Nat} (h : xs_R L U E c T up ex ver bo vo cl ln ck ho) (hf : f < 4) (hL : L + 1 < 2 ^ 31) (hT : (T f).1 = nI m) (hm : m ≤ 6) (K0 : E f = false → post (-3) (fc, (nI L), up, ex, ver, bo, vo, cl, ln, ck, ho)) (K1 : E f = true → cb_hd U c f = 0 → post (-5) (fc, (nI L), up, ex, ver, bo, vo, cl, ln, ck, ho))
    (K2 : E f = true → cb_hd U c f ≠ 0 → m = 6 → post (-7) (fc, (nI L), up, ex, ver, bo, vo, cl, ln, ck, ho))
    (K3 : E f = true → cb_hd U c f ≠ 0 → m < 6 → ∀ L' ver' bo' vo' cl' ln' ck' ho', L' ≤ L + 1 → xs_R L' U E (cb_wr c U f) (cb_up T f (xw_T m x (T f))) up ex ver' bo' vo' cl' ln' ck' ho' →
      post (nI m) (fc, (nI L'), up, ex, ver', bo', vo', cl', ln', ck', ho')) : wpX_append post (fc, (nI L), up, ex, ver, bo, vo, cl, ln, ck, ho) (nI f) x := by
  simp only [wpX_append]
  refine xm_ref h hf (fun hE => br_f (by decide) (K0 hE)) (fun hE hh => br_f (by decide) (K1 hE hh)) (fun hE hh => br_t rfl ?_)
  obtain ⟨s, hs, hc, H⟩ := xm_src (fc := fc) (fl := nI L) h hf hh
  obtain ⟨j, hj, h1, h2, h3⟩ := xs_disk h hs hf hc
  refine H _ ?_
  rw [cb_x4, nI_clamp (n := s * 4 + f) (by omega), h1, nI_clamp (n := s * 4 + j) (by omega), h2, hT]
  refine ⟨vp_in_nI (by omega) (by omega), vp_in_nI (by omega) (by omega), nm_e ?_⟩
  by_cases h6 : m = 6
  · subst h6
    exact br_f (by decide) (K2 hE hh rfl)
  · exact br_t (cb_lt6 (by omega)) (xw_mutate h hf (by omega) hL (K3 hE hh (by omega)))
end xw
-- snapshot
def xn_sp (VA : Nat → Nat → Option dk_cv) (g f i : Nat) (p : Nat → Bool) (v : Int32) : Nat → Nat → Option dk_cv := fun s' f' => if f' = f ∧ s' < i ∧ p s' = true then (VA s' g).map (xw_sv v) else VA s' f'
def cb_sn (c : Nat → Nat → Bool) (g f : Nat) : Nat → Nat → Bool := fun s f' => if f' = f then c s g else c s f'
theorem cb_sn_s (c : Nat → Nat → Bool) (g f s : Nat) : cb_sn c g f s f = c s g := if_pos rfl
theorem cb_sn_n (c : Nat → Nat → Bool) (g : Nat) {f f' : Nat} (s : Nat) (h : f' ≠ f) : cb_sn c g f s f' = c s f' := if_neg h
section xn
variable {fc fl : Int32} {L : Nat} {U E : Nat → Bool} {c : Nat → Nat → Bool} {T : Nat → Int32 × (Nat → Int32)} {up ex ver bo vo cl ln ck ho : Nat → Int32} {VA : Nat → Nat → Option dk_cv} {s f g : Nat}
theorem xn_sp_y {p : Nat → Bool} {v : Int32} {i : Nat} (hi : s < i) (hp : p s = true) : xn_sp VA g f i p v s f = (VA s g).map (xw_sv v) := if_pos ⟨rfl, hi, hp⟩
theorem xn_sp_n {p : Nat → Bool} {v : Int32} {i s' f' : Nat} (h : ¬ (f' = f ∧ s' < i ∧ p s' = true)) : xn_sp VA g f i p v s' f' = VA s' f' := if_neg h
theorem xn_sp_0 (D : dk_R bo vo cl ln ck ho VA) (p : Nat → Bool) (v : Int32) : dk_R bo vo cl ln ck ho (xn_sp VA g f 0 p v) :=
  dk_R_ext D (fun s f' _ _ => xn_sp_n (fun h => absurd h.2.1 (by omega)))
theorem xn_sp_f {p : Nat → Bool} {v : Int32} {i : Nat} (D : dk_R bo vo cl ln ck ho (xn_sp VA g f i p v)) (hp : p i = false) : dk_R bo vo cl ln ck ho (xn_sp VA g f (i + 1) p v) := by
  refine dk_R_ext D (fun s f' _ _ => ?_)
  by_cases h : f' = f ∧ s < i ∧ p s = true
  · obtain ⟨rfl, h2, h3⟩ := h
    rw [xn_sp_y h2 h3, xn_sp_y (by omega) h3]
  · rw [xn_sp_n h, xn_sp_n]
    intro h'
    by_cases e : s = i
    · rw [e, hp] at h'; exact nomatch h'.2.2
    · exact h ⟨h'.1, by omega, h'.2.2⟩
theorem xn_sp_t {p : Nat → Bool} {v : Int32} {i : Nat} {cv : dk_cv} (hv : VA i g = some cv) (hp : p i = true) (D : dk_R bo vo cl ln ck ho (dk_u (xn_sp VA g f i p v) i f (some (v, cv.2)))) : dk_R bo vo cl ln ck ho (xn_sp VA g f (i + 1) p v) := by
  refine dk_R_ext D (fun s f' _ _ => ?_)
  by_cases e : s = i ∧ f' = f
  · obtain ⟨rfl, rfl⟩ := e
    rw [dk_u_s, xn_sp_y (by omega) hp, hv]
    rfl
  · rw [dk_u_n _ _ e]
    by_cases h : f' = f ∧ s < i ∧ p s = true
    · obtain ⟨rfl, h2, h3⟩ := h
      rw [xn_sp_y h2 h3, xn_sp_y (by omega) h3]
    · rw [xn_sp_n h, xn_sp_n]
      intro h'
      by_cases z : s = i
      · exact e ⟨z, h'.1⟩
      · exact h ⟨h'.1, by omega, h'.2.2⟩
theorem xn_l {post : Int32 → SX → Prop} (p : Nat → Bool) (hp : ∀ s, s < 5 → p s = true → ∃ cv, VA s g = some cv) (hg : g < 4) (hf : f < 4) (hgf : g ≠ f)
    (K : ∀ bo' vo' ho', dk_R bo' vo' cl ln ck ho' (xn_sp VA g f 5 p (ver f)) → post (nI (cb_c p 5)) (fc, fl, up, ex, ver, bo', vo', cl, ln, ck, ho')) :
    ∀ d i bo vo ho, i + d = 5 → dk_R bo vo cl ln ck ho (xn_sp VA g f i p (ver f)) → wX_snapshot_75 post (nI g) (nI f) (cb_m p 5) (d + 1) (nI i) fc fl up ex ver bo vo cl ln ck ho := by
  intro d
  induction d with
  | zero =>
    intro i bo vo ho hi D
    obtain rfl : i = 5 := by omega
    exact br_t cb_e5 (xr_bits p (K bo vo ho D))
  | succ d ih =>
    intro i bo vo ho hi D
    refine br_f (cb_l5 (by omega)) ?_
    rw [cb_bit p (by omega)]
    cases hpi : p i with
    | false => exact br_f (by decide) (nm_r (nI_1 i) (ih (i + 1) bo vo ho (by omega) (xn_sp_f D hpi)))
    | true =>
      obtain ⟨⟨q, l, k, t⟩, hv⟩ := hp i (by omega) hpi
      have hi5 : i < 5 := by omega
      refine br_t (by decide) (dx_letGo D hi5 hf ?_)
      intro bo1 ho1 D1
      have hv1 : dk_u (xn_sp VA g f i p (ver f)) i f none i g = some (q, l, k, t) := by
        rw [dk_u_n _ _ (fun z => hgf z.2), xn_sp_n (fun z => hgf z.1)]; exact hv
      obtain ⟨j, hj, hb, hq, hl, hk, ht⟩ := dk_some D1 hi5 hg hv1
      have hbf : bo1 (i * 4 + f) = -1 := dk_none D1 hi5 hf (dk_u_s _ _ _ _)
      have ef : (nI f).toNatClampNeg = f := nI_clamp (by omega)
      have vf : vp_in (nI f) 4 := vp_in_nI hf (by omega)
      have e1 : (nI (i * 4 + j)).toNatClampNeg = i * 4 + j := nI_clamp (by omega)
      have v1 : vp_in (nI (i * 4 + j)) 20 := vp_in_nI (by omega) (by omega)
      have v2 : vp_in (nI (i * 4 + f)) 20 := vp_in_nI (by omega) (by omega)
      dsimp only
      rw [cb_x4, cb_x4, nI_clamp (n := i * 4 + g) (by omega), nI_clamp (n := i * 4 + f) (by omega), ef]
      refine ⟨vp_in_nI (by omega) (by omega), nm_r hb ?_⟩
      rw [e1]
      refine ⟨v1, v1, nm_e ⟨v2, nm_e ⟨vf, v2, nm_e (nm_r (nI_1 i) (ih (i + 1) _ _ _ (by omega) (xn_sp_t hv hpi ?_)))⟩⟩⟩
      have D2 := dk_put (vo' := upd vo (i * 4 + f) (ver f)) (ho' := upd ho1 (i * 4 + j) (ho1 (i * 4 + j) + 1)) D1 hi5 hf (nI (i * 4 + j)) (some (ver f, l, k, t)) (fun _ hi => pk_un hi)
        (Or.inr ⟨j, hj, pk_us, by rw [pk_us, hl, hk, ht]⟩)
        (by
          intro j' hj'
          have q := dk_n_u bo1 i j' hf (nI (i * 4 + j))
          rw [hbf, dk_e_m (by omega)] at q
          by_cases z1 : j' = j
          · subst z1
            rw [dk_e_t (x := nI (i * 4 + j')) rfl] at q
            rw [pk_us, D1.2 i j' hi5 hj', nI_1]
            exact congrArg nI (by omega)
          · rw [pk_un (by omega)]
            rw [dk_e_n (a := i * 4 + j) (by omega) (by omega) (by omega)] at q
            rw [D1.2 i j' hi5 hj']
            exact congrArg nI (by omega))
        (fun s' j' hne hj' => pk_un (by omega))
      rw [dk_uu] at D2
      exact D2
theorem xn_P (P : xs_P L U E c T up ex ver VA) (hg : g < 4) (hf : f < 4) (hL : L + 1 < 2 ^ 31) :
    xs_P (L + 1) U (cb_up E f true) (cb_sn c g f) (cb_up T f (T g)) up (upd ex f (cb_b true)) (upd ver f (nI (L + 1))) (xn_sp VA g f 5 (fun s => c s g) (nI (L + 1))) := by
  refine ⟨P.1, ?_, ?_, ?_⟩
  · intro f' hf'
    by_cases e : f' = f
    · subst e; rw [pk_us, cb_up_s]
    · rw [pk_un e, cb_up_n _ _ e]; exact P.2.1 f' hf'
  · intro f' hf'
    by_cases e : f' = f
    · subst e; rw [pk_us]; exact ⟨L + 1, Nat.le_refl _, rfl⟩
    · rw [pk_un e]
      obtain ⟨n, hn, hv⟩ := P.2.2.1 f' hf'
      exact ⟨n, by omega, hv⟩
  · intro s f' hs hf'
    by_cases e : f' = f
    · subst e
      rw [pk_us, pk_us, cb_up_s, cb_sn_s]
      cases hc : c s g with
      | true =>
        rw [xn_sp_y (p := fun s => c s g) hs hc]
        have h1 := P.2.2.2 s g hs hg
        rw [hc] at h1
        obtain ⟨h2, h3⟩ := xs_true h1
        rw [h2]
        exact xs_mk cb_z1 ⟨L + 1, Nat.le_refl _, rfl⟩
      | false =>
        rw [xn_sp_n (fun z => by have q : c s g = true := z.2.2; rw [hc] at q; exact nomatch q)]
        exact xs_fresh (P.2.2.2 s f' hs hf') hL _ _
    · rw [pk_un e, pk_un e, cb_up_n _ _ e, cb_sn_n _ _ _ e, xn_sp_n (fun z => e z.1)]
      exact xs_up (P.2.2.2 s f' hs hf') (by omega)
theorem xn_snap {post : Int32 → SX → Prop} (h : xs_R L U E c T up ex ver bo vo cl ln ck ho) (hg : g < 4) (hf : f < 4) (hL : L + 1 < 2 ^ 31) (K0 : E g = false → post (-3) (fc, (nI L), up, ex, ver, bo, vo, cl, ln, ck, ho)) (K1 : E g = true → E f = true → post (-2) (fc, (nI L), up, ex, ver, bo, vo, cl, ln, ck, ho))
    (K2 : E g = true → E f = false → cb_hd U c g = 0 → post (-5) (fc, (nI L), up, ex, ver, bo, vo, cl, ln, ck, ho))
    (K3 : E g = true → E f = false → cb_hd U c g ≠ 0 → ∀ ex' ver' bo' vo' ho', xs_R (L + 1) U (cb_up E f true) (cb_sn c g f) (cb_up T f (T g)) up ex' ver' bo' vo' cl ln ck ho' →
      post (nI (cb_c (fun s => c s g) 5)) (fc, (nI (L + 1)), up, ex', ver', bo', vo', cl, ln, ck, ho')) : wpX_snapshot post (fc, (nI L), up, ex, ver, bo, vo, cl, ln, ck, ho) (nI g) (nI f) := by
  have e : (nI f).toNatClampNeg = f := nI_clamp (by omega)
  have v : vp_in (nI f) 4 := vp_in_nI hf (by omega)
  have e' : (nI g).toNatClampNeg = g := nI_clamp (by omega)
  have v' : vp_in (nI g) 4 := vp_in_nI hg (by omega)
  simp only [wpX_snapshot, wpX_newVersion, e, e']
  refine xr_bf hg (br_t rfl (xr_bf hf (br_t rfl ⟨v', ?_⟩)))
  rw [xs_he h g hg, xs_he h f hf]
  cases hEg : E g with
  | false => exact br_t cb_z0 (K0 hEg)
  | true =>
    refine br_f cb_z1 ⟨v, ?_⟩
    cases hEf : E f with
    | true => exact br_f cb_z1 (K1 hEg hEf)
    | false =>
      refine br_t cb_z0 ?_
      by_cases hh : cb_hd U c g = 0
      · exact xm_src0 h hg hh (br_f (by decide) (K2 hEg hEf hh))
      · have hgf : g ≠ f := by
          intro z
          rw [z, hEf] at hEg
          exact nomatch hEg
        have K3 := K3 hEg hEf hh
        obtain ⟨s, hs, hc, H⟩ := xm_src (fc := fc) (fl := nI L) h hg hh
        refine H _ (br_t (nI_pos' (by omega)) (xr_cset (xs_C h) hg ⟨v, nm_e (nm_r (nI_1 L) ⟨v, nm_e ⟨6, ?_⟩⟩)⟩))
        obtain ⟨VA, D, P⟩ := h
        have P' := xn_P (f := f) P hg hf hL
        refine xn_l (VA := VA) (fun s => c s g) ?_ hg hf hgf ?_ 5 0 bo vo ho rfl (xn_sp_0 D _ _)
        · intro s hs hc
          exact xw_some P hs hg hc
        · intro bo' vo' ho' D'
          rw [pk_us] at D'
          exact K3 _ _ bo' vo' ho' ⟨_, D', P'⟩
end xn
end
section
-- Y's methods over the abstract state
def ys_R (U E : Nat → Bool) (c : Nat → Nat → Bool) (T : Nat → Int32 × (Nat → Int32)) (dn ey le ce cu : Nat → Int32) : Prop :=
  yr_D U dn ∧ (∀ f, f < 4 → ey f = cb_b (E f)) ∧ (∀ f, f < 4 → T f = (le f, dk_w ce f)) ∧ yr_C c cu
def ys_Y (w : Nat) (U E : Nat → Bool) (c : Nat → Nat → Bool) (T : Nat → Int32 × (Nat → Int32)) (v : SY) : Prop :=
  ∃ (dn ey le ce cu : Nat → Int32), v = (nI w, dn, ey, le, ce, cu) ∧ ys_R U E c T dn ey le ce cu
theorem cb_ff {b : Bool} {P : Prop} (h0 : b = false) (h1 : b = true) : P := nomatch (h0.symm.trans h1)
def cb_mi (c : Nat → Nat → Bool) (f i : Nat) (g : Nat → Bool) : Nat → Nat → Bool := fun s' f' => if f' = f ∧ s' < i then g s' else c s' f'
theorem cb_mi_y (c : Nat → Nat → Bool) {f i : Nat} (g : Nat → Bool) {s' f' : Nat} (h : f' = f ∧ s' < i) : cb_mi c f i g s' f' = g s' := if_pos h
theorem cb_mi_n (c : Nat → Nat → Bool) {f i : Nat} (g : Nat → Bool) {s' f' : Nat} (h : ¬ (f' = f ∧ s' < i)) : cb_mi c f i g s' f' = c s' f' := if_neg h
section ys
variable {fw : Int32} {w : Nat} {dn ey le ce cu : Nat → Int32} {c : Nat → Nat → Bool} {U E : Nat → Bool} {T : Nat → Int32 × (Nat → Int32)} {s f : Nat}
theorem yr_C_ext {c' : Nat → Nat → Bool} (H : yr_C c cu) (e : ∀ s f, s < 5 → f < 4 → c' s f = c s f) : yr_C c' cu := fun s f hs hf => by rw [e s f hs hf]; exact H s f hs hf
theorem yr_C_set (H : yr_C c cu) (hs : s < 5) (b : Bool) : yr_C (cb_set c s f b) (upd cu (f * 5 + s) (cb_b b)) := by
  intro s' f' hs' hf'
  by_cases e : s' = s ∧ f' = f
  · obtain ⟨rfl, rfl⟩ := e
    rw [pk_us, cb_set_s]
  · rw [cb_set_n _ _ e, pk_un]
    · exact H s' f' hs' hf'
    · intro z
      exact e ⟨by omega, by omega⟩
theorem yr_C_mi {g : Nat → Bool} {i : Nat} (H : yr_C (cb_mi c f i g) cu) (hi : i < 5) : yr_C (cb_mi c f (i + 1) g) (upd cu (f * 5 + i) (cb_b (g i))) := by
  refine yr_C_ext (yr_C_set (f := f) H hi (g i)) ?_
  intro s' f' _ _
  by_cases e : s' = i ∧ f' = f
  · obtain ⟨rfl, rfl⟩ := e
    rw [cb_set_s, cb_mi_y _ _ ⟨rfl, by omega⟩]
  · rw [cb_set_n _ _ e]
    by_cases z : f' = f ∧ s' < i
    · rw [cb_mi_y _ _ z, cb_mi_y _ _ ⟨z.1, by omega⟩]
    · rw [cb_mi_n _ _ z, cb_mi_n]
      intro z'
      by_cases q : s' = i
      · exact e ⟨q, z'.1⟩
      · exact z ⟨z'.1, by omega⟩
theorem yr_C_mi0 {g : Nat → Bool} {i : Nat} (H : yr_C (cb_mi c f i g) cu) (hg : g i = c i f) : yr_C (cb_mi c f (i + 1) g) cu := by
  refine yr_C_ext H ?_
  intro s' f' _ _
  by_cases z : f' = f ∧ s' < i
  · rw [cb_mi_y _ _ z, cb_mi_y _ _ ⟨z.1, by omega⟩]
  · rw [cb_mi_n _ _ z]
    by_cases z' : f' = f ∧ s' < i + 1
    · have q : s' = i := by
        by_cases q : s' = i
        · exact q
        · exact absurd ⟨z'.1, by omega⟩ z
      rw [cb_mi_y _ _ z', q, z'.1, hg]
    · rw [cb_mi_n _ _ z']
theorem yr_C_0 {g : Nat → Bool} (H : yr_C c cu) : yr_C (cb_mi c f 0 g) cu := yr_C_ext H (fun s' f' _ _ => cb_mi_n _ _ (fun z => absurd z.2 (by omega)))
theorem ym_ex (h : ys_R U E c T dn ey le ce cu) (hf : f < 4) : vp_in (nI f) 4 ∧ ey (nI f).toNatClampNeg = cb_b (E f) := by
  rw [nI_clamp (by omega)]
  exact ⟨vp_in_nI hf (by omega), h.2.1 f hf⟩
theorem cb_hd_le (U : Nat → Bool) (c : Nat → Nat → Bool) (f : Nat) : cb_hd U c f ≤ 5 := cb_c_le _ 5
theorem ym_ref {post : Int32 → Prop} (h : ys_R U E c T dn ey le ce cu) (hf : f < 4) (K0 : E f = false → post (-3)) (K1 : E f = true → cb_hd U c f = 0 → post (-5)) (K2 : E f = true → cb_hd U c f ≠ 0 → post 0) : wpY_refusal post (fw, dn, ey, le, ce, cu) (nI f) := by
  obtain ⟨a1, a2⟩ := ym_ex h hf
  simp only [wpY_refusal]
  refine yr_if hf (br_f (by decide) ⟨a1, ?_⟩)
  rw [a2]
  cases hE : E f with
  | false => exact br_t cb_z0 (K0 hE)
  | true =>
    refine br_f cb_z1 (yr_hd1 h.2.2.2 h.1 hf ?_)
    have := cb_hd_le U c f
    by_cases hh : cb_hd U c f = 0
    · rw [hh]
      exact br_t rfl (K1 hE hh)
    · exact br_f (nI_ne0 (by omega) (by omega)) (K2 hE hh)
theorem ym_read {post : Int32 → Prop} {x : Int32} (h : ys_R U E c T dn ey le ce cu) (hf : f < 4) (K0 : E f = false → post (-3)) (K1 : E f = true → cb_hd U c f = 0 → post (-5))
    (K2 : E f = true → cb_hd U c f ≠ 0 → (x < 0 ∨ nI 6 ≤ x) → post (-6)) (K3 : E f = true → cb_hd U c f ≠ 0 → ∀ i, i < 6 → x = nI i → post ((T f).2 i)) : wpY_read post (fw, dn, ey, le, ce, cu) (nI f) x := by
  simp only [wpY_read]
  refine ym_ref h hf (fun hE => br_f (by decide) (K0 hE)) (fun hE hh => br_f (by decide) (K1 hE hh)) (fun hE hh => br_t (by decide) ?_)
  by_cases x0 : x < 0
  · exact br_t x0 (K2 hE hh (Or.inl x0))
  · refine br_f x0 ?_
    obtain ⟨i, hi, rfl⟩ := nI_of x0
    by_cases x6 : i < 6
    · refine br_t (cb_le5 x6) ?_
      rw [cb_x6, nI_clamp (n := f * 6 + i) (by omega)]
      refine ⟨vp_in_nI (by omega) (by omega), ?_⟩
      have := K3 hE hh i x6 rfl
      rw [h.2.2.1 f hf] at this
      rw [← dk_w_at ce f x6]
      exact this
    · exact br_f (nI_ge (b := i) (a := 5) (by omega) hi) (K2 hE hh (Or.inr (nI_le (by omega) hi)))
theorem ym_length {post : Int32 → Prop} (h : ys_R U E c T dn ey le ce cu) (hf : f < 4) (K0 : E f = false → post (-3)) (K1 : E f = true → cb_hd U c f = 0 → post (-5))
    (K2 : E f = true → cb_hd U c f ≠ 0 → post (T f).1) : wpY_length post (fw, dn, ey, le, ce, cu) (nI f) := by
  simp only [wpY_length]
  refine ym_ref h hf (fun hE => br_f (by decide) (K0 hE)) (fun hE hh => br_f (by decide) (K1 hE hh)) (fun hE hh => br_t (by decide) ?_)
  have := K2 hE hh
  rw [h.2.2.1 f hf] at this
  rw [nI_clamp (n := f) (by omega)]
  exact ⟨vp_in_nI hf (by omega), this⟩
theorem ym_replicas {post : Int32 → Prop} (h : ys_R U E c T dn ey le ce cu) (hf : f < 4) (K0 : E f = false → post (-3)) (K1 : E f = true → post (cb_m (fun s => c s f) 5)) : wpY_replicas post (fw, dn, ey, le, ce, cu) (nI f) := by
  obtain ⟨a1, a2⟩ := ym_ex h hf
  simp only [wpY_replicas]
  refine yr_if hf (br_f (by decide) ⟨a1, ?_⟩)
  rw [a2]
  cases hE : E f with
  | false => exact br_t cb_z0 (K0 hE)
  | true => exact br_f cb_z1 (yr_mask h.2.2.2 hf (K1 hE))
-- servers
theorem ys_setU (h : ys_R U E c T dn ey le ce cu) (b : Bool) : ys_R (cb_up U s b) E c T (upd dn s (cb_b (!b))) ey le ce cu := by
  refine ⟨?_, h.2⟩
  intro s' hs'
  by_cases e : s' = s
  · subst e; rw [pk_us, cb_up_s]
  · rw [pk_un e, cb_up_n _ _ e]; exact h.1 s' hs'
theorem ym_crash {post : Int32 → SY → Prop} (h : ys_R U E c T dn ey le ce cu) (hs : s < 5) (K : ys_R (cb_up U s false) E c T (upd dn s (cb_b (!false))) ey le ce cu → post (cb_b (U s)) (fw, (upd dn s (cb_b (!false))), ey, le, ce, cu)) : wpY_crash post (fw, dn, ey, le, ce, cu) (nI s) := by
  have e : (nI s).toNatClampNeg = s := nI_clamp (by omega)
  have v : vp_in (nI s) 5 := vp_in_nI hs (by omega)
  have K' := K (ys_setU h false)
  simp only [wpY_crash, wY_crash_24, e]
  refine yr_is hs (br_f (by decide) ⟨v, ?_⟩)
  rw [h.1 s hs]
  cases hU : U s with
  | false =>
    rw [hU] at K'
    exact br_f cb_z1 ⟨v, nm_e K'⟩
  | true =>
    rw [hU] at K'
    exact br_t cb_z0 ⟨v, nm_e K'⟩
theorem ym_restart {post : Int32 → SY → Prop} (h : ys_R U E c T dn ey le ce cu) (hs : s < 5) (K : ys_R (cb_up U s true) E c T (upd dn s (cb_b (!true))) ey le ce cu → post (cb_b (!U s)) (fw, (upd dn s (cb_b (!true))), ey, le, ce, cu)) : wpY_restart post (fw, dn, ey, le, ce, cu) (nI s) := by
  have e : (nI s).toNatClampNeg = s := nI_clamp (by omega)
  have v : vp_in (nI s) 5 := vp_in_nI hs (by omega)
  have K' := K (ys_setU h true)
  simp only [wpY_restart, wY_restart_24, e]
  refine yr_is hs (br_f (by decide) ⟨v, ?_⟩)
  rw [h.1 s hs]
  cases hU : U s with
  | false =>
    rw [hU] at K'
    exact br_f cb_z1 ⟨v, nm_e K'⟩
  | true =>
    rw [hU] at K'
    exact br_t cb_z0 ⟨v, nm_e K'⟩
theorem ym_lose_l {post : Int32 → SY → Prop} {r : Int32} (hs : s < 5) (K : ∀ cu', yr_C (cb_ls c s 4) cu' → post r (fw, dn, ey, le, ce, cu')) : ∀ d i cu, i + d = 4 → yr_C (cb_ls c s i) cu → wY_loseDisk_18 post (nI s) r fw (d + 1) (nI i) dn ey le ce cu := by
  intro d
  induction d with
  | zero =>
    intro i cu hi h
    obtain rfl : i = 4 := by omega
    exact br_t cb_e4 (K cu h)
  | succ d ih =>
    intro i cu hi h
    have h' := yr_C_set (f := i) h hs false
    rw [cb_ls_s] at h'
    refine br_f (cb_l4 (by omega)) ?_
    rw [cb_x5, nI_clamp (n := i * 5 + s) (by omega)]
    exact ⟨vp_in_nI (by omega) (by omega), nm_e (nm_r (nI_1 i) (ih (i + 1) _ (by omega) h'))⟩
theorem ym_lose {post : Int32 → SY → Prop} (h : ys_R U E c T dn ey le ce cu) (hs : s < 5) (K : ∀ cu', ys_R U E (cb_ls c s 4) T dn ey le ce cu' → post (nI (cb_ld c s)) (fw, dn, ey, le, ce, cu')) : wpY_loseDisk post (fw, dn, ey, le, ce, cu) (nI s) := by
  simp only [wpY_loseDisk]
  refine yr_is hs (br_f (by decide) (yr_load h.2.2.2 hs ⟨5, ym_lose_l hs (fun cu' h' => K cu' ⟨h.1, h.2.1, h.2.2.1, h'⟩) 4 0 cu rfl (yr_C_ext h.2.2.2 ?_)⟩))
  intro s' f' _ _
  exact if_neg (fun z => absurd z.2 (by omega))
theorem ym_damage {post : Int32 → SY → Prop} (h : ys_R U E c T dn ey le ce cu) (hs : s < 5) (hf : f < 4) (K0 : E f = false → post (-3) (fw, dn, ey, le, ce, cu))
    (K : E f = true → ∀ cu', ys_R U E (cb_set c s f false) T dn ey le ce cu' → post (cb_b (c s f)) (fw, dn, ey, le, ce, cu')) : wpY_damage post (fw, dn, ey, le, ce, cu) (nI s) (nI f) := by
  obtain ⟨a1, a2⟩ := ym_ex h hf
  obtain ⟨a3, a4⟩ := yr_at h.2.2.2 hs hf
  simp only [wpY_damage, wY_damage_48]
  refine yr_is hs (br_f (by decide) (yr_if hf (br_f (by decide) ⟨a1, ?_⟩)))
  rw [a2]
  cases hE : E f with
  | false => exact br_t cb_z0 (K0 hE)
  | true =>
    refine br_f cb_z1 ⟨a3, ?_⟩
    rw [a4]
    have K' := K hE _ ⟨h.1, h.2.1, h.2.2.1, yr_C_set (f := f) h.2.2.2 hs false⟩
    have e : (nI f * 5 + nI s).toNatClampNeg = f * 5 + s := by rw [cb_x5]; exact nI_clamp (by omega)
    rw [e]
    cases hc : c s f with
    | false =>
      rw [hc] at K'
      exact br_t cb_z0 ⟨a3, nm_e K'⟩
    | true =>
      rw [hc] at K'
      exact br_f cb_z1 ⟨a3, nm_e K'⟩
-- remove
theorem ym_remove_l {post : Int32 → SY → Prop} (hf : f < 4) (K : ∀ cu', yr_C (cb_mi c f 5 (fun _ => false)) cu' → post 0 (fw, dn, ey, le, ce, cu')) : ∀ d i cu, i + d = 5 → yr_C (cb_mi c f i (fun _ => false)) cu → wY_remove_31 post (nI f) fw (d + 1) (nI i) dn ey le ce cu := by
  intro d
  induction d with
  | zero =>
    intro i cu hi h
    obtain rfl : i = 5 := by omega
    exact br_t cb_e5 (K cu h)
  | succ d ih =>
    intro i cu hi h
    have h' := yr_C_mi h (by omega)
    refine br_f (cb_l5 (by omega)) ?_
    rw [cb_x5, nI_clamp (n := f * 5 + i) (by omega)]
    exact ⟨vp_in_nI (by omega) (by omega), nm_e (nm_r (nI_1 i) (ih (i + 1) _ (by omega) h'))⟩
theorem ym_remove {post : Int32 → SY → Prop} (h : ys_R U E c T dn ey le ce cu) (hf : f < 4) (K0 : E f = false → post (-3) (fw, dn, ey, le, ce, cu))
    (K : E f = true → ∀ ey' cu', ys_R U (cb_up E f false) (cb_rm c f) T dn ey' le ce cu' → post 0 (fw, dn, ey', le, ce, cu')) : wpY_remove post (fw, dn, ey, le, ce, cu) (nI f) := by
  have e : (nI f).toNatClampNeg = f := nI_clamp (by omega)
  have v : vp_in (nI f) 4 := vp_in_nI hf (by omega)
  simp only [wpY_remove, e]
  refine yr_if hf (br_f (by decide) ⟨v, ?_⟩)
  rw [h.2.1 f hf]
  cases hE : E f with
  | false => exact br_t cb_z0 (K0 hE)
  | true =>
    refine br_f cb_z1 ⟨v, nm_e ⟨6, ym_remove_l hf (fun cu' h' => K hE _ cu' ⟨h.1, ?_, h.2.2.1, yr_C_ext h' ?_⟩) 5 0 cu rfl (yr_C_0 h.2.2.2)⟩⟩
    · intro f' hf'
      by_cases z : f' = f
      · subst z; rw [pk_us, cb_up_s]; rfl
      · rw [pk_un z, cb_up_n _ _ z]; exact h.2.1 f' hf'
    · intro s' f' hs' hf'
      by_cases z : f' = f
      · subst z; rw [cb_rm_s, cb_mi_y _ _ ⟨rfl, hs'⟩]
      · rw [cb_rm_n _ _ z, cb_mi_n _ _ (fun q => z q.1)]
-- fill
theorem ym_fill_l {post : Int32 → SY → Prop} (hw : w ≤ 3) (hf : f < 4) :
    ∀ d i (c : Nat → Nat → Bool) (m : Nat) cu, i + d = 5 → ys_R U E c T dn ey le ce cu →
      (∀ cu', ys_R U E (cb_fn w U f d (c, m)).1 T dn ey le ce cu' → post (nI (cb_fn w U f d (c, m)).2) ((nI w), dn, ey, le, ce, cu')) → wY_fill_4 post (nI f) (nI w) (d + 1) (nI m) (nI i) dn ey le ce cu := by
  intro d
  induction d with
  | zero =>
    intro i c m cu hi h K
    obtain rfl : i = 5 := by omega
    exact br_t cb_e5 (K cu h)
  | succ d ih =>
    intro i c m cu hi h K
    have hle := cb_hd_le U c f
    have idle : cb_fs w U f (c, m) = (c, m) → wY_fill_4 post (nI f) (nI w) (d + 1) (nI m) (nI (i + 1)) dn ey le ce cu := by
      intro hx
      have hx2 : cb_fn w U f (d + 1) (c, m) = cb_fn w U f d (c, m) := by
        show cb_fn w U f d (cb_fs w U f (c, m)) = _
        rw [hx]
      rw [hx2] at K
      exact ih (i + 1) c m cu (by omega) h K
    refine br_f (cb_l5 (by omega)) (yr_next h.2.2.2 h.1 hf ?_)
    cases hn : cb_nx U c f with
    | none => exact br_t (by decide) (nm_r (nI_1 i) (idle (cb_fs_n (z := (c, m)) hn)))
    | some s =>
      rw [show cb_oI (some s) = nI s from rfl]
      obtain ⟨hs, hU, hc⟩ := cb_nx_s hn
      refine br_f (nI_pos (by omega)) (yr_hd1 h.2.2.2 h.1 hf ?_)
      by_cases hq : w ≤ cb_hd U c f
      · exact br_t (nI_le hq (by omega)) (nm_r (nI_1 i) (idle (cb_fs_w (z := (c, m)) hq)))
      · have hx : cb_fn w U f (d + 1) (c, m) = cb_fn w U f d (cb_set c s f true, m + 1) := by
          show cb_fn w U f d (cb_fs w U f (c, m)) = _
          rw [cb_fs_s (z := (c, m)) hn hq]
        rw [hx] at K
        refine br_f (nI_ge (by omega) (by omega)) ?_
        rw [cb_x5, nI_clamp (n := f * 5 + s) (by omega)]
        refine ⟨vp_in_nI (by omega) (by omega), nm_e (nm_r (nI_1 m) (nm_r (nI_1 i) (ih (i + 1) _ (m + 1) _ (by omega) ⟨h.1, h.2.1, h.2.2.1, ?_⟩ K)))⟩
        exact yr_C_set h.2.2.2 hs true
theorem ym_fill {post : Int32 → SY → Prop} (hw : w ≤ 3) (hf : f < 4) (h : ys_R U E c T dn ey le ce cu)
    (K : ∀ cu', ys_R U E (cb_fn w U f 5 (c, 0)).1 T dn ey le ce cu' → post (nI (cb_fn w U f 5 (c, 0)).2) ((nI w), dn, ey, le, ce, cu')) : wpY_fill post ((nI w), dn, ey, le, ce, cu) (nI f) :=
  ⟨6, ym_fill_l hw hf 5 0 c 0 cu rfl h K⟩
theorem ym_heal_l {post : Int32 → SY → Prop} (hw : w ≤ 3) :
    ∀ d i (c : Nat → Nat → Bool) (m : Nat) cu, i + d = 4 → ys_R U E c T dn ey le ce cu →
      (∀ cu', ys_R U E (cb_hn w U E d i (c, m)).1 T dn ey le ce cu' → post (nI (cb_hn w U E d i (c, m)).2) ((nI w), dn, ey, le, ce, cu')) → wY_heal_4 post (d + 1) (nI m) (nI i) (nI w) dn ey le ce cu := by
  intro d
  induction d with
  | zero =>
    intro i c m cu hi h K
    obtain rfl : i = 4 := by omega
    exact br_t cb_e4 (K cu h)
  | succ d ih =>
    intro i c m cu hi h K
    have K' : ∀ cu', ys_R U E (cb_hn w U E d (i + 1) (cb_h1 w U E i (c, m))).1 T dn ey le ce cu' → post (nI (cb_hn w U E d (i + 1) (cb_h1 w U E i (c, m))).2) ((nI w), dn, ey, le, ce, cu') := K
    refine br_f (cb_l4 (by omega)) (ym_ref h (by omega) ?_ ?_ ?_)
    · intro hE
      rw [cb_h1_e hE] at K'
      exact br_f (by decide) (nm_r (nI_1 i) (ih (i + 1) c m cu (by omega) h K'))
    · intro hE hh
      rw [cb_h1_h hh] at K'
      exact br_f (by decide) (nm_r (nI_1 i) (ih (i + 1) c m cu (by omega) h K'))
    · intro hE hh
      rw [cb_h1_t hE hh] at K'
      refine br_t rfl (ym_fill hw (by omega) h ?_)
      intro cu' h'
      exact nm_r (nI_add _ _) (nm_r (nI_1 i) (ih (i + 1) _ _ cu' (by omega) h' K'))
theorem ym_heal {post : Int32 → SY → Prop} (hw : w ≤ 3) (h : ys_R U E c T dn ey le ce cu)
    (K : ∀ cu', ys_R U E (cb_hn w U E 4 0 (c, 0)).1 T dn ey le ce cu' → post (nI (cb_hn w U E 4 0 (c, 0)).2) ((nI w), dn, ey, le, ce, cu')) : wpY_heal post ((nI w), dn, ey, le, ce, cu) :=
  ⟨5, ym_heal_l hw 4 0 c 0 cu rfl h K⟩
-- create
theorem ym_c73 {post : Int32 → SY → Prop} (hf : f < 4) (K : ∀ ce', dk_w ce' f = cb_z → (∀ f', f' ≠ f → dk_w ce' f' = dk_w ce f') → wpY_fill post (fw, dn, ey, le, ce', cu) (nI f)) :
    ∀ d i ce', i + d = 6 → (∀ c, c < i → ce' (f * 6 + c) = 0) → (∀ x, (x < f * 6 ∨ f * 6 + 6 ≤ x) → ce' x = ce x) → wY_create_73 post (nI f) fw (d + 1) (nI i) dn ey le ce' cu := by
  intro d
  induction d with
  | zero =>
    intro i ce' hi h1 h2
    obtain rfl : i = 6 := by omega
    refine br_t cb_e6 (K ce' ?_ ?_)
    · funext c
      unfold dk_w
      by_cases hc : c < 6
      · rw [if_pos hc]; exact h1 c hc
      · rw [if_neg hc]; rfl
    · intro b' hb'
      funext c
      unfold dk_w
      by_cases hc : c < 6
      · rw [if_pos hc, if_pos hc]; exact h2 _ (by omega)
      · rw [if_neg hc, if_neg hc]
  | succ d ih =>
    intro i ce' hi h1 h2
    refine br_f (cb_l6 (by omega)) ?_
    rw [cb_x6, nI_clamp (n := f * 6 + i) (by omega)]
    refine ⟨vp_in_nI (by omega) (by omega), nm_e (nm_r (nI_1 i) (ih (i + 1) _ (by omega) ?_ ?_))⟩
    · intro c hc
      by_cases e : c = i
      · subst e
        exact pk_us
      · rw [pk_un (by omega)]
        exact h1 c (by omega)
    · intro x hx
      rw [pk_un (by omega)]
      exact h2 x hx
theorem ys_newT {le' ce' ey' : Nat → Int32} (h : ys_R U E c T dn ey le ce cu) (b : Bool) (z : Int32 × (Nat → Int32)) (e1 : ey' = upd ey f (cb_b b)) (e2 : le' f = z.1) (e3 : dk_w ce' f = z.2) (e4 : ∀ f', f' ≠ f → le' f' = le f') (e5 : ∀ f', f' ≠ f → dk_w ce' f' = dk_w ce f') :
    ys_R U (cb_up E f b) c (cb_up T f z) dn ey' le' ce' cu := by
  subst e1
  refine ⟨h.1, ?_, ?_, h.2.2.2⟩
  · intro f' hf'
    by_cases q : f' = f
    · subst q; rw [pk_us, cb_up_s]
    · rw [pk_un q, cb_up_n _ _ q]; exact h.2.1 f' hf'
  · intro f' hf'
    by_cases q : f' = f
    · subst q; rw [cb_up_s, e2, e3]
    · rw [cb_up_n _ _ q, e4 f' q, e5 f' q]; exact h.2.2.1 f' hf'
theorem ym_c24 {post : Int32 → SY → Prop} (hf : f < 4) (hc : ∀ s, s < 5 → c s f = false) (K : ∀ cu', yr_C c cu' → wY_create_24 post (nI f) fw 1 (nI 5) dn ey le ce cu') : ∀ d i cu, i + d = 5 → yr_C c cu → wY_create_24 post (nI f) fw (d + 1) (nI i) dn ey le ce cu := by
  intro d
  induction d with
  | zero =>
    intro i cu hi h
    obtain rfl : i = 5 := by omega
    exact K cu h
  | succ d ih =>
    intro i cu hi h
    have h' : yr_C c (upd cu (f * 5 + i) (cb_b false)) := by
      refine yr_C_ext (yr_C_set (f := f) h (show i < 5 by omega) false) ?_
      intro s' f' hs' hf'
      by_cases e : s' = i ∧ f' = f
      · obtain ⟨rfl, rfl⟩ := e
        rw [cb_set_s, hc s' hs']
      · rw [cb_set_n _ _ e]
    refine br_f (cb_l5 (by omega)) ?_
    rw [cb_x5, nI_clamp (n := f * 5 + i) (by omega)]
    exact ⟨vp_in_nI (by omega) (by omega), nm_e (nm_r (nI_1 i) (ih (i + 1) _ (by omega) h'))⟩
theorem ym_create {post : Int32 → SY → Prop} (hw : w ≤ 3) (h : ys_R U E c T dn ey le ce cu) (hf : f < 4) (hc : E f = false → ∀ s, s < 5 → c s f = false) (K0 : E f = true → post (-2) ((nI w), dn, ey, le, ce, cu))
    (K1 : E f = false → (∀ s, s < 5 → U s = false) → ∀ cu', ys_R U E c T dn ey le ce cu' → post (-4) ((nI w), dn, ey, le, ce, cu'))
    (K2 : E f = false → ¬ (∀ s, s < 5 → U s = false) → ∀ ey' le' ce' cu', ys_R U (cb_up E f true) (cb_fn w U f 5 (c, 0)).1 (cb_up T f (0, cb_z)) dn ey' le' ce' cu' →
      post (nI (cb_fn w U f 5 (c, 0)).2) ((nI w), dn, ey', le', ce', cu')) : wpY_create post ((nI w), dn, ey, le, ce, cu) (nI f) := by
  have e : (nI f).toNatClampNeg = f := nI_clamp (by omega)
  have v : vp_in (nI f) 4 := vp_in_nI hf (by omega)
  simp only [wpY_create, e]
  refine yr_if hf (br_f (by decide) ⟨v, ?_⟩)
  rw [h.2.1 f hf]
  cases hE : E f with
  | true => exact br_f cb_z1 (K0 hE)
  | false =>
    have hc := hc hE
    refine br_t cb_z0 ⟨6, ym_c24 hf hc ?_ 5 0 cu rfl h.2.2.2⟩
    intro cu' h'
    have hy : ys_R U E c T dn ey le ce cu' := ⟨h.1, h.2.1, h.2.2.1, h'⟩
    refine br_t cb_e5 (yr_next h' h.1 hf ?_)
    cases hn : cb_nx U c f with
    | none =>
      refine br_f (by decide) (K1 hE ?_ cu' hy)
      intro s hs
      have q : (U s && !c s f) = false := cb_pk_n 5 hn s hs
      rw [hc s hs, Bool.not_false, Bool.and_true] at q
      exact q
    | some s =>
      obtain ⟨hs, hU, _⟩ := cb_nx_s hn
      rw [show cb_oI (some s) = nI s from rfl, e]
      refine br_t (nI_pos' (by omega)) ⟨v, nm_e ⟨v, nm_e ⟨7, ym_c73 hf ?_ 6 0 ce rfl (fun _ hc => absurd hc (by omega)) (fun _ _ => rfl)⟩⟩⟩
      intro ce' w1 w2
      refine ym_fill hw hf (ys_newT (f := f) hy true (0, cb_z) rfl pk_us w1 (fun f' q => pk_un q) w2) ?_
      intro cu'' h''
      exact K2 hE (fun q => cb_ff (q s hs) hU) _ _ _ _ h''
-- write
theorem ym_w63 {post : Int32 → SY → Prop} (hD : yr_D U dn) (hf : f < 4) (K : ∀ cu', yr_C (cb_mi c f 5 (fun s => c s f && U s)) cu' → post (nI (cb_hd U c f)) (fw, dn, ey, le, ce, cu')) : ∀ d i cu, i + d = 5 → yr_C (cb_mi c f i (fun s => c s f && U s)) cu → wY_write_63 post (nI f) fw (d + 1) (nI i) dn ey le ce cu := by
  intro d
  induction d with
  | zero =>
    intro i cu hi h
    obtain rfl : i = 5 := by omega
    refine br_t cb_e5 (yr_hd0 h hf ?_)
    have e : cb_c (fun s => cb_mi c f 5 (fun s => c s f && U s) s f) 5 = cb_hd U c f := cb_c_ext 5 (fun s hs => cb_mi_y _ _ ⟨rfl, hs⟩)
    rw [e]
    exact K cu h
  | succ d ih =>
    intro i cu hi h
    obtain ⟨a3, a4⟩ := yr_dn hD (show i < 5 by omega)
    refine br_f (cb_l5 (by omega)) ⟨a3, ?_⟩
    rw [a4]
    cases hU : U i with
    | true => exact br_t cb_z0 (nm_r (nI_1 i) (ih (i + 1) cu (by omega) (yr_C_mi0 h (by show (c i f && U i) = c i f; rw [hU, Bool.and_true]))))
    | false =>
      have h' := yr_C_mi h (by omega)
      rw [show (c i f && U i) = false by rw [hU, Bool.and_false]] at h'
      refine br_f cb_z1 ?_
      rw [cb_x5, nI_clamp (n := f * 5 + i) (by omega)]
      exact ⟨vp_in_nI (by omega) (by omega), nm_e (nm_r (nI_1 i) (ih (i + 1) _ (by omega) h'))⟩
theorem ys_wr (H : yr_C (cb_mi c f 5 (fun s => c s f && U s)) cu) : yr_C (cb_wr c U f) cu := by
  refine yr_C_ext H ?_
  intro s' f' hs' hf'
  by_cases z : f' = f
  · subst z; rw [cb_wr_s, cb_mi_y _ _ ⟨rfl, hs'⟩]
  · rw [cb_wr_n _ _ _ z, cb_mi_n _ _ (fun q => z q.1)]
theorem ys_T (h : ys_R U E c T dn ey le ce cu) {le' ce' : Nat → Int32} (z : Int32 × (Nat → Int32)) (e2 : le' f = z.1) (e3 : dk_w ce' f = z.2) (e4 : ∀ f', f' ≠ f → le' f' = le f') (e5 : ∀ f', f' ≠ f → dk_w ce' f' = dk_w ce f') (c' : Nat → Nat → Bool) (cu' : Nat → Int32) (hc : yr_C c' cu') :
    ys_R U E c' (cb_up T f z) dn ey le' ce' cu' := by
  refine ⟨h.1, h.2.1, ?_, hc⟩
  intro f' hf'
  by_cases q : f' = f
  · subst q; rw [cb_up_s, e2, e3]
  · rw [cb_up_n _ _ q, e4 f' q, e5 f' q]; exact h.2.2.1 f' hf'
theorem ym_write {post : Int32 → SY → Prop} {y x : Int32} (h : ys_R U E c T dn ey le ce cu) (hf : f < 4) (K0 : E f = false → post (-3) (fw, dn, ey, le, ce, cu)) (K1 : E f = true → cb_hd U c f = 0 → post (-5) (fw, dn, ey, le, ce, cu))
    (K2 : E f = true → cb_hd U c f ≠ 0 → (y < 0 ∨ nI 6 ≤ y) → post (-6) (fw, dn, ey, le, ce, cu))
    (K3 : E f = true → cb_hd U c f ≠ 0 → ∀ m, m < 6 → y = nI m → ∀ le' ce' cu', ys_R U E (cb_wr c U f) (cb_up T f (xw_T m x (T f))) dn ey le' ce' cu' → post (nI (cb_hd U c f)) (fw, dn, ey, le', ce', cu')) : wpY_write post (fw, dn, ey, le, ce, cu) (nI f) y x := by
  simp only [wpY_write]
  refine ym_ref h hf (fun hE => br_f (by decide) (K0 hE)) (fun hE hh => br_f (by decide) (K1 hE hh)) (fun hE hh => br_t (by decide) ?_)
  by_cases x0 : y < 0
  · exact br_t x0 (K2 hE hh (Or.inl x0))
  · refine br_f x0 ?_
    obtain ⟨m, hi, rfl⟩ := nI_of x0
    by_cases x6 : m < 6
    · refine br_t (cb_le5 x6) ?_
      have ef : (nI f).toNatClampNeg = f := nI_clamp (by omega)
      have v : vp_in (nI f) 4 := vp_in_nI hf (by omega)
      rw [cb_x6, nI_clamp (n := f * 6 + m) (by omega), ef, nI_1]
      refine ⟨vp_in_nI (by omega) (by omega), nm_e ⟨v, ?_⟩⟩
      have hT := h.2.2.1 f hf
      have w1 : dk_w (upd ce (f * 6 + m) x) f = (xw_T m x (T f)).2 := by rw [dk_w_u ce f x6, hT]; rfl
      have G : ∀ le', le' = upd le f (xw_l m (le f)) → ∃ n, wY_write_63 post (nI f) fw n 0 dn ey le' (upd ce (f * 6 + m) x) cu := by
        intro le' el
        refine ⟨6, ym_w63 h.1 hf ?_ 5 0 cu rfl (yr_C_0 h.2.2.2)⟩
        intro cu' h'
        refine K3 hE hh m x6 rfl _ _ _ (ys_T (f := f) h (xw_T m x (T f)) ?_ w1 ?_ (fun f' q => dk_w_o ce q x6 x) _ _ (ys_wr h'))
        · rw [el, pk_us, hT]; rfl
        · intro f' q
          rw [el, pk_un q]
      by_cases hz : nI (m + 1) ≤ le f
      · refine br_t hz (G _ ?_)
        rw [show xw_l m (le f) = le f from if_pos hz, cb_us]
      · refine br_f hz ⟨v, nm_e (G _ ?_)⟩
        rw [show xw_l m (le f) = nI (m + 1) from if_neg hz]
    · exact br_f (nI_ge (b := m) (a := 5) (by omega) hi) (K2 hE hh (Or.inr (nI_le (by omega) hi)))
theorem ym_append {post : Int32 → SY → Prop} {x : Int32} {m : Nat} (h : ys_R U E c T dn ey le ce cu) (hf : f < 4) (hT : (T f).1 = nI m) (hm : m ≤ 6) (K0 : E f = false → post (-3) (fw, dn, ey, le, ce, cu)) (K1 : E f = true → cb_hd U c f = 0 → post (-5) (fw, dn, ey, le, ce, cu))
    (K2 : E f = true → cb_hd U c f ≠ 0 → m = 6 → post (-7) (fw, dn, ey, le, ce, cu))
    (K3 : E f = true → cb_hd U c f ≠ 0 → m < 6 → ∀ le' ce' cu', ys_R U E (cb_wr c U f) (cb_up T f (xw_T m x (T f))) dn ey le' ce' cu' → post (nI m) (fw, dn, ey, le', ce', cu')) : wpY_append post (fw, dn, ey, le, ce, cu) (nI f) x := by
  simp only [wpY_append]
  refine ym_ref h hf (fun hE => br_f (by decide) (K0 hE)) (fun hE hh => br_f (by decide) (K1 hE hh)) (fun hE hh => br_t (by decide) ?_)
  have ef : (nI f).toNatClampNeg = f := nI_clamp (by omega)
  have hl : le f = nI m := by
    have := h.2.2.1 f hf
    rw [this] at hT
    exact hT
  rw [ef]
  refine ⟨vp_in_nI hf (by omega), nm_r hl ?_⟩
  by_cases h6 : m = 6
  · subst h6
    exact br_t rfl (K2 hE hh rfl)
  · refine br_f (fun z => h6 ((nI_eq (b := 6) (by omega) (by omega)).mp z)) ?_
    refine ym_write h hf (fun q => cb_ff q hE) (fun _ q => absurd q hh) ?_ ?_
    · intro _ _ q
      rcases q with q | q
      · exact absurd q (nI_pos (by omega))
      · exact absurd q (nI_ge (by omega) (by omega))
    · intro _ _ m' hm' em le' ce' cu' h'
      have : m' = m := ((nI_eq (by omega) (by omega)).mp em).symm
      subst this
      exact K3 hE hh hm' le' ce' cu' h'
end ys
-- snapshot
section yn
variable {fw : Int32} {dn ey le ce cu : Nat → Int32} {c : Nat → Nat → Bool} {U E : Nat → Bool} {T : Nat → Int32 × (Nat → Int32)} {s f g : Nat}
theorem yn_l110 {post : Int32 → SY → Prop} (hf : f < 4) (hg : g < 4) (hgf : g ≠ f) (K : ∀ cu', yr_C (cb_mi c f 5 (fun s => c s g)) cu' → post (nI (cb_c (fun s => c s g) 5)) (fw, dn, ey, le, ce, cu')) : ∀ d i cu, i + d = 5 → yr_C (cb_mi c f i (fun s => c s g)) cu → wY_snapshot_110 post (nI g) (nI f) fw (d + 1) (nI i) dn ey le ce cu := by
  intro d
  induction d with
  | zero =>
    intro i cu hi h
    obtain rfl : i = 5 := by omega
    refine br_t cb_e5 (yr_hd0 h hf ?_)
    have e : cb_c (fun s => cb_mi c f 5 (fun s => c s g) s f) 5 = cb_c (fun s => c s g) 5 := cb_c_ext 5 (fun s hs => cb_mi_y _ _ ⟨rfl, hs⟩)
    rw [e]
    exact K cu h
  | succ d ih =>
    intro i cu hi h
    have h' := yr_C_mi h (by omega)
    have q : cu (g * 5 + i) = cb_b (c i g) := by
      rw [h i g (by omega) hg, cb_mi_n _ _ (fun z => hgf z.1)]
    refine br_f (cb_l5 (by omega)) ?_
    rw [cb_x5, cb_x5, nI_clamp (n := g * 5 + i) (by omega), nI_clamp (n := f * 5 + i) (by omega), q, cb_nb]
    exact ⟨vp_in_nI (by omega) (by omega), vp_in_nI (by omega) (by omega), nm_e (nm_r (nI_1 i) (ih (i + 1) _ (by omega) h'))⟩
theorem yn_l74 {post : Int32 → SY → Prop} (hf : f < 4) (hg : g < 4) (hgf : g ≠ f) (K : ∀ ce', dk_w ce' f = dk_w ce g → (∀ f', f' ≠ f → dk_w ce' f' = dk_w ce f') → ∃ n, wY_snapshot_110 post (nI g) (nI f) fw n 0 dn ey le ce' cu) :
    ∀ d i ce', i + d = 6 → (∀ c, c < i → ce' (f * 6 + c) = ce (g * 6 + c)) → (∀ x, (x < f * 6 ∨ f * 6 + 6 ≤ x) → ce' x = ce x) → wY_snapshot_74 post (nI g) (nI f) fw (d + 1) (nI i) dn ey le ce' cu := by
  intro d
  induction d with
  | zero =>
    intro i ce' hi h1 h2
    obtain rfl : i = 6 := by omega
    refine br_t cb_e6 (K ce' ?_ ?_)
    · funext c
      unfold dk_w
      by_cases hc : c < 6
      · rw [if_pos hc, if_pos hc]; exact h1 c hc
      · rw [if_neg hc, if_neg hc]
    · intro b' hb'
      funext c
      unfold dk_w
      by_cases hc : c < 6
      · rw [if_pos hc, if_pos hc]; exact h2 _ (by omega)
      · rw [if_neg hc, if_neg hc]
  | succ d ih =>
    intro i ce' hi h1 h2
    refine br_f (cb_l6 (by omega)) ?_
    rw [cb_x6, cb_x6, nI_clamp (n := g * 6 + i) (by omega), nI_clamp (n := f * 6 + i) (by omega)]
    refine ⟨vp_in_nI (by omega) (by omega), vp_in_nI (by omega) (by omega), nm_e (nm_r (nI_1 i) (ih (i + 1) _ (by omega) ?_ ?_))⟩
    · intro c hc
      by_cases e : c = i
      · subst e
        rw [pk_us]
        exact h2 _ (by omega)
      · rw [pk_un (by omega)]
        exact h1 c (by omega)
    · intro x hx
      rw [pk_un (by omega)]
      exact h2 x hx
theorem yn_snap {post : Int32 → SY → Prop} (h : ys_R U E c T dn ey le ce cu) (hg : g < 4) (hf : f < 4) (K0 : E g = false → post (-3) (fw, dn, ey, le, ce, cu)) (K1 : E g = true → E f = true → post (-2) (fw, dn, ey, le, ce, cu))
    (K2 : E g = true → E f = false → cb_hd U c g = 0 → post (-5) (fw, dn, ey, le, ce, cu))
    (K3 : E g = true → E f = false → cb_hd U c g ≠ 0 → ∀ ey' le' ce' cu', ys_R U (cb_up E f true) (cb_sn c g f) (cb_up T f (T g)) dn ey' le' ce' cu' →
      post (nI (cb_c (fun s => c s g) 5)) (fw, dn, ey', le', ce', cu')) : wpY_snapshot post (fw, dn, ey, le, ce, cu) (nI g) (nI f) := by
  have e : (nI f).toNatClampNeg = f := nI_clamp (by omega)
  have v : vp_in (nI f) 4 := vp_in_nI hf (by omega)
  have e' : (nI g).toNatClampNeg = g := nI_clamp (by omega)
  have v' : vp_in (nI g) 4 := vp_in_nI hg (by omega)
  simp only [wpY_snapshot, e, e']
  refine yr_if hg (br_f (by decide) (yr_if hf (br_f (by decide) ⟨v', ?_⟩)))
  rw [h.2.1 g hg, h.2.1 f hf]
  cases hEg : E g with
  | false => exact br_t cb_z0 (K0 hEg)
  | true =>
    refine br_f cb_z1 ⟨v, ?_⟩
    cases hEf : E f with
    | true => exact br_f cb_z1 (K1 hEg hEf)
    | false =>
      refine br_t cb_z0 (ym_ref h hg (fun q => cb_ff q hEg) (fun _ hh => br_f (by decide) (K2 hEg hEf hh)) (fun _ hh => br_t (by decide) ?_))
      have hgf : g ≠ f := by
        intro z
        rw [z, hEf] at hEg
        exact nomatch hEg
      refine ⟨v, nm_e ⟨v', v, nm_e ⟨7, yn_l74 hf hg hgf ?_ 6 0 ce rfl (fun _ hc => absurd hc (by omega)) (fun _ _ => rfl)⟩⟩⟩
      intro ce' w1 w2
      refine ⟨6, yn_l110 hf hg hgf ?_ 5 0 cu rfl (yr_C_0 h.2.2.2)⟩
      intro cu' h'
      have hT := h.2.2.1 g hg
      refine K3 hEg hEf hh _ _ _ _ (ys_newT (f := f) (c := cb_sn c g f) (le := le) (ce := ce) ⟨h.1, h.2.1, h.2.2.1, yr_C_ext h' ?_⟩ true (T g) rfl ?_ ?_ (fun f' q => pk_un q) w2)
      · intro s' f' hs' hf'
        by_cases z : f' = f
        · subst z; rw [cb_sn_s, cb_mi_y _ _ ⟨rfl, hs'⟩]
        · rw [cb_sn_n _ _ _ z, cb_mi_n _ _ (fun q => z q.1)]
      · rw [pk_us, hT]
      · rw [w1, hT]
end yn
end
section
-- the relation, and the constructors
def iv_T (T : Nat → Int32 × (Nat → Int32)) : Prop := ∀ f, f < 4 → ∃ l, l ≤ 6 ∧ (T f).1 = nI l
/-- both states picture one abstract state: who is up, which files exist, who is current, what a file holds; versions stay below the script's cell -/
def i_Rel (k : Nat) (u : SX) (v : SY) : Prop := ∃ w U E c T, xs_X k w U E c T u ∧ ys_Y w U E c T v ∧ iv_T T
theorem i_up {k : Nat} {u : SX} {v : SY} (h : i_Rel k u v) : i_Rel (k + 4) u v := by
  obtain ⟨w, U, E, c, T, ⟨L, up, ex, ver, bo, vo, cl, ln, ck, ho, e, h1, h3, hL, X⟩, Y, hT⟩ := h
  exact ⟨w, U, E, c, T, ⟨L, up, ex, ver, bo, vo, cl, ln, ck, ho, e, h1, h3, by omega, X⟩, Y, hT⟩
theorem cb_ix (x : Int32) (n : Nat) (hn : n < 2 ^ 31) : (x < 0 ∨ nI n ≤ x) ∨ ∃ j : Nat, j < n ∧ x = nI j := by
  rcases pk_ix x hn with h | h | h
  · exact Or.inl (Or.inl h)
  · exact Or.inl (Or.inr h)
  · exact Or.inr h
theorem iv_mk {k w L : Nat} {U E : Nat → Bool} {c : Nat → Nat → Bool} {T : Nat → Int32 × (Nat → Int32)} {up ex ver bo vo cl ln ck ho dn ey le ce cu : Nat → Int32} (h1 : 1 ≤ w) (h3 : w ≤ 3) (hL : L ≤ k) (X : xs_R L U E c T up ex ver bo vo cl ln ck ho) (Y : ys_R U E c T dn ey le ce cu) (hT : iv_T T) :
    i_Rel k ((nI w), (nI L), up, ex, ver, bo, vo, cl, ln, ck, ho) ((nI w), dn, ey, le, ce, cu) :=
  ⟨w, U, E, c, T, ⟨L, up, ex, ver, bo, vo, cl, ln, ck, ho, rfl, h1, h3, hL, X⟩, ⟨dn, ey, le, ce, cu, rfl, Y⟩, hT⟩
theorem iv_el {k : Nat} {P : SX → SY → Prop} (h : ∀ (w L : Nat) (U E : Nat → Bool) (c : Nat → Nat → Bool) (T : Nat → Int32 × (Nat → Int32)) (up ex ver bo vo cl ln ck ho dn ey le ce cu : Nat → Int32), 1 ≤ w → w ≤ 3 → L ≤ k → xs_R L U E c T up ex ver bo vo cl ln ck ho → ys_R U E c T dn ey le ce cu → iv_T T →
    i_Rel (k + 4) ((nI w), (nI L), up, ex, ver, bo, vo, cl, ln, ck, ho) ((nI w), dn, ey, le, ce, cu) → P ((nI w), (nI L), up, ex, ver, bo, vo, cl, ln, ck, ho) ((nI w), dn, ey, le, ce, cu)) {u : SX} {v : SY} (I : i_Rel k u v) : P u v := by
  obtain ⟨w, U, E, c, T, ⟨L, up, ex, ver, bo, vo, cl, ln, ck, ho, rfl, h1, h3, hL, X⟩, ⟨dn, ey, le, ce, cu, rfl, Y⟩, hT⟩ := I
  exact h w L U E c T up ex ver bo vo cl ln ck ho dn ey le ce cu h1 h3 hL X Y hT (iv_mk h1 h3 (by omega) X Y hT)
theorem iv_T_up {T : Nat → Int32 × (Nat → Int32)} {f : Nat} {z : Int32 × (Nat → Int32)} (h : iv_T T) (hz : ∃ l, l ≤ 6 ∧ z.1 = nI l) : iv_T (cb_up T f z) := by
  intro f' hf'
  by_cases e : f' = f
  · subst e; rw [cb_up_s]; exact hz
  · rw [cb_up_n _ _ e]; exact h f' hf'
theorem iv_T_w {z : Int32 × (Nat → Int32)} {m : Nat} (x : Int32) (hm : m < 6) (hz : ∃ l, l ≤ 6 ∧ z.1 = nI l) : ∃ l, l ≤ 6 ∧ (xw_T m x z).1 = nI l := by
  obtain ⟨l, hl, e⟩ := hz
  show ∃ l, l ≤ 6 ∧ xw_l m z.1 = nI l
  by_cases h : nI (m + 1) ≤ z.1
  · exact ⟨l, hl, by rw [show xw_l m z.1 = z.1 from if_pos h]; exact e⟩
  · exact ⟨m + 1, by omega, if_neg h⟩
-- the constructors
section xi
variable {fc fl : Int32} {up ex ver bo vo cl ln ck ho : Nat → Int32} {post : SX → Prop}
theorem xi_116 (K : ∀ bo', (∀ i, i < 20 → bo' i = -1) → post (fc, fl, up, ex, ver, bo', vo, cl, ln, ck, ho)) : ∀ d i bo, i + d = 20 → (∀ j, j < i → bo j = -1) → wX_init_116 post fc fl (d + 1) (nI i) up ex ver bo vo cl ln ck ho := by
  intro d
  induction d with
  | zero =>
    intro i bo hi h
    obtain rfl : i = 20 := by omega
    exact br_t cb_e20 (K bo h)
  | succ d ih =>
    intro i bo hi h
    refine br_f (cb_l20 (by omega)) ⟨vp_in_nI (by omega) (by omega), ?_⟩
    rw [nI_clamp (n := i) (by omega)]
    refine nm_e (nm_r (nI_1 i) (ih (i + 1) _ (by omega) ?_))
    intro j hj
    by_cases e : j = i
    · subst e; exact pk_us
    · rw [pk_un e]; exact h j (by omega)
theorem xi_96 (K : ∀ up', (∀ i, i < 5 → up' i = 1) → ∃ n, wX_init_116 post fc fl n 0 up' ex ver bo vo cl ln ck ho) : ∀ d i up, i + d = 5 → (∀ j, j < i → up j = 1) → wX_init_96 post fc fl (d + 1) (nI i) up ex ver bo vo cl ln ck ho := by
  intro d
  induction d with
  | zero =>
    intro i up hi h
    obtain rfl : i = 5 := by omega
    exact br_t cb_e5 (K up h)
  | succ d ih =>
    intro i up hi h
    refine br_f (cb_l5 (by omega)) ⟨vp_in_nI (by omega) (by omega), ?_⟩
    rw [nI_clamp (n := i) (by omega)]
    refine nm_e (nm_r (nI_1 i) (ih (i + 1) _ (by omega) ?_))
    intro j hj
    by_cases e : j = i
    · subst e; exact pk_us
    · rw [pk_un e]; exact h j (by omega)
end xi
theorem xi_R {up bo : Nat → Int32} (hu : ∀ i, i < 5 → up i = 1) (hb : ∀ i, i < 20 → bo i = -1) : xs_R 0 (fun _ => true) (fun _ => false) (fun _ _ => false) (fun _ => (0, cb_z)) up (fun _ => 0) (fun _ => 0) bo (fun _ => 0) (fun _ => 0) (fun _ => 0) (fun _ => 0) (fun _ => 0) := by
  refine ⟨fun _ _ => none, ⟨?_, ?_⟩, ?_, ?_, ?_, ?_⟩
  · intro s f hs hf
    exact Or.inl ⟨hb _ (by omega), rfl⟩
  · intro s j hs hj
    unfold dk_n
    rw [hb _ (by omega), hb _ (by omega), hb _ (by omega), hb _ (by omega), dk_e_m (by omega)]
    rfl
  · intro s hs
    rw [hu s hs]; rfl
  · intro f hf
    rfl
  · intro f hf
    exact ⟨0, Nat.le_refl 0, rfl⟩
  · intro s f hs hf
    exact xs_no _ _ _ _
theorem xi_Y : ys_R (fun _ => true) (fun _ => false) (fun _ _ => false) (fun _ => (0, cb_z)) (fun _ => 0) (fun _ => 0) (fun _ => 0) (fun _ => 0) (fun _ => 0) := by
  refine ⟨fun s hs => rfl, fun f hf => rfl, fun f hf => ?_, fun s f hs hf => rfl⟩
  have e : dk_w (fun _ => 0) f = cb_z := by
    funext i
    unfold dk_w
    by_cases h : i < 6
    · rw [if_pos h]; rfl
    · rw [if_neg h]; rfl
  rw [e]
theorem xi_go {post : SX → Prop} {w : Nat} (h1 : 1 ≤ w) (h3 : w ≤ 3) (K : ∀ u, (∀ k, i_Rel (k + 1) u (nI w, (fun _ => 0), (fun _ => 0), (fun _ => 0), (fun _ => 0), (fun _ => 0))) → post u) :
    ∃ n, wX_init_96 post (nI w) 0 n 0 (fun _ => 0) (fun _ => 0) (fun _ => 0) (fun _ => 0) (fun _ => 0) (fun _ => 0) (fun _ => 0) (fun _ => 0) (fun _ => 0) := by
  refine ⟨6, xi_96 ?_ 5 0 _ rfl (fun _ h => absurd h (by omega))⟩
  intro up' hu
  refine ⟨21, xi_116 ?_ 20 0 _ rfl (fun _ h => absurd h (by omega))⟩
  intro bo' hb
  refine K _ (fun k => ?_)
  exact iv_mk (L := 0) h1 h3 (by omega) (xi_R hu hb) xi_Y (fun f _ => ⟨0, by omega, rfl⟩)
theorem xi_neg {x : Int32} (h : x < 0) : ¬ 1 ≤ x := by
  intro z
  have a := Int32.le_iff_toInt_le.mp z
  have b := Int32.lt_iff_toInt_lt.mp h
  have e1 : (1 : Int32).toInt = 1 := by decide
  have e0 : (0 : Int32).toInt = 0 := by decide
  omega
theorem i_vc0 (k0 : Int32) : wpX_init (fun u => wpY_init (fun v => i_Rel 1 u v) k0) k0 := by
  unfold wpX_init
  by_cases h1 : 1 ≤ k0
  · refine br_t h1 ?_
    unfold wX_init_82
    by_cases h3 : k0 ≤ 3
    · refine br_t h3 ?_
      have h0 : ¬ k0 < 0 := fun z => xi_neg z h1
      obtain ⟨w, hw, rfl⟩ := nI_of h0
      have w1 : 1 ≤ w := (nI_leI (a := 1) (by decide) hw).mp h1
      have w3 : w ≤ 3 := (nI_leI (b := 3) hw (by decide)).mp h3
      exact xi_go w1 w3 (fun u hu => br_t h1 (br_t h3 (hu 0)))
    · refine br_f h3 ?_
      exact xi_go (w := 3) (by omega) (by omega) (fun u hu => br_t h1 (br_f h3 (hu 0)))
  · refine br_f h1 ?_
    unfold wX_init_82
    refine br_t (by decide) ?_
    exact xi_go (w := 1) (by omega) (by omega) (fun u hu => br_f h1 (hu 0))
end
section
-- the owed statements
theorem i_vc_create {k : Nat} {u : SX} {v : SY} (I : i_Rel k u v) (hk : k + 4 ≤ 2049) (v1 : Int32) : wpX_create (fun r u' => wpY_create (fun r' v' => r' = r ∧ i_Rel (k + 4) u' v') v v1) u v1 := by
  refine iv_el (P := fun u v => wpX_create (fun r u' => wpY_create (fun r' v' => r' = r ∧ i_Rel (k + 4) u' v') v v1) u v1) ?_ I
  intro w L U E c T up ex ver bo vo cl ln ck ho dn ey le ce cu h1 h3 hL X Y hT J
  rcases cb_ix v1 4 (by omega) with hb | ⟨f, hf, rfl⟩
  · simp only [wpX_create]
    refine xr_bfx hb (br_f (by decide) ?_)
    simp only [wpY_create]
    exact yr_ifx hb (br_t rfl ⟨by trivial, J⟩)
  · have hc : E f = false → ∀ s, s < 5 → c s f = false := fun q s hs => xs_Ef X hs hf q
    refine xc_create h3 (by omega) X hf ?_ ?_ ?_
    · intro hE
      exact ym_create h3 Y hf hc (fun _ => ⟨rfl, J⟩) (fun q => cb_ff q hE) (fun q => cb_ff q hE)
    · intro hE hU
      exact ym_create h3 Y hf hc (fun q => cb_ff hE q) (fun _ _ cu' Y' => ⟨rfl, iv_mk h1 h3 (by omega) X Y' hT⟩) (fun _ q => absurd hU q)
    · intro hE hU ex' ver' bo' vo' cl' ln' ck' ho' X'
      exact ym_create h3 Y hf hc (fun q => cb_ff hE q) (fun _ q => absurd q hU) (fun _ _ ey' le' ce' cu' Y' => ⟨rfl, iv_mk h1 h3 (by omega) X' Y' (iv_T_up hT ⟨0, by omega, rfl⟩)⟩)
theorem i_vc_remove {k : Nat} {u : SX} {v : SY} (I : i_Rel k u v) (hk : k + 4 ≤ 2049) (v1 : Int32) : wpX_remove (fun r u' => wpY_remove (fun r' v' => r' = r ∧ i_Rel (k + 4) u' v') v v1) u v1 := by
  refine iv_el (P := fun u v => wpX_remove (fun r u' => wpY_remove (fun r' v' => r' = r ∧ i_Rel (k + 4) u' v') v v1) u v1) ?_ I
  intro w L U E c T up ex ver bo vo cl ln ck ho dn ey le ce cu h1 h3 hL X Y hT J
  rcases cb_ix v1 4 (by omega) with hb | ⟨f, hf, rfl⟩
  · simp only [wpX_remove]
    refine xr_bfx hb (br_f (by decide) ?_)
    simp only [wpY_remove]
    exact yr_ifx hb (br_t rfl ⟨by trivial, J⟩)
  · refine xm_remove X hf ?_ ?_
    · intro hE
      exact ym_remove Y hf (fun _ => ⟨rfl, J⟩) (fun q => cb_ff hE q)
    · intro hE bo' ho' X'
      exact ym_remove Y hf (fun q => cb_ff q hE) (fun _ ey' cu' Y' => ⟨rfl, iv_mk h1 h3 (by omega) X' Y' hT⟩)
theorem i_vc_write {k : Nat} {u : SX} {v : SY} (I : i_Rel k u v) (hk : k + 4 ≤ 2049) (v1 : Int32) (v2 : Int32) (v3 : Int32) : wpX_write (fun r u' => wpY_write (fun r' v' => r' = r ∧ i_Rel (k + 4) u' v') v v1 v2 v3) u v1 v2 v3 := by
  refine iv_el (P := fun u v => wpX_write (fun r u' => wpY_write (fun r' v' => r' = r ∧ i_Rel (k + 4) u' v') v v1 v2 v3) u v1 v2 v3) ?_ I
  intro w L U E c T up ex ver bo vo cl ln ck ho dn ey le ce cu h1 h3 hL X Y hT J
  rcases cb_ix v1 4 (by omega) with hb | ⟨f, hf, rfl⟩
  · simp only [wpX_write]
    refine xm_refx hb (br_f (by decide) ?_)
    simp only [wpY_write, wpY_refusal]
    exact yr_ifx hb (br_t rfl (br_f (by decide) ⟨by trivial, J⟩))
  · refine xw_write X hf (by omega) ?_ ?_ ?_ ?_
    · intro hE
      exact ym_write Y hf (fun _ => ⟨rfl, J⟩) (fun q => cb_ff hE q) (fun q => cb_ff hE q) (fun q => cb_ff hE q)
    · intro hE hh
      exact ym_write Y hf (fun q => cb_ff q hE) (fun _ _ => ⟨rfl, J⟩) (fun _ q => absurd hh q) (fun _ q => absurd hh q)
    · intro hE hh hb
      refine ym_write Y hf (fun q => cb_ff q hE) (fun _ q => absurd q hh) (fun _ _ _ => ⟨rfl, J⟩) ?_
      intro _ _ m hm em
      subst em
      rcases hb with hb | hb
      · exact absurd hb (nI_pos (by omega))
      · exact absurd hb (nI_ge (by omega) (by omega))
    · intro hE hh m hm em L' ver' bo' vo' cl' ln' ck' ho' hL' X'
      subst em
      refine ym_write Y hf (fun q => cb_ff q hE) (fun _ q => absurd q hh) ?_ ?_
      · intro _ _ hb
        rcases hb with hb | hb
        · exact absurd hb (nI_pos (by omega))
        · exact absurd hb (nI_ge (by omega) (by omega))
      · intro _ _ m' hm' em le' ce' cu' Y'
        have e : m = m' := (nI_eq (by omega) (by omega)).mp em
        subst e
        exact ⟨rfl, iv_mk h1 h3 (by omega) X' Y' (iv_T_up hT (iv_T_w v3 hm (hT f hf)))⟩
theorem i_vc_append {k : Nat} {u : SX} {v : SY} (I : i_Rel k u v) (hk : k + 4 ≤ 2049) (v1 : Int32) (v2 : Int32) : wpX_append (fun r u' => wpY_append (fun r' v' => r' = r ∧ i_Rel (k + 4) u' v') v v1 v2) u v1 v2 := by
  refine iv_el (P := fun u v => wpX_append (fun r u' => wpY_append (fun r' v' => r' = r ∧ i_Rel (k + 4) u' v') v v1 v2) u v1 v2) ?_ I
  intro w L U E c T up ex ver bo vo cl ln ck ho dn ey le ce cu h1 h3 hL X Y hT J
  rcases cb_ix v1 4 (by omega) with hb | ⟨f, hf, rfl⟩
  · simp only [wpX_append]
    refine xm_refx hb (br_f (by decide) ?_)
    simp only [wpY_append, wpY_refusal]
    exact yr_ifx hb (br_t rfl (br_f (by decide) ⟨by trivial, J⟩))
  · obtain ⟨m, hm, em⟩ := hT f hf
    refine xw_append X hf (by omega) em hm ?_ ?_ ?_ ?_
    · intro hE
      exact ym_append Y hf em hm (fun _ => ⟨rfl, J⟩) (fun q => cb_ff hE q) (fun q => cb_ff hE q) (fun q => cb_ff hE q)
    · intro hE hh
      exact ym_append Y hf em hm (fun q => cb_ff q hE) (fun _ _ => ⟨rfl, J⟩) (fun _ q => absurd hh q) (fun _ q => absurd hh q)
    · intro hE hh h6
      exact ym_append Y hf em hm (fun q => cb_ff q hE) (fun _ q => absurd q hh) (fun _ _ _ => ⟨rfl, J⟩) (fun _ _ q => absurd q (by omega))
    · intro hE hh h6 L' ver' bo' vo' cl' ln' ck' ho' hL' X'
      exact ym_append Y hf em hm (fun q => cb_ff q hE) (fun _ q => absurd q hh) (fun _ _ q => absurd q (by omega))
        (fun _ _ _ le' ce' cu' Y' => ⟨rfl, iv_mk h1 h3 (by omega) X' Y' (iv_T_up hT (iv_T_w v2 h6 (hT f hf)))⟩)
theorem i_vc_snapshot {k : Nat} {u : SX} {v : SY} (I : i_Rel k u v) (hk : k + 4 ≤ 2049) (v1 : Int32) (v2 : Int32) : wpX_snapshot (fun r u' => wpY_snapshot (fun r' v' => r' = r ∧ i_Rel (k + 4) u' v') v v1 v2) u v1 v2 := by
  refine iv_el (P := fun u v => wpX_snapshot (fun r u' => wpY_snapshot (fun r' v' => r' = r ∧ i_Rel (k + 4) u' v') v v1 v2) u v1 v2) ?_ I
  intro w L U E c T up ex ver bo vo cl ln ck ho dn ey le ce cu h1 h3 hL X Y hT J
  rcases cb_ix v1 4 (by omega) with hb | ⟨g, hg, rfl⟩
  · simp only [wpX_snapshot]
    refine xr_bfx hb (br_f (by decide) ?_)
    simp only [wpY_snapshot]
    exact yr_ifx hb (br_t rfl ⟨by trivial, J⟩)
  · rcases cb_ix v2 4 (by omega) with hb | ⟨f, hf, rfl⟩
    · simp only [wpX_snapshot]
      refine xr_bf hg (br_t rfl (xr_bfx hb (br_f (by decide) ?_)))
      simp only [wpY_snapshot]
      exact yr_if hg (br_f (by decide) (yr_ifx hb (br_t rfl ⟨by trivial, J⟩)))
    · refine xn_snap X hg hf (by omega) ?_ ?_ ?_ ?_
      · intro hE
        exact yn_snap Y hg hf (fun _ => ⟨rfl, J⟩) (fun q => cb_ff hE q) (fun q => cb_ff hE q) (fun q => cb_ff hE q)
      · intro hE hF
        exact yn_snap Y hg hf (fun q => cb_ff q hE) (fun _ _ => ⟨rfl, J⟩) (fun _ q => cb_ff q hF) (fun _ q => cb_ff q hF)
      · intro hE hF hh
        exact yn_snap Y hg hf (fun q => cb_ff q hE) (fun _ q => cb_ff hF q) (fun _ _ _ => ⟨rfl, J⟩) (fun _ _ q => absurd hh q)
      · intro hE hF hh ex' ver' bo' vo' ho' X'
        exact yn_snap Y hg hf (fun q => cb_ff q hE) (fun _ q => cb_ff hF q) (fun _ _ q => absurd q hh)
          (fun _ _ _ ey' le' ce' cu' Y' => ⟨rfl, iv_mk h1 h3 (by omega) X' Y' (iv_T_up hT (hT g hg))⟩)
theorem i_vc_crash {k : Nat} {u : SX} {v : SY} (I : i_Rel k u v) (hk : k + 4 ≤ 2049) (v1 : Int32) : wpX_crash (fun r u' => wpY_crash (fun r' v' => r' = r ∧ i_Rel (k + 4) u' v') v v1) u v1 := by
  refine iv_el (P := fun u v => wpX_crash (fun r u' => wpY_crash (fun r' v' => r' = r ∧ i_Rel (k + 4) u' v') v v1) u v1) ?_ I
  intro w L U E c T up ex ver bo vo cl ln ck ho dn ey le ce cu h1 h3 hL X Y hT J
  rcases cb_ix v1 5 (by omega) with hb | ⟨s, hs, rfl⟩
  · simp only [wpX_crash]
    refine xr_bsx hb (br_f (by decide) ?_)
    simp only [wpY_crash]
    exact yr_isx hb (br_t rfl ⟨by trivial, J⟩)
  · exact xm_crash X hs (fun X' => ym_crash Y hs (fun Y' => ⟨rfl, iv_mk h1 h3 (by omega) X' Y' hT⟩))
theorem i_vc_restart {k : Nat} {u : SX} {v : SY} (I : i_Rel k u v) (hk : k + 4 ≤ 2049) (v1 : Int32) : wpX_restart (fun r u' => wpY_restart (fun r' v' => r' = r ∧ i_Rel (k + 4) u' v') v v1) u v1 := by
  refine iv_el (P := fun u v => wpX_restart (fun r u' => wpY_restart (fun r' v' => r' = r ∧ i_Rel (k + 4) u' v') v v1) u v1) ?_ I
  intro w L U E c T up ex ver bo vo cl ln ck ho dn ey le ce cu h1 h3 hL X Y hT J
  rcases cb_ix v1 5 (by omega) with hb | ⟨s, hs, rfl⟩
  · simp only [wpX_restart]
    refine xr_bsx hb (br_f (by decide) ?_)
    simp only [wpY_restart]
    exact yr_isx hb (br_t rfl ⟨by trivial, J⟩)
  · exact xm_restart X hs (fun bo' ho' X' => ym_restart Y hs (fun Y' => ⟨rfl, iv_mk h1 h3 (by omega) X' Y' hT⟩))
theorem i_vc_loseDisk {k : Nat} {u : SX} {v : SY} (I : i_Rel k u v) (hk : k + 4 ≤ 2049) (v1 : Int32) : wpX_loseDisk (fun r u' => wpY_loseDisk (fun r' v' => r' = r ∧ i_Rel (k + 4) u' v') v v1) u v1 := by
  refine iv_el (P := fun u v => wpX_loseDisk (fun r u' => wpY_loseDisk (fun r' v' => r' = r ∧ i_Rel (k + 4) u' v') v v1) u v1) ?_ I
  intro w L U E c T up ex ver bo vo cl ln ck ho dn ey le ce cu h1 h3 hL X Y hT J
  rcases cb_ix v1 5 (by omega) with hb | ⟨s, hs, rfl⟩
  · simp only [wpX_loseDisk]
    refine xr_bsx hb (br_f (by decide) ?_)
    simp only [wpY_loseDisk]
    exact yr_isx hb (br_t rfl ⟨by trivial, J⟩)
  · exact xm_lose X hs (fun bo' ho' X' => ym_lose Y hs (fun cu' Y' => ⟨rfl, iv_mk h1 h3 (by omega) X' Y' hT⟩))
theorem i_vc_damage {k : Nat} {u : SX} {v : SY} (I : i_Rel k u v) (hk : k + 4 ≤ 2049) (v1 : Int32) (v2 : Int32) : wpX_damage (fun r u' => wpY_damage (fun r' v' => r' = r ∧ i_Rel (k + 4) u' v') v v1 v2) u v1 v2 := by
  refine iv_el (P := fun u v => wpX_damage (fun r u' => wpY_damage (fun r' v' => r' = r ∧ i_Rel (k + 4) u' v') v v1 v2) u v1 v2) ?_ I
  intro w L U E c T up ex ver bo vo cl ln ck ho dn ey le ce cu h1 h3 hL X Y hT J
  rcases cb_ix v1 5 (by omega) with hb | ⟨s, hs, rfl⟩
  · simp only [wpX_damage]
    refine xr_bsx hb (br_f (by decide) ?_)
    simp only [wpY_damage]
    exact yr_isx hb (br_t rfl ⟨by trivial, J⟩)
  · rcases cb_ix v2 4 (by omega) with hb | ⟨f, hf, rfl⟩
    · simp only [wpX_damage]
      refine xr_bs hs (br_t rfl (xr_bfx hb (br_f (by decide) ?_)))
      simp only [wpY_damage]
      exact yr_is hs (br_f (by decide) (yr_ifx hb (br_t rfl ⟨by trivial, J⟩)))
    · refine xm_damage X hs hf ?_ ?_
      · intro hE
        exact ym_damage Y hs hf (fun _ => ⟨rfl, J⟩) (fun q => cb_ff hE q)
      · intro hE bo' cl' ln' ck' ho' X'
        exact ym_damage Y hs hf (fun q => cb_ff q hE) (fun _ cu' Y' => ⟨rfl, iv_mk h1 h3 (by omega) X' Y' hT⟩)
theorem i_vc_heal {k : Nat} {u : SX} {v : SY} (I : i_Rel k u v) (hk : k + 4 ≤ 2049) : wpX_heal (fun r u' => wpY_heal (fun r' v' => r' = r ∧ i_Rel (k + 4) u' v') v) u := by
  refine iv_el (P := fun u v => wpX_heal (fun r u' => wpY_heal (fun r' v' => r' = r ∧ i_Rel (k + 4) u' v') v) u) ?_ I
  intro w L U E c T up ex ver bo vo cl ln ck ho dn ey le ce cu h1 h3 hL X Y hT J
  exact xc_heal h3 X (fun bo' vo' cl' ln' ck' ho' X' => ym_heal h3 Y (fun cu' Y' => ⟨rfl, iv_mk h1 h3 (by omega) X' Y' hT⟩))
theorem i_vc_read {k : Nat} {u : SX} {v : SY} (I : i_Rel k u v) (hk : k + 4 ≤ 2049) (v1 : Int32) (v2 : Int32) : wpX_read (fun r => wpY_read (fun r' => r' = r ∧ i_Rel (k + 4) u v) v v1 v2) u v1 v2 := by
  refine iv_el (P := fun u v => wpX_read (fun r => wpY_read (fun r' => r' = r ∧ i_Rel (k + 4) u v) v v1 v2) u v1 v2) ?_ I
  intro w L U E c T up ex ver bo vo cl ln ck ho dn ey le ce cu h1 h3 hL X Y hT J
  rcases cb_ix v1 4 (by omega) with hb | ⟨f, hf, rfl⟩
  · simp only [wpX_read]
    refine xm_refx hb (br_f (by decide) ?_)
    simp only [wpY_read, wpY_refusal]
    exact yr_ifx hb (br_t rfl (br_f (by decide) ⟨by trivial, J⟩))
  · refine xm_read X hf ?_ ?_ ?_ ?_
    · intro hE
      exact ym_read Y hf (fun _ => ⟨rfl, J⟩) (fun q => cb_ff hE q) (fun q => cb_ff hE q) (fun q => cb_ff hE q)
    · intro hE hh
      exact ym_read Y hf (fun q => cb_ff q hE) (fun _ _ => ⟨rfl, J⟩) (fun _ q => absurd hh q) (fun _ q => absurd hh q)
    · intro hE hh hb
      refine ym_read Y hf (fun q => cb_ff q hE) (fun _ q => absurd q hh) (fun _ _ _ => ⟨rfl, J⟩) ?_
      intro _ _ m hm em
      subst em
      rcases hb with hb | hb
      · exact absurd hb (nI_pos (by omega))
      · exact absurd hb (nI_ge (by omega) (by omega))
    · intro hE hh m hm em
      subst em
      refine ym_read Y hf (fun q => cb_ff q hE) (fun _ q => absurd q hh) ?_ ?_
      · intro _ _ hb
        rcases hb with hb | hb
        · exact absurd hb (nI_pos (by omega))
        · exact absurd hb (nI_ge (by omega) (by omega))
      · intro _ _ m' hm' em
        have e : m = m' := (nI_eq (by omega) (by omega)).mp em
        subst e
        exact ⟨rfl, J⟩
theorem i_vc_length {k : Nat} {u : SX} {v : SY} (I : i_Rel k u v) (hk : k + 4 ≤ 2049) (v1 : Int32) : wpX_length (fun r => wpY_length (fun r' => r' = r ∧ i_Rel (k + 4) u v) v v1) u v1 := by
  refine iv_el (P := fun u v => wpX_length (fun r => wpY_length (fun r' => r' = r ∧ i_Rel (k + 4) u v) v v1) u v1) ?_ I
  intro w L U E c T up ex ver bo vo cl ln ck ho dn ey le ce cu h1 h3 hL X Y hT J
  rcases cb_ix v1 4 (by omega) with hb | ⟨f, hf, rfl⟩
  · simp only [wpX_length]
    refine xm_refx hb (br_f (by decide) ?_)
    simp only [wpY_length, wpY_refusal]
    exact yr_ifx hb (br_t rfl (br_f (by decide) ⟨by trivial, J⟩))
  · refine xm_length X hf ?_ ?_ ?_
    · intro hE
      exact ym_length Y hf (fun _ => ⟨rfl, J⟩) (fun q => cb_ff hE q) (fun q => cb_ff hE q)
    · intro hE hh
      exact ym_length Y hf (fun q => cb_ff q hE) (fun _ _ => ⟨rfl, J⟩) (fun _ q => absurd hh q)
    · intro hE hh
      exact ym_length Y hf (fun q => cb_ff q hE) (fun _ q => absurd q hh) (fun _ _ => ⟨rfl, J⟩)
theorem i_vc_replicas {k : Nat} {u : SX} {v : SY} (I : i_Rel k u v) (hk : k + 4 ≤ 2049) (v1 : Int32) : wpX_replicas (fun r => wpY_replicas (fun r' => r' = r ∧ i_Rel (k + 4) u v) v v1) u v1 := by
  refine iv_el (P := fun u v => wpX_replicas (fun r => wpY_replicas (fun r' => r' = r ∧ i_Rel (k + 4) u v) v v1) u v1) ?_ I
  intro w L U E c T up ex ver bo vo cl ln ck ho dn ey le ce cu h1 h3 hL X Y hT J
  rcases cb_ix v1 4 (by omega) with hb | ⟨f, hf, rfl⟩
  · simp only [wpX_replicas]
    refine xr_bfx hb (br_f (by decide) ?_)
    simp only [wpY_replicas]
    exact yr_ifx hb (br_t rfl ⟨by trivial, J⟩)
  · refine xm_replicas X hf ?_ ?_
    · intro hE
      exact ym_replicas Y hf (fun _ => ⟨rfl, J⟩) (fun q => cb_ff hE q)
    · intro hE
      exact ym_replicas Y hf (fun q => cb_ff q hE) (fun _ => ⟨rfl, J⟩)
end
