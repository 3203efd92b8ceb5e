section
/-! lists by place -/
def tx_at {α : Type} (d : α) : List α → Nat → α
  | [], _ => d
  | x :: _, 0 => x
  | _ :: l, i + 1 => tx_at d l i
theorem tx_at_l {α : Type} {d : α} : ∀ (l l' : List α) (i : Nat), i < l.length → tx_at d (l ++ l') i = tx_at d l i
  | [], _, i, h => absurd h (Nat.not_lt_zero i)
  | _ :: _, _, 0, _ => rfl
  | _ :: l, l', i + 1, h => tx_at_l l l' i (Nat.lt_of_succ_lt_succ h)
theorem tx_at_r {α : Type} {d : α} : ∀ (l l' : List α) (i : Nat), tx_at d (l ++ l') (l.length + i) = tx_at d l' i
  | [], l', i => by
    show tx_at d l' (0 + i) = _
    rw [Nat.zero_add]
  | x :: l, l', i => by
    have e : (x :: l).length + i = (l.length + i) + 1 := by rw [List.length_cons]; omega
    rw [e]
    exact tx_at_r l l' i
theorem tx_at_mid {α : Type} {d : α} (l : List α) (x : α) (l' : List α) : tx_at d (l ++ x :: l') l.length = x := tx_at_r l (x :: l') 0
theorem tx_at_mem {α : Type} {d : α} : ∀ (l : List α) (i : Nat), i < l.length → tx_at d l i ∈ l
  | [], i, h => absurd h (Nat.not_lt_zero i)
  | _ :: l, 0, _ => List.mem_cons_self
  | _ :: l, i + 1, h => List.mem_cons_of_mem _ (tx_at_mem l i (Nat.lt_of_succ_lt_succ h))
theorem tx_at_ext {α : Type} {d : α} : ∀ (l l' : List α), l.length = l'.length → (∀ i, i < l.length → tx_at d l i = tx_at d l' i) → l = l'
  | [], [], _, _ => rfl
  | [], _ :: _, h, _ => absurd h (by rw [List.length_cons]; exact fun z => by cases z)
  | _ :: _, [], h, _ => absurd h (by rw [List.length_cons]; exact fun z => by cases z)
  | x :: l, y :: l', h, H => by
    have e : x = y := H 0 (by rw [List.length_cons]; omega)
    rw [e, tx_at_ext l l' (by rw [List.length_cons, List.length_cons] at h; omega) (fun i hi => H (i + 1) (by rw [List.length_cons]; omega))]
theorem tx_at_drop {α : Type} {d : α} : ∀ (l : List α) (m i : Nat), tx_at d (l.drop m) i = tx_at d l (m + i)
  | [], m, i => by rw [List.drop_nil]; rfl
  | x :: l, 0, i => by rw [Nat.zero_add]; rfl
  | x :: l, m + 1, i => by
    have e : m + 1 + i = (m + i) + 1 := by omega
    rw [e]
    exact tx_at_drop l m i
theorem tx_at_take {α : Type} {d : α} : ∀ (l : List α) (m i : Nat), i < m → tx_at d (l.take m) i = tx_at d l i
  | [], m, i, _ => by rw [List.take_nil]
  | x :: l, 0, i, h => absurd h (Nat.not_lt_zero i)
  | x :: l, m + 1, 0, _ => rfl
  | x :: l, m + 1, i + 1, h => tx_at_take l m i (Nat.lt_of_succ_lt_succ h)
theorem tx_snoc {α : Type} : ∀ (l : List α), l = [] ∨ ∃ l' b, l = l' ++ [b]
  | [] => Or.inl rfl
  | x :: l => by
    rcases tx_snoc l with e | ⟨l', b, e⟩
    · exact Or.inr ⟨[], x, by rw [e]; rfl⟩
    · exact Or.inr ⟨x :: l', b, by rw [e]; rfl⟩
/-! an array holds a list -/
def tx_ar (a : Nat → Int32) (o : Nat) (l : List Nat) : Prop := ∀ i, i < l.length → a (o + i) = nI (tx_at 0 l i)
theorem tx_ar_nil (a : Nat → Int32) (o : Nat) : tx_ar a o [] := fun i h => absurd h (Nat.not_lt_zero i)
theorem tx_ar_c {a : Nat → Int32} {o x : Nat} {l : List Nat} (h : tx_ar a o (x :: l)) : a o = nI x ∧ tx_ar a (o + 1) l := by
  refine ⟨h 0 (by rw [List.length_cons]; omega), fun i hi => ?_⟩
  have t := h (i + 1) (by rw [List.length_cons]; omega)
  rw [show o + 1 + i = o + (i + 1) by omega]
  exact t
theorem tx_ar_mk {a : Nat → Int32} {o x : Nat} {l : List Nat} (h0 : a o = nI x) (h : tx_ar a (o + 1) l) : tx_ar a o (x :: l) := by
  intro i hi
  cases i with
  | zero => exact h0
  | succ i =>
    have t := h i (by rw [List.length_cons] at hi; omega)
    rw [show o + (i + 1) = o + 1 + i by omega]
    exact t
theorem tx_ar_l {a : Nat → Int32} {o : Nat} {l l' : List Nat} (h : tx_ar a o (l ++ l')) : tx_ar a o l := by
  intro i hi
  rw [h i (by rw [List.length_append]; omega), tx_at_l l l' i hi]
theorem tx_ar_r {a : Nat → Int32} {o : Nat} {l l' : List Nat} (h : tx_ar a o (l ++ l')) : tx_ar a (o + l.length) l' := by
  intro i hi
  have t := h (l.length + i) (by rw [List.length_append]; omega)
  rw [tx_at_r] at t
  rw [show o + l.length + i = o + (l.length + i) by omega]
  exact t
theorem tx_ar_app {a : Nat → Int32} {o : Nat} {l l' : List Nat} (h : tx_ar a o l) (h' : tx_ar a (o + l.length) l') : tx_ar a o (l ++ l') := by
  intro i hi
  rcases Nat.lt_or_ge i l.length with z | z
  · rw [tx_at_l l l' i z]
    exact h i z
  · have t := h' (i - l.length) (by rw [List.length_append] at hi; omega)
    have e : i = l.length + (i - l.length) := by omega
    rw [e, tx_at_r, show o + (l.length + (i - l.length)) = o + l.length + (i - l.length) by omega]
    exact t
theorem tx_ar_cg {a a' : Nat → Int32} {o : Nat} {l : List Nat} (h : tx_ar a o l) (hc : ∀ i, o ≤ i → i < o + l.length → a' i = a i) : tx_ar a' o l :=
  fun i hi => by rw [hc (o + i) (by omega) (by omega)]; exact h i hi
/-! a stretch of an array was filled -/
def tx_cp (a a' : Nat → Int32) (o n : Nat) (v : Nat → Int32) : Prop := (∀ j, j < o ∨ o + n ≤ j → a' j = a j) ∧ (∀ j, j < n → a' (o + j) = v j)
theorem tx_cp0 (a : Nat → Int32) (o : Nat) (v : Nat → Int32) : tx_cp a a o 0 v := ⟨fun _ _ => rfl, fun j h => absurd h (Nat.not_lt_zero j)⟩
theorem tx_cps {a s : Nat → Int32} {o i k : Nat} {v : Nat → Int32} {x : Int32} (h : tx_cp a s o i v) (hk : k = o + i) (hx : x = v i) : tx_cp a (upd s k x) o (i + 1) v := by
  subst hk
  refine ⟨fun j hj => ?_, fun j hj => ?_⟩
  · rw [pk_un (by omega)]
    exact h.1 j (by omega)
  · by_cases e : j = i
    · rw [e, pk_us, hx]
    · rw [pk_un (by omega)]
      exact h.2 j (by omega)
/-! how many letters two terms share from the first on -/
def tx_lcp : List Nat → List Nat → Nat
  | x :: a, y :: b => if x = y then tx_lcp a b + 1 else 0
  | [], _ => 0
  | _ :: _, [] => 0
theorem tx_lcp_nil (b : List Nat) : tx_lcp [] b = 0 := by cases b <;> rfl
theorem tx_lcp_le : ∀ (a b : List Nat), tx_lcp a b ≤ a.length ∧ tx_lcp a b ≤ b.length
  | [], b => by rw [tx_lcp_nil]; exact ⟨Nat.zero_le _, Nat.zero_le _⟩
  | x :: a, [] => ⟨Nat.zero_le _, Nat.zero_le _⟩
  | x :: a, y :: b => by
    have h := tx_lcp_le a b
    show (if x = y then tx_lcp a b + 1 else 0) ≤ a.length + 1 ∧ (if x = y then tx_lcp a b + 1 else 0) ≤ b.length + 1
    by_cases e : x = y
    · rw [if_pos e]; omega
    · rw [if_neg e]; omega
theorem tx_lcp_eq : ∀ (a b : List Nat) (i : Nat), i < tx_lcp a b → tx_at 0 a i = tx_at 0 b i
  | [], b, i, h => by rw [tx_lcp_nil] at h; omega
  | x :: a, [], i, h => absurd h (Nat.not_lt_zero i)
  | x :: a, y :: b, i, h => by
    have h' : i < (if x = y then tx_lcp a b + 1 else 0) := h
    by_cases e : x = y
    · rw [if_pos e] at h'
      cases i with
      | zero => exact e
      | succ i => exact tx_lcp_eq a b i (by omega)
    · rw [if_neg e] at h'; omega
theorem tx_lcp_ne : ∀ (a b : List Nat), tx_lcp a b < a.length → tx_lcp a b < b.length → tx_at 0 a (tx_lcp a b) ≠ tx_at 0 b (tx_lcp a b)
  | [], b, h, _ => absurd h (Nat.not_lt_zero _)
  | x :: a, [], _, h => absurd h (Nat.not_lt_zero _)
  | x :: a, y :: b, h, h2 => by
    have ee : tx_lcp (x :: a) (y :: b) = (if x = y then tx_lcp a b + 1 else 0) := rfl
    by_cases e : x = y
    · rw [ee, if_pos e] at h h2 ⊢
      rw [List.length_cons] at h h2
      exact tx_lcp_ne a b (by omega) (by omega)
    · rw [ee, if_neg e]
      exact e
theorem tx_lcp_u {a b : List Nat} {m : Nat} (h1 : m ≤ a.length) (h2 : m ≤ b.length) (h3 : ∀ i, i < m → tx_at 0 a i = tx_at 0 b i) (h4 : m < a.length → m < b.length → tx_at 0 a m ≠ tx_at 0 b m) : tx_lcp a b = m := by
  have l := tx_lcp_le a b
  rcases Nat.lt_trichotomy m (tx_lcp a b) with z | z | z
  · exact absurd (tx_lcp_eq a b m z) (h4 (by omega) (by omega))
  · exact z.symm
  · exact absurd (h3 _ z) (tx_lcp_ne a b (by omega) (by omega))
/-! the code of a term: a numeral to base 11 -/
def tx_cd : Nat → List Nat → Nat
  | 0, _ => 0
  | _ + 1, [] => 0
  | n + 1, x :: t => (x + 1) * 11 ^ n + tx_cd n t
def tx_dg (t : List Nat) : Prop := ∀ x, x ∈ t → x ≤ 9
theorem tx_dg_t {x : Nat} {t : List Nat} (h : tx_dg (x :: t)) : x ≤ 9 ∧ tx_dg t := ⟨h x List.mem_cons_self, fun y hy => h y (List.mem_cons_of_mem _ hy)⟩
theorem tx_dg_at {t : List Nat} (h : tx_dg t) {i : Nat} (hi : i < t.length) : tx_at 0 t i ≤ 9 := h _ (tx_at_mem t i hi)
theorem tx_cd_lt : ∀ (n : Nat) (t : List Nat), tx_dg t → tx_cd n t < 11 ^ n
  | 0, t, _ => by show 0 < 11 ^ 0; omega
  | n + 1, [], _ => Nat.pow_pos (by omega)
  | n + 1, x :: t, h => by
    obtain ⟨hx, ht⟩ := tx_dg_t h
    have i := tx_cd_lt n t ht
    have j : (x + 1) * 11 ^ n ≤ 10 * 11 ^ n := Nat.mul_le_mul_right _ (by omega)
    show (x + 1) * 11 ^ n + tx_cd n t < 11 ^ (n + 1)
    rw [Nat.pow_succ]
    omega
theorem tx_cd_less : ∀ (n : Nat) (t k : List Nat), t.length ≤ n → k.length ≤ n → tx_dg t → tx_dg k → (tx_cd n t < tx_cd n k ↔ (tx_lcp t k ≠ k.length ∧ (tx_lcp t k = t.length ∨ tx_at 0 t (tx_lcp t k) < tx_at 0 k (tx_lcp t k))))
  | 0, [], [], _, _, _, _ => ⟨fun h => absurd h (Nat.lt_irrefl 0), fun h => absurd rfl h.1⟩
  | 0, _ :: _, _, h, _, _, _ => absurd h (by rw [List.length_cons]; omega)
  | 0, [], _ :: _, _, h, _, _ => absurd h (by rw [List.length_cons]; omega)
  | n + 1, [], [], _, _, _, _ => ⟨fun h => absurd h (Nat.lt_irrefl 0), fun h => absurd rfl h.1⟩
  | n + 1, [], y :: k, _, _, _, _ => by
    refine ⟨fun _ => ⟨by rw [tx_lcp_nil, List.length_cons]; omega, Or.inl (by rw [tx_lcp_nil]; rfl)⟩, fun _ => ?_⟩
    show 0 < (y + 1) * 11 ^ n + tx_cd n k
    have j : 0 < (y + 1) * 11 ^ n := Nat.mul_pos (by omega) (Nat.pow_pos (by omega))
    omega
  | n + 1, x :: t, [], _, _, _, _ => ⟨fun h => absurd h (Nat.not_lt_zero _), fun h => absurd rfl h.1⟩
  | n + 1, x :: t, y :: k, ht, hk, dt, dk => by
    have ee : tx_lcp (x :: t) (y :: k) = (if x = y then tx_lcp t k + 1 else 0) := rfl
    obtain ⟨dx, dt'⟩ := tx_dg_t dt
    obtain ⟨dy, dk'⟩ := tx_dg_t dk
    rw [List.length_cons] at ht hk
    have it := tx_cd_lt n t dt'
    have ik := tx_cd_lt n k dk'
    have ec : tx_cd (n + 1) (x :: t) = (x + 1) * 11 ^ n + tx_cd n t := rfl
    have ed : tx_cd (n + 1) (y :: k) = (y + 1) * 11 ^ n + tx_cd n k := rfl
    have ih := tx_cd_less n t k (by omega) (by omega) dt' dk'
    rw [ee, ec, ed]
    by_cases e : x = y
    · rw [if_pos e, e, List.length_cons, List.length_cons]
      have q : tx_at 0 (y :: t) (tx_lcp t k + 1) = tx_at 0 t (tx_lcp t k) := rfl
      have q' : tx_at 0 (y :: k) (tx_lcp t k + 1) = tx_at 0 k (tx_lcp t k) := rfl
      rw [q, q']
      constructor
      · intro h
        have r := ih.mp (by omega)
        exact ⟨fun z => r.1 (by omega), r.2.imp (fun z => by omega) id⟩
      · intro h
        have r := ih.mpr ⟨fun z => h.1 (by omega), h.2.imp (fun z => by omega) id⟩
        omega
    · rw [if_neg e, List.length_cons, List.length_cons]
      have q : tx_at 0 (x :: t) 0 = x := rfl
      have q' : tx_at 0 (y :: k) 0 = y := rfl
      rw [q, q']
      rcases Nat.lt_or_ge x y with z | z
      · have j : (x + 1 + 1) * 11 ^ n ≤ (y + 1) * 11 ^ n := Nat.mul_le_mul_right _ (by omega)
        rw [Nat.add_mul (x + 1) 1, Nat.one_mul] at j
        exact ⟨fun _ => ⟨by omega, Or.inr z⟩, fun _ => by omega⟩
      · have j : (y + 1 + 1) * 11 ^ n ≤ (x + 1) * 11 ^ n := Nat.mul_le_mul_right _ (by omega)
        rw [Nat.add_mul (y + 1) 1, Nat.one_mul] at j
        exact ⟨fun h => absurd h (by omega), fun h => absurd h.2 (by omega)⟩
theorem tx_cd_inj : ∀ (n : Nat) (t k : List Nat), t.length ≤ n → k.length ≤ n → tx_dg t → tx_dg k → tx_cd n t = tx_cd n k → t = k
  | 0, [], [], _, _, _, _, _ => rfl
  | 0, _ :: _, _, h, _, _, _, _ => absurd h (by rw [List.length_cons]; omega)
  | 0, [], _ :: _, _, h, _, _, _ => absurd h (by rw [List.length_cons]; omega)
  | n + 1, [], [], _, _, _, _, _ => rfl
  | n + 1, [], y :: k, _, _, _, _, h => by
    have h' : 0 = (y + 1) * 11 ^ n + tx_cd n k := h
    have j : 0 < (y + 1) * 11 ^ n := Nat.mul_pos (by omega) (Nat.pow_pos (by omega))
    omega
  | n + 1, x :: t, [], _, _, _, _, h => by
    have h' : (x + 1) * 11 ^ n + tx_cd n t = 0 := h
    have j : 0 < (x + 1) * 11 ^ n := Nat.mul_pos (by omega) (Nat.pow_pos (by omega))
    omega
  | n + 1, x :: t, y :: k, ht, hk, dt, dk, h => by
    obtain ⟨dx, dt'⟩ := tx_dg_t dt
    obtain ⟨dy, dk'⟩ := tx_dg_t dk
    rw [List.length_cons] at ht hk
    have it := tx_cd_lt n t dt'
    have ik := tx_cd_lt n k dk'
    have h' : (x + 1) * 11 ^ n + tx_cd n t = (y + 1) * 11 ^ n + tx_cd n k := h
    rcases Nat.lt_trichotomy x y with z | z | z
    · have j : (x + 1 + 1) * 11 ^ n ≤ (y + 1) * 11 ^ n := Nat.mul_le_mul_right _ (by omega)
      rw [Nat.add_mul (x + 1) 1, Nat.one_mul] at j
      omega
    · rw [z] at h' ⊢
      rw [tx_cd_inj n t k (by omega) (by omega) dt' dk' (by omega)]
    · have j : (y + 1 + 1) * 11 ^ n ≤ (x + 1) * 11 ^ n := Nat.mul_le_mul_right _ (by omega)
      rw [Nat.add_mul (y + 1) 1, Nat.one_mul] at j
      omega
/-! terms -/
def tx_ok (t : List Nat) : Prop := 0 < t.length ∧ t.length ≤ 6 ∧ tx_dg t
def tx_kk (t : List Nat) : Prop := t.length ≤ 6 ∧ tx_dg t
theorem tx_ok_kk {t : List Nat} (h : tx_ok t) : tx_kk t := h.2
def tx_c (t : List Nat) : Nat := tx_cd 6 t
theorem tx_c_lt {t : List Nat} (h : tx_kk t) : tx_c t < 1771561 := tx_cd_lt 6 t h.2
theorem tx_c_inj {t k : List Nat} (ht : tx_kk t) (hk : tx_kk k) (h : tx_c t = tx_c k) : t = k := tx_cd_inj 6 t k ht.1 hk.1 ht.2 hk.2 h
theorem tx_c_less {t k : List Nat} (ht : tx_kk t) (hk : tx_kk k) : tx_c t < tx_c k ↔ (tx_lcp t k ≠ k.length ∧ (tx_lcp t k = t.length ∨ tx_at 0 t (tx_lcp t k) < tx_at 0 k (tx_lcp t k))) := tx_cd_less 6 t k ht.1 hk.1 ht.2 hk.2
theorem tx_c_nil : tx_c [] = 0 := rfl
theorem tx_c_pos {t : List Nat} (h : tx_ok t) : 0 < tx_c t := by
  cases t with
  | nil => exact absurd h.1 (Nat.lt_irrefl 0)
  | cons x t =>
    show 0 < (x + 1) * 11 ^ 5 + tx_cd 5 t
    omega
/-- the next term shares less with the one before than that one with the key: it lies behind the key -/
theorem tx_sc_lt {p t k : List Nat} (hp : tx_kk p) (ht : tx_kk t) (hk : tx_kk k) (h1 : tx_c p < tx_c t) (h : tx_lcp p t < tx_lcp p k) : tx_c k ≤ tx_c t := by
  obtain ⟨a1, a2⟩ := (tx_c_less hp ht).mp h1
  have l1 := tx_lcp_le p t
  have l2 := tx_lcp_le p k
  have a3 : tx_at 0 p (tx_lcp p t) < tx_at 0 t (tx_lcp p t) := a2.resolve_left (by omega)
  have a4 : tx_at 0 p (tx_lcp p t) = tx_at 0 k (tx_lcp p t) := tx_lcp_eq p k _ h
  have u : tx_lcp t k = tx_lcp p t := tx_lcp_u (by omega) (by omega) (fun i hi => by rw [← tx_lcp_eq p t i hi]; exact tx_lcp_eq p k i (by omega)) (fun _ _ => by omega)
  rcases Nat.lt_or_ge (tx_c t) (tx_c k) with z | z
  · obtain ⟨b1, b2⟩ := (tx_c_less ht hk).mp z
    rw [u] at b2
    exact absurd b2 (by omega)
  · exact z
/-- it shares more: it lies on the same side, with as much in common -/
theorem tx_sc_gt {p t k : List Nat} (hp : tx_kk p) (ht : tx_kk t) (hk : tx_kk k) (h1 : tx_c p < tx_c k) (h : tx_lcp p k < tx_lcp p t) : tx_lcp t k = tx_lcp p k ∧ tx_c t < tx_c k := by
  obtain ⟨a1, a2⟩ := (tx_c_less hp hk).mp h1
  have l1 := tx_lcp_le p t
  have l2 := tx_lcp_le p k
  have a3 : tx_at 0 p (tx_lcp p k) < tx_at 0 k (tx_lcp p k) := a2.resolve_left (by omega)
  have a4 : tx_at 0 p (tx_lcp p k) = tx_at 0 t (tx_lcp p k) := tx_lcp_eq p t _ h
  have u : tx_lcp t k = tx_lcp p k := tx_lcp_u (by omega) (by omega) (fun i hi => by rw [← tx_lcp_eq p t i (by omega)]; exact tx_lcp_eq p k i hi) (fun _ _ => by omega)
  refine ⟨u, (tx_c_less ht hk).mpr ?_⟩
  rw [u]
  exact ⟨a1, Or.inr (by omega)⟩
/-- it shares as much: the key's comparison goes on from there -/
theorem tx_sc_eq {p t k : List Nat} (h : tx_lcp p t = tx_lcp p k) : tx_lcp p t ≤ tx_lcp t k := by
  have l1 := tx_lcp_le p t
  have l2 := tx_lcp_le p k
  have l3 := tx_lcp_le t k
  rcases Nat.lt_or_ge (tx_lcp t k) (tx_lcp p t) with z | z
  · have e1 := tx_lcp_eq p t _ z
    have e2 := tx_lcp_eq p k _ (show tx_lcp t k < tx_lcp p k by omega)
    exact absurd (e1.symm.trans e2) (tx_lcp_ne t k (by omega) (by omega))
  · exact z
end
section
/-! numbers -/
theorem tx_n2 (a : Nat) : nI a + 2 = nI (a + 2) := nI_add a 2
theorem tx_n2i (a i : Nat) : nI a + 2 + nI i = nI (a + 2 + i) := by rw [tx_n2, nI_add]
theorem tx_x6 (a : Nat) : 6 * nI a = nI (6 * a) := pk_mul 6 a
theorem tx_x6i (a i : Nat) : 6 * nI a + nI i = nI (6 * a + i) := by rw [tx_x6, nI_add]
theorem tx_x6ij (a i j : Nat) : 6 * nI a + nI i + nI j = nI (6 * a + i + j) := by rw [tx_x6, nI_add, nI_add]
theorem tx_x48 (a : Nat) : 48 * nI a = nI (48 * a) := pk_mul 48 a
theorem tx_n2s {a m s : Nat} (h : s ≤ a + 2 + m) : nI a + 2 + nI m - nI s = nI (a + 2 + m - s) := by rw [tx_n2i, pk_sub h]
/-! the cells of a block -/
def tx_enc : List Nat → List (List Nat) → List Nat
  | _, [] => []
  | p, t :: ts => tx_lcp p t :: (t.length - tx_lcp p t) :: (t.drop (tx_lcp p t) ++ tx_enc t ts)
theorem tx_enc_len : ∀ (ts : List (List Nat)) (p : List Nat), (∀ t, t ∈ ts → tx_ok t) → (tx_enc p ts).length ≤ 8 * ts.length
  | [], _, _ => Nat.le_refl 0
  | t :: ts, p, h => by
    have i := tx_enc_len ts t (fun z hz => h z (List.mem_cons_of_mem _ hz))
    have j := (h t List.mem_cons_self).2.1
    have e : (tx_enc p (t :: ts)).length = (t.drop (tx_lcp p t) ++ tx_enc t ts).length + 1 + 1 := rfl
    rw [e, List.length_append, List.length_drop, List.length_cons]
    omega
/-- an entry at place o: s letters shared, those of t behind them -/
def tx_en (a5 : Nat → Int32) (o s : Nat) (t : List Nat) : Prop := a5 o = nI s ∧ a5 (o + 1) = nI (t.length - s) ∧ tx_ar a5 (o + 2) (t.drop s) ∧ s ≤ t.length ∧ o + 2 + (t.length - s) ≤ 768 ∧ tx_ok t
theorem tx_en_of {a5 : Nat → Int32} {o : Nat} {p t : List Nat} {ts : List (List Nat)} (h : tx_ar a5 o (tx_enc p (t :: ts))) (hb : o + (tx_enc p (t :: ts)).length ≤ 768) (ht : tx_ok t) :
    tx_en a5 o (tx_lcp p t) t ∧ tx_ar a5 (o + 2 + (t.length - tx_lcp p t)) (tx_enc t ts) ∧ o + 2 + (t.length - tx_lcp p t) + (tx_enc t ts).length ≤ 768 := by
  have e : (tx_enc p (t :: ts)).length = (t.drop (tx_lcp p t) ++ tx_enc t ts).length + 1 + 1 := rfl
  rw [e, List.length_append, List.length_drop] at hb
  obtain ⟨h0, h1⟩ := tx_ar_c h
  obtain ⟨h2, h3⟩ := tx_ar_c h1
  have h4 := tx_ar_r h3
  rw [List.length_drop] at h4
  exact ⟨⟨h0, h2, tx_ar_l h3, (tx_lcp_le p t).2, by omega, ht⟩, h4, by omega⟩
theorem tx_en_at {a5 : Nat → Int32} {o s m : Nat} {t : List Nat} (h : tx_en a5 o s t) (h1 : s ≤ m) (h2 : m < t.length) : a5 (o + 2 + m - s) = nI (tx_at 0 t m) := by
  have q := h.2.2.1 (m - s) (by rw [List.length_drop]; omega)
  rw [tx_at_drop] at q
  rw [show o + 2 + m - s = o + 2 + (m - s) by omega, q, show s + (m - s) = m by omega]
/-! blocks: a slot and its terms -/
abbrev tx_Bk : Type := Nat × List (List Nat)
def tx_flat : List tx_Bk → List (List Nat)
  | [] => []
  | b :: l => b.2 ++ tx_flat l
theorem tx_flat_app : ∀ (P Q : List tx_Bk), tx_flat (P ++ Q) = tx_flat P ++ tx_flat Q
  | [], _ => rfl
  | b :: P, Q => by
    show b.2 ++ tx_flat (P ++ Q) = b.2 ++ tx_flat P ++ tx_flat Q
    rw [tx_flat_app P Q, List.append_assoc]
theorem tx_flat_s (P : List tx_Bk) (b : tx_Bk) : (tx_flat (P ++ [b])).length = (tx_flat P).length + b.2.length := by
  rw [tx_flat_app, List.length_append]
  show _ + (b.2 ++ []).length = _
  rw [List.append_nil]
theorem tx_flat_mid (P : List tx_Bk) (b : tx_Bk) (Q : List tx_Bk) : tx_flat (P ++ b :: Q) = tx_flat P ++ (b.2 ++ tx_flat Q) := tx_flat_app P (b :: Q)
def tx_sl (Bs : List tx_Bk) : List Nat := Bs.map (fun b => b.1)
theorem tx_sl_app (P Q : List tx_Bk) : tx_sl (P ++ Q) = tx_sl P ++ tx_sl Q := List.map_append
theorem tx_sl_len (P : List tx_Bk) : (tx_sl P).length = P.length := List.length_map _
/-- a block stands in its slot -/
def tx_blk (a4 a5 : Nat → Int32) (b : tx_Bk) : Prop := b.1 < 16 ∧ b.2.length ≤ 6 ∧ (∀ t, t ∈ b.2 → tx_ok t) ∧ a4 b.1 = nI b.2.length ∧ tx_ar a5 (48 * b.1) (tx_enc [] b.2)
/-- the blocks' part of the state -/
def tx_ph (Bs : List tx_Bk) (bl : Int32) (a2 a3 a4 a5 : Nat → Int32) : Prop :=
  bl = nI Bs.length ∧ Bs.length ≤ 16 ∧ (tx_sl Bs).Nodup ∧ tx_ar a2 0 (tx_sl Bs) ∧ (∀ s, s < 16 → (a3 s = 0 ↔ s ∉ tx_sl Bs)) ∧ ∀ b, b ∈ Bs → tx_blk a4 a5 b
/-- the key -/
def tx_ky (k : List Nat) (kl : Int32) (a1 : Nat → Int32) : Prop := tx_kk k ∧ kl = nI k.length ∧ tx_ar a1 0 k
theorem tx_ky_at {k : List Nat} {kl : Int32} {a1 : Nat → Int32} (h : tx_ky k kl a1) {i : Nat} (hi : i < k.length) : a1 i = nI (tx_at 0 k i) := by
  have t := h.2.2 i hi
  rw [Nat.zero_add] at t
  exact t
theorem tx_ph_at {Bs P Q : List tx_Bk} {b : tx_Bk} {bl : Int32} {a2 a3 a4 a5 : Nat → Int32} (h : tx_ph Bs bl a2 a3 a4 a5) (e : Bs = P ++ b :: Q) : P.length < 16 ∧ a2 P.length = nI b.1 ∧ tx_blk a4 a5 b := by
  obtain ⟨h1, h2, h3, h4, h5, h6⟩ := h
  subst e
  rw [List.length_append, List.length_cons] at h2
  rw [tx_sl_app] at h4
  have t := (tx_ar_c (tx_ar_r h4)).1
  rw [tx_sl_len, Nat.zero_add] at t
  exact ⟨by omega, t, h6 b (List.mem_append_right P List.mem_cons_self)⟩
theorem tx_split {α : Type} {d : α} : ∀ (l : List α) (i : Nat), i < l.length → ∃ P Q, l = P ++ tx_at d l i :: Q ∧ P.length = i
  | [], i, h => absurd h (Nat.not_lt_zero i)
  | x :: l, 0, _ => ⟨[], l, rfl, rfl⟩
  | x :: l, i + 1, h => by
    obtain ⟨P, Q, e, hp⟩ := tx_split (d := d) l i (Nat.lt_of_succ_lt_succ h)
    refine ⟨x :: P, Q, ?_, by rw [List.length_cons, hp]⟩
    show x :: l = x :: (P ++ tx_at d l i :: Q)
    rw [← e]
section
variable {kl bl tot fb fi li : Int32} {a1 a2 a3 a4 a5 a6 a7 : Nat → Int32} {Bs : List tx_Bk}
/-! termsBefore -/
theorem tx_tb4 {post : Int32 → Prop} {x1 : Int32} (h : tx_ph Bs bl a2 a3 a4 a5) : ∀ (R P0 Q : List tx_Bk), Bs = P0 ++ (R ++ Q) → x1 = nI (P0.length + R.length) → post (nI (tx_flat (P0 ++ R)).length) → wX_termsBefore_4 post x1 kl bl tot fb fi li a1 a2 a3 a4 a5 a6 a7 (R.length + 1) (nI (tx_flat P0).length) (nI P0.length)
  | [], P0, Q, e, ex, H => by
    have l := h.2.1
    rw [e, List.length_append] at l
    rw [List.append_nil] at H
    exact pk_le P0.length P0.length (fun _ => H) (fun z => absurd z (Nat.lt_irrefl _)) ex rfl (by omega) (by omega)
  | b :: R, P0, Q, e, ex, H => by
    have e1 : Bs = P0 ++ b :: (R ++ Q) := e
    obtain ⟨h1, h2, h3⟩ := tx_ph_at h e1
    have l := h.2.1
    rw [e1, List.length_append, List.length_cons, List.length_append] at l
    have el : (P0 ++ [b]).length = P0.length + 1 := by rw [List.length_append]; rfl
    have ih := tx_tb4 (post := post) (x1 := x1) h R (P0 ++ [b]) Q (by rw [e1, List.append_assoc]; rfl) (by rw [ex, el, List.length_cons, Nat.add_assoc, Nat.add_comm 1]) (by rw [List.append_assoc]; exact H)
    have c1 : (nI P0.length).toNatClampNeg = P0.length := nI_clamp (by omega)
    have c2 : (nI b.1).toNatClampNeg = b.1 := nI_clamp (by have := h3.1; omega)
    rw [List.length_cons] at ex
    refine pk_le (P0.length + (R.length + 1)) P0.length (fun z => absurd z (by omega)) (fun _ => ⟨pk_in P0.length 16 h1, ?_, ?_⟩) ex rfl (by omega) (by omega)
    · rw [c1, h2]
      exact vp_in_nI h3.1 (by omega)
    · rw [c1, h2, c2, h3.2.2.2.1, nI_add, nI_1, ← tx_flat_s, ← el]
      exact nm_e (nm_e ih)
theorem tx_tb {post : Int32 → Prop} {P Q : List tx_Bk} (h : tx_ph Bs bl a2 a3 a4 a5) (e : Bs = P ++ Q) (H : post (nI (tx_flat P).length)) : wpX_termsBefore post (kl, bl, tot, fb, fi, li, a1, a2, a3, a4, a5, a6, a7) (nI P.length) :=
  ⟨P.length + 1, tx_tb4 h P [] Q e (by rw [List.length_nil, Nat.zero_add]) H⟩
/-! blockOfRank -/
theorem tx_bo4 {post : Int32 → Prop} {r : Nat} {b : tx_Bk} {Q : List tx_Bk} (h : tx_ph Bs bl a2 a3 a4 a5) (hr : r < 2 ^ 30) : ∀ (R P0 : List tx_Bk), Bs = P0 ++ (R ++ b :: Q) → (tx_flat (P0 ++ R)).length ≤ r → r < (tx_flat (P0 ++ R)).length + b.2.length → post (nI (P0 ++ R).length) → wX_blockOfRank_4 post (nI r) kl bl tot fb fi li a1 a2 a3 a4 a5 a6 a7 (R.length + 1) (nI (tx_flat P0).length) (nI P0.length)
  | [], P0, e, h1, h2, H => by
    have e1 : Bs = P0 ++ b :: Q := e
    obtain ⟨g1, g2, g3⟩ := tx_ph_at h e1
    have l := h.2.1
    have eb := h.1
    rw [e1, List.length_append, List.length_cons] at l eb
    rw [List.append_nil] at H h1 h2
    have c1 : (nI P0.length).toNatClampNeg = P0.length := nI_clamp (by omega)
    have c2 : (nI b.1).toNatClampNeg = b.1 := nI_clamp (by have := g3.1; omega)
    have g6 := g3.2.1
    refine pk_le (P0.length + (Q.length + 1)) P0.length (fun z => absurd z (by omega)) (fun _ => ⟨pk_in P0.length 16 g1, ?_, ?_⟩) eb rfl (by omega) (by omega)
    · rw [c1, g2]
      exact vp_in_nI g3.1 (by omega)
    · rw [c1, g2, c2, g3.2.2.2.1, nI_add]
      exact nm_e (pk_le ((tx_flat P0).length + b.2.length) r (fun z => absurd z (by omega)) (fun _ => H) rfl rfl (by omega) (by omega))
  | c :: R, P0, e, h1, h2, H => by
    have e1 : Bs = P0 ++ c :: (R ++ b :: Q) := e
    obtain ⟨g1, g2, g3⟩ := tx_ph_at h e1
    have l := h.2.1
    have eb := h.1
    rw [e1, List.length_append, List.length_cons] at l eb
    have el : (P0 ++ [c]).length = P0.length + 1 := by rw [List.length_append]; rfl
    have ea : P0 ++ c :: R = P0 ++ [c] ++ R := by rw [List.append_assoc]; rfl
    rw [ea] at h1 h2 H
    have ih := tx_bo4 h hr R (P0 ++ [c]) (by rw [e1, List.append_assoc]; rfl) h1 h2 H
    have c1 : (nI P0.length).toNatClampNeg = P0.length := nI_clamp (by omega)
    have c2 : (nI c.1).toNatClampNeg = c.1 := nI_clamp (by have := g3.1; omega)
    have g6 := g3.2.1
    have fs := tx_flat_s P0 c
    rw [tx_flat_app (P0 ++ [c]) R, List.length_append] at h1
    refine pk_le (P0.length + ((R ++ b :: Q).length + 1)) P0.length (fun z => absurd z (by omega)) (fun _ => ⟨pk_in P0.length 16 g1, ?_, ?_⟩) eb rfl (by omega) (by omega)
    · rw [c1, g2]
      exact vp_in_nI g3.1 (by omega)
    · rw [c1, g2, c2, g3.2.2.2.1, nI_add, nI_1, ← fs, ← el]
      exact nm_e (pk_le (tx_flat (P0 ++ [c])).length r (fun _ => nm_e ih) (fun z => absurd z (by omega)) rfl rfl (by omega) (by omega))
theorem tx_bo {post : Int32 → Prop} {r : Nat} {b : tx_Bk} {P Q : List tx_Bk} (h : tx_ph Bs bl a2 a3 a4 a5) (hr : r < 2 ^ 30) (e : Bs = P ++ b :: Q) (h1 : (tx_flat P).length ≤ r) (h2 : r < (tx_flat P).length + b.2.length) (H : post (nI P.length)) : wpX_blockOfRank post (kl, bl, tot, fb, fi, li, a1, a2, a3, a4, a5, a6, a7) (nI r) :=
  ⟨P.length + 1, tx_bo4 h hr P [] e h1 h2 H⟩
/-! matched, isLess -/
theorem tx_ma19 {post : Int32 → Prop} {k t : List Nat} {o s : Nat} (hk : tx_ky k kl a1) (h : tx_en a5 o s t) (H : post (nI (tx_lcp t k))) : ∀ (d m : Nat), m + d = tx_lcp t k → s ≤ m → wX_matched_19 post (nI o) (nI t.length) kl bl tot fb fi li a1 a2 a3 a4 a5 a6 a7 (d + 1) (nI m)
  | 0, m, hm, hs => by
    have l := tx_lcp_le t k
    have k1 := hk.1.1
    have t1 := h.2.2.2.2.2.2.1
    have e : m = tx_lcp t k := by omega
    rw [← e] at H
    have hb := h.2.2.2.2.1
    have c0 : (nI o).toNatClampNeg = o := nI_clamp (by omega)
    refine pk_le k.length m (fun _ => H) (fun z1 => ?_) hk.2.1 rfl (by omega) (by omega)
    refine pk_le t.length m (fun _ => H) (fun z2 => ?_) rfl rfl (by omega) (by omega)
    rw [c0, h.1, tx_n2s (by omega), nI_clamp (show o + 2 + m - s < 2 ^ 31 by omega), nI_clamp (show m < 2 ^ 31 by omega), tx_en_at h hs z2, tx_ky_at hk z1]
    have d1 := tx_dg_at h.2.2.2.2.2.2.2 z2
    have d2 := tx_dg_at hk.1.2 z1
    have ne : tx_at 0 t m ≠ tx_at 0 k m := by
      have q := tx_lcp_ne t k (by omega) (by omega)
      rw [← e] at q
      exact q
    exact ⟨pk_in o 768 (by omega), pk_in (o + 2 + m - s) 768 (by omega), pk_in m 6 (by omega), pk_eq (tx_at 0 t m) (tx_at 0 k m) (fun z => absurd z ne) (fun _ => H) rfl rfl (by omega) (by omega)⟩
  | d + 1, m, hm, hs => by
    have l := tx_lcp_le t k
    have k1 := hk.1.1
    have t1 := h.2.2.2.2.2.2.1
    have hb := h.2.2.2.2.1
    have c0 : (nI o).toNatClampNeg = o := nI_clamp (by omega)
    have z1 : m < k.length := by omega
    have z2 : m < t.length := by omega
    have ih := tx_ma19 hk h H d (m + 1) (by omega) (by omega)
    refine pk_le k.length m (fun z => absurd z (by omega)) (fun _ => ?_) hk.2.1 rfl (by omega) (by omega)
    refine pk_le t.length m (fun z => absurd z (by omega)) (fun _ => ?_) rfl rfl (by omega) (by omega)
    rw [c0, h.1, tx_n2s (by omega), nI_clamp (show o + 2 + m - s < 2 ^ 31 by omega), nI_clamp (show m < 2 ^ 31 by omega), tx_en_at h hs z2, tx_ky_at hk z1]
    exact ⟨pk_in o 768 (by omega), pk_in (o + 2 + m - s) 768 (by omega), pk_in m 6 (by omega), br_t (by rw [tx_lcp_eq t k m (by omega)]) (nm_r (nI_1 m) ih)⟩
theorem tx_ma {post : Int32 → Prop} {k t : List Nat} {o s m : Nat} (hk : tx_ky k kl a1) (h : tx_en a5 o s t) (hs : s ≤ m) (hm : m ≤ tx_lcp t k) (H : post (nI (tx_lcp t k))) : wpX_matched post (kl, bl, tot, fb, fi, li, a1, a2, a3, a4, a5, a6, a7) (nI o) (nI m) := by
  have hb := h.2.2.2.2.1
  have c0 : (nI o).toNatClampNeg = o := nI_clamp (by omega)
  have c1 : (nI o + 1).toNatClampNeg = o + 1 := pk_cl (o + 1) (nI_1 o) (by omega)
  refine ⟨pk_in o 768 (by omega), pk_in (o + 1) 768 (by omega) (nI_1 o), nm_r (e' := nI t.length) ?_ ⟨_, tx_ma19 hk h H (tx_lcp t k - m) m (by omega) hs⟩⟩
  have hs' := h.2.2.2.1
  rw [c0, c1, h.1, h.2.1, nI_add, show s + (t.length - s) = t.length by omega]
theorem tx_il {post : Int32 → Prop} {k t : List Nat} {o s : Nat} (hk : tx_ky k kl a1) (h : tx_en a5 o s t) (hs : s ≤ tx_lcp t k) (H1 : tx_c t < tx_c k → post 1) (H0 : ¬ tx_c t < tx_c k → post 0) : wpX_isLess post (kl, bl, tot, fb, fi, li, a1, a2, a3, a4, a5, a6, a7) (nI o) (nI (tx_lcp t k)) 0 := by
  have l := tx_lcp_le t k
  have k1 := hk.1.1
  have t1 := h.2.2.2.2.2.2.1
  have hb := h.2.2.2.2.1
  have hs' := h.2.2.2.1
  have c0 : (nI o).toNatClampNeg = o := nI_clamp (by omega)
  have c1 : (nI o + 1).toNatClampNeg = o + 1 := pk_cl (o + 1) (nI_1 o) (by omega)
  have q := tx_c_less h.2.2.2.2.2.2 hk.1
  refine pk_eq (tx_lcp t k) k.length (fun z => ⟨rfl, H0 (fun y => (q.mp y).1 z)⟩) (fun z => ⟨pk_in o 768 (by omega), pk_in (o + 1) 768 (by omega) (nI_1 o), ?_⟩) rfl hk.2.1 (by omega) (by omega)
  rw [c0, c1, h.1, h.2.1, nI_add, show s + (t.length - s) = t.length by omega]
  refine pk_eq (tx_lcp t k) t.length (fun y => H1 (q.mpr ⟨z, Or.inl y⟩)) (fun y => ?_) rfl rfl (by omega) (by omega)
  have z1 : tx_lcp t k < k.length := by omega
  have z2 : tx_lcp t k < t.length := by omega
  have d1 := tx_dg_at h.2.2.2.2.2.2.2 z2
  have d2 := tx_dg_at hk.1.2 z1
  rw [tx_n2s (by omega), nI_clamp (show o + 2 + tx_lcp t k - s < 2 ^ 31 by omega), nI_clamp (show tx_lcp t k < 2 ^ 31 by omega), tx_en_at h hs z2, tx_ky_at hk z1]
  refine ⟨pk_in o 768 (by omega), pk_in (o + 2 + tx_lcp t k - s) 768 (by omega), pk_in (tx_lcp t k) 6 (by omega), pk_le (tx_at 0 k (tx_lcp t k)) (tx_at 0 t (tx_lcp t k)) (fun w => H0 (fun v => ?_)) (fun w => H1 (q.mpr ⟨z, Or.inr w⟩)) rfl rfl (by omega) (by omega)⟩
  have v2 := (q.mp v).2
  omega
end
end
section
/-! order -/
def tx_srt (l : List (List Nat)) : Prop := l.Pairwise (fun a b => tx_c a < tx_c b)
def tx_lo (k : List Nat) (l : List (List Nat)) : Prop := ∀ t, t ∈ l → tx_c t < tx_c k
def tx_hi (k : List Nat) (l : List (List Nat)) : Prop := ∀ t, t ∈ l → tx_c k ≤ tx_c t
theorem tx_srt_c {p : List Nat} {l : List (List Nat)} (h : tx_srt (p :: l)) : (∀ t, t ∈ l → tx_c p < tx_c t) ∧ tx_srt l := List.pairwise_cons.mp h
theorem tx_srt_app {A B : List (List Nat)} (h : tx_srt (A ++ B)) : tx_srt A ∧ tx_srt B ∧ ∀ a, a ∈ A → ∀ b, b ∈ B → tx_c a < tx_c b := List.pairwise_append.mp h
theorem tx_srt_mk {A B : List (List Nat)} (h1 : tx_srt A) (h2 : tx_srt B) (h : ∀ a, a ∈ A → ∀ b, b ∈ B → tx_c a < tx_c b) : tx_srt (A ++ B) := List.pairwise_append.mpr ⟨h1, h2, h⟩
theorem tx_srt_hi {k p : List Nat} {l : List (List Nat)} (h : tx_srt (p :: l)) (hp : tx_c k ≤ tx_c p) : tx_hi k (p :: l) := by
  intro t ht
  rcases List.mem_cons.mp ht with e | e
  · rw [e]; exact hp
  · have := (tx_srt_c h).1 t e
    omega
theorem tx_srt_lo {k p : List Nat} {A B : List (List Nat)} (h : tx_srt (A ++ p :: B)) (hp : tx_c p < tx_c k) : tx_lo k A := by
  intro t ht
  have := (tx_srt_app h).2.2 t ht p List.mem_cons_self
  omega
theorem tx_lo_nil (k : List Nat) : tx_lo k [] := fun _ h => by cases h
theorem tx_hi_nil (k : List Nat) : tx_hi k [] := fun _ h => by cases h
theorem tx_lo_c {k p : List Nat} {l : List (List Nat)} (hp : tx_c p < tx_c k) (h : tx_lo k l) : tx_lo k (p :: l) := by
  intro t ht
  rcases List.mem_cons.mp ht with e | e
  · rw [e]; exact hp
  · exact h t e
theorem tx_lo_app {k : List Nat} {A B : List (List Nat)} (h : tx_lo k A) (h' : tx_lo k B) : tx_lo k (A ++ B) := fun t ht => (List.mem_append.mp ht).elim (h t) (h' t)
theorem tx_hi_app {k : List Nat} {A B : List (List Nat)} (h : tx_hi k A) (h' : tx_hi k B) : tx_hi k (A ++ B) := fun t ht => (List.mem_append.mp ht).elim (h t) (h' t)
/-- the head of block i -/
def tx_hd (Bs : List tx_Bk) (i : Nat) : List Nat := tx_at [] (tx_at (0, []) Bs i).2 0
section
variable {kl bl tot fb fi li : Int32} {a1 a2 a3 a4 a5 a6 a7 : Nat → Int32} {Bs : List tx_Bk} {k : List Nat}
/-! scanBlock -/
theorem tx_sb19 {post : Int32 → Prop} {sl sz : Nat} (hk : tx_ky k kl a1) (hsl : sl < 16) (h4 : a4 sl = nI sz) (hz : sz ≤ 6) : ∀ (rest : List (List Nat)) (p : List Nat) (o s q : Nat), tx_en a5 o s p → tx_ar a5 (o + 2 + (p.length - s)) (tx_enc p rest) → o + 2 + (p.length - s) + (tx_enc p rest).length ≤ 768 → (∀ t, t ∈ rest → tx_ok t) → tx_srt (p :: rest) → tx_c p < tx_c k → q + rest.length = sz → (∀ r1 r2, rest = r1 ++ r2 → tx_lo k r1 → tx_hi k r2 → post (nI (q + r1.length))) → wX_scanBlock_19 post (nI sl) 0 kl bl tot fb fi li a1 a2 a3 a4 a5 a6 a7 (rest.length + 1) (nI o) (nI (tx_lcp p k)) (nI q) (nI q)
  | [], p, o, s, q, he, ha, hb, ho, hs, hp, hq, H => by
    have c0 : (nI sl).toNatClampNeg = sl := nI_clamp (by omega)
    have hq' : q = sz := hq
    exact ⟨pk_in sl 16 hsl, pk_le sz q (fun _ => H [] [] rfl (tx_lo_nil k) (tx_hi_nil k)) (fun z => absurd z (by omega)) (by rw [c0]; exact h4) rfl (by omega) (by omega)⟩
  | t :: rest, p, o, s, q, he, ha, hb, ho, hs, hp, hq, H => by
    have c0 : (nI sl).toNatClampNeg = sl := nI_clamp (by omega)
    have ht : tx_ok t := ho t List.mem_cons_self
    have hso := he.2.2.2.2.1
    obtain ⟨e1, e2, e3⟩ := tx_en_of ha hb ht
    rw [List.length_cons] at hq
    obtain ⟨s1, s2⟩ := tx_srt_c hs
    have hpt : tx_c p < tx_c t := s1 t List.mem_cons_self
    have kp : tx_kk p := he.2.2.2.2.2.2
    have kt : tx_kk t := ht.2
    have t6 := ht.2.1
    have lp := tx_lcp_le p t
    have lk := tx_lcp_le p k
    have kk := hk.1.1
    have eb := e1.2.2.2.2.1
    have ee := e1.1
    have ih := fun (hc : tx_c t < tx_c k) => tx_sb19 (post := post) hk hsl h4 hz rest t (o + 2 + (p.length - s)) (tx_lcp p t) (q + 1) e1 e2 e3 (fun z hz => ho z (List.mem_cons_of_mem _ hz)) s2 hc (by omega) (fun r1 r2 er l1 l2 => by
      have t := H (t :: r1) r2 (by rw [er]; rfl) (tx_lo_c hc l1) l2
      rw [List.length_cons] at t
      rw [show q + 1 + r1.length = q + (r1.length + 1) by omega]
      exact t)
    have stop : tx_c k ≤ tx_c t → post (nI q) := fun hc => H [] (t :: rest) rfl (tx_lo_nil k) (tx_srt_hi s2 hc)
    have cp1 : (nI o + 1).toNatClampNeg = o + 1 := pk_cl (o + 1) (nI_1 o) (by omega)
    have eo : nI o + (2 + a5 (nI o + 1).toNatClampNeg) = nI (o + 2 + (p.length - s)) := by
      rw [cp1, he.2.1, show (2 : Int32) + nI (p.length - s) = nI (2 + (p.length - s)) from nI_add 2 _, nI_add, Nat.add_assoc]
    have co : (nI (o + 2 + (p.length - s))).toNatClampNeg = o + 2 + (p.length - s) := nI_clamp (by omega)
    refine ⟨pk_in sl 16 hsl, pk_le sz q (fun z => absurd z (by omega)) (fun _ => ⟨pk_in (o + 1) 768 (by omega) (nI_1 o), nm_r eo ⟨pk_in (o + 2 + (p.length - s)) 768 (by omega), ?_⟩⟩) (by rw [c0]; exact h4) rfl (by omega) (by omega)⟩
    rw [co, ee]
    refine pk_le (tx_lcp p k) (tx_lcp p t) (fun z => ⟨pk_in (o + 2 + (p.length - s)) 768 (by omega), pk_eq (tx_lcp p t) (tx_lcp p k) (fun y => ?_) (fun y => ?_) rfl rfl (by omega) (by omega)⟩) (fun z => stop (tx_sc_lt kp kt hk.1 hpt z)) rfl rfl (by omega) (by omega)
    · have sc := tx_sc_eq y
      exact tx_ma hk e1 (Nat.le_of_eq y) (by omega) (tx_il hk e1 sc (fun c => br_f (by decide) (nm_r (nI_1 q) (nm_r (nI_1 q) (ih c)))) (fun c => br_t rfl (stop (by omega))))
    · obtain ⟨u1, u2⟩ := tx_sc_gt kp kt hk.1 hp (show tx_lcp p k < tx_lcp p t by omega)
      have ih' := ih u2
      rw [u1] at ih'
      exact nm_r (nI_1 q) (nm_r (nI_1 q) ih')
theorem tx_blk_en {b : tx_Bk} {p : List Nat} {rest : List (List Nat)} (hb : tx_blk a4 a5 b) (e : b.2 = p :: rest) : tx_en a5 (48 * b.1) 0 p ∧ tx_ar a5 (48 * b.1 + 2 + (p.length - 0)) (tx_enc p rest) ∧ 48 * b.1 + 2 + (p.length - 0) + (tx_enc p rest).length ≤ 768 := by
  obtain ⟨b1, b2, b3, b4, b5⟩ := hb
  rw [e] at b2 b3 b5
  have l := tx_enc_len (p :: rest) [] b3
  have q := tx_en_of b5 (by omega) (b3 p List.mem_cons_self)
  rw [tx_lcp_nil] at q
  exact q
theorem tx_sb {post : Int32 → Prop} {b : tx_Bk} {p : List Nat} {rest : List (List Nat)} (hk : tx_ky k kl a1) (hb : tx_blk a4 a5 b) (e : b.2 = p :: rest) (hs : tx_srt (p :: rest)) (hp : tx_c p < tx_c k) (H : ∀ t1 t2, b.2 = t1 ++ t2 → tx_lo k t1 → tx_hi k t2 → post (nI t1.length)) : wpX_scanBlock post (kl, bl, tot, fb, fi, li, a1, a2, a3, a4, a5, a6, a7) (nI b.1) 0 := by
  obtain ⟨e1, e2, e3⟩ := tx_blk_en hb e
  obtain ⟨b1, b2, b3, b4, b5⟩ := hb
  rw [e] at b2 b3 b4
  rw [List.length_cons] at b2 b4
  refine nm_r (tx_x48 b.1) (tx_ma hk e1 (Nat.le_refl 0) (Nat.zero_le _) ⟨rest.length + 1, ?_⟩)
  exact tx_sb19 hk b1 b4 b2 rest p (48 * b.1) 0 1 e1 e2 e3 (fun z hz => b3 z (List.mem_cons_of_mem _ hz)) hs hp (by omega) (fun r1 r2 er l1 l2 => by
    have t := H (p :: r1) r2 (by rw [e, er]; rfl) (tx_lo_c hp l1) l2
    rw [List.length_cons] at t
    rw [Nat.add_comm 1]
    exact t)
/-! headIsLess -/
theorem tx_hl {post : Int32 → Prop} {i : Nat} (h : tx_ph Bs bl a2 a3 a4 a5) (hk : tx_ky k kl a1) (hn : ∀ b, b ∈ Bs → b.2 ≠ []) (hi : i < Bs.length) (H1 : tx_c (tx_hd Bs i) < tx_c k → post 1) (H0 : ¬ tx_c (tx_hd Bs i) < tx_c k → post 0) : wpX_headIsLess post (kl, bl, tot, fb, fi, li, a1, a2, a3, a4, a5, a6, a7) (nI i) 0 := by
  obtain ⟨P, Q, e, hp⟩ := tx_split (d := ((0, []) : tx_Bk)) Bs i hi
  obtain ⟨g1, g2, g3⟩ := tx_ph_at h e
  have hm := hn _ (tx_at_mem (d := ((0, []) : tx_Bk)) Bs i hi)
  have c0 : (nI i).toNatClampNeg = i := nI_clamp (by omega)
  rw [hp] at g1 g2
  unfold tx_hd at H1 H0
  generalize tx_at ((0, []) : tx_Bk) Bs i = b at *
  cases eb : b.2 with
  | nil => exact absurd eb hm
  | cons p rest =>
    rw [eb] at H1 H0
    have H1' : tx_c p < tx_c k → post 1 := H1
    have H0' : ¬ tx_c p < tx_c k → post 0 := H0
    obtain ⟨e1, e2, e3⟩ := tx_blk_en g3 eb
    refine ⟨pk_in i 16 g1, nm_r (e' := nI (48 * b.1)) (by rw [c0, g2]; exact tx_x48 b.1) ?_⟩
    exact tx_ma hk e1 (Nat.le_refl 0) (Nat.zero_le _) (tx_il hk e1 (Nat.zero_le _) (fun c => ⟨rfl, H1' c⟩) (fun c => ⟨rfl, H0' c⟩))
/-! countLess -/
theorem tx_cl10 {post : Int32 → St1 → Prop} (h : tx_ph Bs bl a2 a3 a4 a5) (hk : tx_ky k kl a1) (hn : ∀ b, b ∈ Bs → b.2 ≠ []) (H : ∀ low, low ≤ Bs.length → (low = 0 ∨ tx_c (tx_hd Bs (low - 1)) < tx_c k) → (low = Bs.length ∨ tx_c k ≤ tx_c (tx_hd Bs low)) → wX_countLess_55 post 0 (nI low) kl bl tot fb fi li a1 a2 a3 a4 a5 a6 a7) :
    ∀ (d st low high : Nat), st + d = 5 → low ≤ high → high ≤ Bs.length → high - low < 2 ^ d → (low = 0 ∨ tx_c (tx_hd Bs (low - 1)) < tx_c k) → (high = Bs.length ∨ tx_c k ≤ tx_c (tx_hd Bs high)) → wX_countLess_10 post 0 kl bl tot fb fi li a1 a2 a3 a4 a5 a6 a7 (d + 1) (nI low) (nI high) (nI st)
  | 0, st, low, high, h1, h2, h3, h4, h5, h6 => by
    have e : high = low := by
      have : (2 : Nat) ^ 0 = 1 := rfl
      omega
    subst e
    exact pk_le 5 st (fun _ => H high h3 h5 h6) (fun z => absurd z (by omega)) rfl rfl (by omega) (by omega)
  | d + 1, st, low, high, h1, h2, h3, h4, h5, h6 => by
    have l := h.2.1
    rw [Nat.pow_succ] at h4
    refine pk_le 5 st (fun z => absurd z (by omega)) (fun _ => ?_) rfl rfl (by omega) (by omega)
    refine pk_le high low (fun z => ?_) (fun z => ⟨by decide, ?_⟩) rfl rfl (by omega) (by omega)
    · have e : high = low := by omega
      subst e
      exact H high h3 h5 h6
    · have em : (nI low + nI high) / 2 = nI ((low + high) / 2) := by
        rw [nI_add]
        exact pk_div (a := low + high) (d := 2) (by omega) (by decide) (by decide)
      have ih := tx_cl10 h hk hn H d (st + 1)
      generalize 2 ^ d = w at *
      refine nm_r em (tx_hl h hk hn (by omega) (fun c => br_f (by decide) (nm_r (nI_1 _) (nm_r (nI_1 st) (ih _ high (by omega) (by omega) h3 (by omega) (Or.inr ?_) h6)))) (fun c => br_t rfl (nm_r (nI_1 st) (ih low _ (by omega) (by omega) (by omega) (by omega) h5 (Or.inr (by omega))))))
      rw [Nat.add_sub_cancel]
      exact c
theorem tx_cl {post : Int32 → St1 → Prop} (h : tx_ph Bs bl a2 a3 a4 a5) (hk : tx_ky k kl a1) (hs : tx_srt (tx_flat Bs)) (hn : ∀ b, b ∈ Bs → b.2 ≠ [])
    (H0 : Bs = [] → post (nI 0) (kl, bl, tot, nI 0, nI 0, li, a1, a2, a3, a4, a5, a6, a7))
    (H : ∀ P s t1 t2 Q, Bs = P ++ (s, t1 ++ t2) :: Q → tx_lo k (tx_flat P ++ t1) → tx_hi k (t2 ++ tx_flat Q) → post (nI ((tx_flat P).length + t1.length)) (kl, bl, tot, nI P.length, nI t1.length, li, a1, a2, a3, a4, a5, a6, a7)) : wpX_countLess post (kl, bl, tot, fb, fi, li, a1, a2, a3, a4, a5, a6, a7) 0 := by
  have l := h.2.1
  refine ⟨6, ?_⟩
  have go := tx_cl10 (post := post) (tot := tot) (fb := fb) (fi := fi) (li := li) (a6 := a6) (a7 := a7) h hk hn (fun low g1 g2 g3 => ?_) 5 0 0 Bs.length (by omega) (by omega) (by omega) (by have : (2 : Nat) ^ 5 = 32 := rfl; omega) (Or.inl rfl) (Or.inl rfl)
  · have eb := h.1
    rw [← eb] at go
    exact go
  · cases low with
    | zero =>
      refine br_t (by decide) (br_t (by decide) ?_)
      refine tx_tb (P := []) (Q := Bs) h rfl ?_
      rw [show nI (tx_flat []).length + 0 = nI 0 from nI_add 0 0]
      cases eB : Bs with
      | nil => exact H0 eB
      | cons b Q =>
        have eb := hn b (by rw [eB]; exact List.mem_cons_self)
        obtain ⟨s, ts⟩ := b
        cases ets : ts with
        | nil => exact absurd ets eb
        | cons p rest =>
          subst ets
          have g4 : tx_c k ≤ tx_c p := by
            rcases g3 with z | z
            · rw [eB, List.length_cons] at z; omega
            · rw [eB] at z; exact z
          rw [eB] at hs
          exact H [] s [] (p :: rest) Q eB (tx_lo_nil k) (tx_srt_hi hs g4)
    | succ i =>
      have g2' : tx_c (tx_hd Bs i) < tx_c k := g2.resolve_left (by omega)
      obtain ⟨P, Q, e, hp⟩ := tx_split (d := ((0, []) : tx_Bk)) Bs i (by omega)
      have hm := hn _ (tx_at_mem (d := ((0, []) : tx_Bk)) Bs i (by omega))
      unfold tx_hd at g2'
      obtain ⟨q1, q2, q3⟩ := tx_ph_at h e
      generalize tx_at ((0, []) : tx_Bk) Bs i = b at *
      obtain ⟨s, ts⟩ := b
      cases ets : ts with
      | nil => exact absurd ets hm
      | cons p rest =>
        subst ets
        have g4 : tx_c p < tx_c k := g2'
        have ef : tx_flat Bs = tx_flat P ++ p :: (rest ++ tx_flat Q) := by rw [e]; exact tx_flat_mid P _ Q
        have lo := tx_srt_lo (by rw [← ef]; exact hs) g4
        have s2 : tx_srt (p :: rest) := (tx_srt_app (A := p :: rest) (B := tx_flat Q) (tx_srt_app (A := tx_flat P) (by rw [ef] at hs; exact hs)).2.1).1
        have sQ : tx_srt (tx_flat Q) := (tx_srt_app (A := p :: rest) (B := tx_flat Q) (tx_srt_app (A := tx_flat P) (by rw [ef] at hs; exact hs)).2.1).2.1
        have hi : tx_hi k (tx_flat Q) := by
          cases eQ : Q with
          | nil => exact tx_hi_nil k
          | cons c Q' =>
            have hc := hn c (by rw [e, eQ]; exact List.mem_append_right P (List.mem_cons_of_mem _ List.mem_cons_self))
            have ei : tx_at ((0, []) : tx_Bk) Bs (i + 1) = c := by
              rw [e, eQ, ← hp]
              exact tx_at_r P _ 1
            rcases g3 with z | z
            · rw [e, eQ, List.length_append, List.length_cons, List.length_cons] at z; omega
            · unfold tx_hd at z
              rw [ei] at z
              rw [eQ] at sQ
              obtain ⟨s', ts'⟩ := c
              cases ets : ts' with
              | nil => exact absurd ets hc
              | cons p' rest' =>
                subst ets
                exact tx_srt_hi sQ z
        have e1 : nI (i + 1) - 1 = nI P.length := by rw [nI_pred, hp]
        have c1 : (nI P.length).toNatClampNeg = P.length := nI_clamp (by omega)
        refine br_f (nI_nle (by omega) (by omega)) ?_
        rw [e1]
        refine br_f (nI_nle (by omega) (by omega)) ?_
        rw [e1, c1, q2]
        refine ⟨pk_in P.length 16 q1, tx_sb hk q3 rfl s2 g4 (fun t1 t2 et l1 l2 => ?_)⟩
        refine tx_tb h e ?_
        rw [nI_add]
        refine H P s t1 t2 Q ?_ (tx_lo_app lo l1) (tx_hi_app l2 hi)
        have et' : p :: rest = t1 ++ t2 := et
        rw [e, et']
end
end
section
/-! the list of whole terms -/
def tx_le (a6 a7 : Nat → Int32) (j : Nat) (t : List Nat) : Prop := a7 j = nI t.length ∧ tx_ar a6 (6 * j) t
def tx_ls (l : List (List Nat)) (a6 a7 : Nat → Int32) : Prop := (∀ t, t ∈ l → tx_ok t) ∧ ∀ j, j < l.length → tx_le a6 a7 j (tx_at [] l j)
theorem tx_ls_nil (a6 a7 : Nat → Int32) : tx_ls [] a6 a7 := ⟨fun _ h => (by cases h), fun j h => absurd h (Nat.not_lt_zero j)⟩
theorem tx_ls_ok {l : List (List Nat)} {a6 a7 : Nat → Int32} (h : tx_ls l a6 a7) {j : Nat} (hj : j < l.length) : tx_ok (tx_at [] l j) := h.1 _ (tx_at_mem l j hj)
/-- what isn't at place g is kept -/
theorem tx_le_k {a6 a6' a7 : Nat → Int32} {g j : Nat} {x : Int32} {t : List Nat} (h : tx_le a6 a7 j t) (ht : t.length ≤ 6) (hc : ∀ i, i < 6 * g ∨ 6 * g + 6 ≤ i → a6' i = a6 i) (hj : j ≠ g) : tx_le a6' (upd a7 g x) j t := by
  refine ⟨?_, tx_ar_cg h.2 (fun i h1 h2 => hc i ?_)⟩
  · rw [pk_un hj]; exact h.1
  · rcases Nat.lt_or_gt_of_ne hj with z | z
    · left; omega
    · right; omega
theorem tx_ls_s {l : List (List Nat)} {a6 a6' a7 : Nat → Int32} {t : List Nat} (h : tx_ls l a6 a7) (ht : tx_ok t) (hc : ∀ i, i < 6 * l.length → a6' i = a6 i) (hw : tx_ar a6' (6 * l.length) t) : tx_ls (l ++ [t]) a6' (upd a7 l.length (nI t.length)) := by
  refine ⟨fun z hz => ?_, fun j hj => ?_⟩
  · rcases List.mem_append.mp hz with e | e
    · exact h.1 z e
    · rw [List.mem_singleton.mp e]; exact ht
  · rw [List.length_append, List.length_cons, List.length_nil] at hj
    by_cases e : j = l.length
    · rw [e, tx_at_mid]
      exact ⟨pk_us, hw⟩
    · have hj' : j < l.length := by omega
      have ho := (tx_ls_ok h hj').2.1
      rw [tx_at_l l [t] j hj']
      have q := h.2 j hj'
      refine ⟨?_, tx_ar_cg q.2 (fun i h1 h2 => hc i (by omega))⟩
      rw [pk_un e]; exact q.1
section
variable {kl bl tot fb fi li : Int32} {a1 a2 a3 a4 a5 : Nat → Int32} {Bs : List tx_Bk} {k : List Nat}
/-! unpack -/
theorem tx_un78 {post : St1 → Prop} {J : Int32 → Int32 → Int32 → Int32 → (Nat → Int32) → (Nat → Int32) → (Nat → Int32) → (Nat → Int32) → (Nat → Int32) → (Nat → Int32) → (Nat → Int32) → Prop} {x1 : Int32} {o s e q g : Nat} {a6 a7 : Nat → Int32} (hs : a5 o = nI s) (he : a5 (o + 1) = nI e) (hb : o + 2 + e ≤ 768) (hse : s + e ≤ 6) (hg : g < 16)
    (H : ∀ a6', tx_cp a6 a6' (6 * g + s) e (fun i => a5 (o + 2 + i)) → J (nI (o + 2 + e)) (nI (6 * g)) (nI q + 1) (nI (g + 1)) a1 a2 a3 a4 a5 a6' (upd a7 g (nI (s + e)))) :
    ∃ n, wX_unpack_78 post J x1 (nI o) (nI q) kl bl tot fb fi (nI g) n 0 a1 a2 a3 a4 a5 a6 a7 := by
  have c0 : (nI o).toNatClampNeg = o := nI_clamp (by omega)
  have c1 : (nI o + 1).toNatClampNeg = o + 1 := pk_cl (o + 1) (nI_1 o) (by omega)
  have cg : (nI g).toNatClampNeg = g := nI_clamp (by omega)
  have e1 : a5 (nI o + 1).toNatClampNeg = nI e := by rw [c1]; exact he
  have e0 : a5 (nI o).toNatClampNeg = nI s := by rw [c0]; exact hs
  have i1 : vp_in (nI o + 1) 768 := pk_in (o + 1) 768 (by omega) (nI_1 o)
  have i0 : vp_in (nI o) 768 := pk_in o 768 (by omega)
  refine pk_loop (fun n i s' => wX_unpack_78 post J x1 (nI o) (nI q) kl bl tot fb fi (nI g) n (nI i) a1 a2 a3 a4 a5 s' a7) (fun i s' => tx_cp a6 s' (6 * g + s) i (fun i => a5 (o + 2 + i))) e 0 a6 (Nat.zero_le _) (tx_cp0 _ _ _) (fun n s' h => ?_) (fun n i s' hi h hw => ?_)
  · refine ⟨i1, pk_le e e (fun _ => ⟨i0, i1, pk_in g 16 hg, nm_r (e' := upd a7 g (nI (s + e))) ?_ (nm_r (tx_x6 g) (nm_r (nI_1 g) ⟨i1, nm_r (e' := nI (o + 2 + e)) ?_ (nm_e (H s' h))⟩))⟩) (fun z => absurd z (Nat.lt_irrefl _)) e1 rfl (by omega) (by omega)⟩
    · rw [cg, e0, e1, nI_add]
    · rw [e1, show (2 : Int32) + nI e = nI (2 + e) from nI_add 2 e, nI_add, Nat.add_assoc]
  · have d1 : nI o + 2 + nI i = nI (o + 2 + i) := tx_n2i o i
    have d2 : 6 * nI g + a5 (nI o).toNatClampNeg + nI i = nI (6 * g + s + i) := by rw [e0]; exact tx_x6ij g s i
    refine ⟨i1, pk_le e i (fun z => absurd z (by omega)) (fun _ => ⟨i0, pk_in (o + 2 + i) 768 (by omega) d1, pk_in (6 * g + s + i) 96 (by omega) d2, nm_r (e' := upd s' (6 * g + s + i) (a5 (o + 2 + i))) ?_ (nm_r (nI_1 i) (hw _ (tx_cps h rfl rfl)))⟩) e1 rfl (by omega) (by omega)⟩
    rw [pk_cl (6 * g + s + i) d2 (by omega), pk_cl (o + 2 + i) d1 (by omega)]
theorem tx_un34 {post : St1 → Prop} {J : Int32 → Int32 → Int32 → Int32 → (Nat → Int32) → (Nat → Int32) → (Nat → Int32) → (Nat → Int32) → (Nat → Int32) → (Nat → Int32) → (Nat → Int32) → Prop} {x1 : Int32} {o s q g pv : Nat} {a6 a7 : Nat → Int32} (hs : a5 o = nI s) (hb : o < 768) (hse : s ≤ 6) (hg : g < 16) (hp : s = 0 ∨ pv + s ≤ 6 * g)
    (H : ∀ a6', tx_cp a6 a6' (6 * g) s (fun i => a6 (pv + i)) → ∃ n, wX_unpack_78 post J x1 (nI o) (nI q) kl bl tot fb fi (nI g) n 0 a1 a2 a3 a4 a5 a6' a7) :
    ∃ n, wX_unpack_34 post J x1 (nI o) (nI pv) (nI q) kl bl tot fb fi (nI g) n 0 a1 a2 a3 a4 a5 a6 a7 := by
  have c0 : (nI o).toNatClampNeg = o := nI_clamp (by omega)
  have e0 : a5 (nI o).toNatClampNeg = nI s := by rw [c0]; exact hs
  have i0 : vp_in (nI o) 768 := pk_in o 768 (by omega)
  refine pk_loop (fun n i s' => wX_unpack_34 post J x1 (nI o) (nI pv) (nI q) kl bl tot fb fi (nI g) n (nI i) a1 a2 a3 a4 a5 s' a7) (fun i s' => tx_cp a6 s' (6 * g) i (fun i => a6 (pv + i))) s 0 a6 (Nat.zero_le _) (tx_cp0 _ _ _) (fun n s' h => ?_) (fun n i s' hi h hw => ?_)
  · exact ⟨i0, pk_le s s (fun _ => H s' h) (fun z => absurd z (Nat.lt_irrefl _)) e0 rfl (by omega) (by omega)⟩
  · have d1 : nI pv + nI i = nI (pv + i) := nI_add pv i
    have d2 : 6 * nI g + nI i = nI (6 * g + i) := tx_x6i g i
    refine ⟨i0, pk_le s i (fun z => absurd z (by omega)) (fun _ => ⟨pk_in (pv + i) 96 (by omega) d1, pk_in (6 * g + i) 96 (by omega) d2, nm_r (e' := upd s' (6 * g + i) (a6 (pv + i))) ?_ (nm_r (nI_1 i) (hw _ (tx_cps h rfl rfl)))⟩) e0 rfl (by omega) (by omega)⟩
    rw [pk_cl (6 * g + i) d2 (by omega), pk_cl (pv + i) d1 (by omega), h.1 (pv + i) (by omega)]
theorem tx_un15 {post : St1 → Prop} {p0 sl sz : Nat} (h0 : p0 < 16) (h2 : a2 p0 = nI sl) (hsl : sl < 16) (h4 : a4 sl = nI sz) (hz : sz ≤ 6) : ∀ (ts : List (List Nat)) (p : List Nat) (o pv q : Nat) (l : List (List Nat)) (a6 a7 : Nat → Int32), q + ts.length = sz → (∀ t, t ∈ ts → tx_ok t) → tx_ar a5 o (tx_enc p ts) → o + (tx_enc p ts).length ≤ 768 → (p = [] ∨ pv + p.length ≤ 6 * l.length) → tx_ar a6 pv p → tx_ls l a6 a7 → l.length + ts.length ≤ 16 → (∀ a6' a7', tx_ls (l ++ ts) a6' a7' → post (kl, bl, tot, fb, fi, nI (l ++ ts).length, a1, a2, a3, a4, a5, a6', a7')) → wX_unpack_15 post (nI p0) kl bl tot fb fi (ts.length + 1) (nI o) (nI pv) (nI q) (nI l.length) a1 a2 a3 a4 a5 a6 a7
  | [], p, o, pv, q, l, a6, a7, hq, ho, ha, hb, hp, hp2, hl, hl2, H => by
    have hq' : q = sz := hq
    have c0 : (nI p0).toNatClampNeg = p0 := nI_clamp (by omega)
    have cs : (nI sl).toNatClampNeg = sl := nI_clamp (by omega)
    rw [List.append_nil] at H
    refine ⟨pk_in p0 16 h0, ?_⟩
    rw [c0, h2, cs, h4]
    exact ⟨pk_in sl 16 hsl, pk_le sz q (fun _ => H a6 a7 hl) (fun z => absurd z (by omega)) rfl rfl (by omega) (by omega)⟩
  | t :: ts, p, o, pv, q, l, a6, a7, hq, ho, ha, hb, hp, hp2, hl, hl2, H => by
    have c0 : (nI p0).toNatClampNeg = p0 := nI_clamp (by omega)
    have cs : (nI sl).toNatClampNeg = sl := nI_clamp (by omega)
    have ht : tx_ok t := ho t List.mem_cons_self
    obtain ⟨e1, e2, e3⟩ := tx_en_of ha hb ht
    have lp := tx_lcp_le p t
    rw [List.length_cons] at hq hl2
    have ht6 := ht.2.1
    have eb := e1.2.2.2.2.1
    refine ⟨pk_in p0 16 h0, ?_⟩
    rw [c0, h2, cs, h4]
    refine ⟨pk_in sl 16 hsl, pk_le sz q (fun z => absurd z (by omega)) (fun _ => ?_) rfl rfl (by omega) (by omega)⟩
    refine tx_un34 e1.1 (by omega) (by omega) (by omega) ?_ (fun b6 hb6 => tx_un78 e1.1 e1.2.1 eb (by omega) (by omega) (fun c6 hc6 => ?_))
    · rcases hp with z | z
      · left; rw [z, tx_lcp_nil]
      · right; omega
    · have hw : tx_ar c6 (6 * l.length) t := by
        intro i hi
        rcases Nat.lt_or_ge i (tx_lcp p t) with z | z
        · rw [hc6.1 (6 * l.length + i) (by omega), hb6.2 i z]
          show a6 (pv + i) = _
          rw [hp2 i (by omega), tx_lcp_eq p t i z]
        · have q1 := hc6.2 (i - tx_lcp p t) (by omega)
          have q2 : c6 (6 * l.length + tx_lcp p t + (i - tx_lcp p t)) = a5 (o + 2 + (i - tx_lcp p t)) := q1
          rw [show 6 * l.length + tx_lcp p t + (i - tx_lcp p t) = 6 * l.length + i by omega] at q2
          rw [q2, show o + 2 + (i - tx_lcp p t) = o + 2 + i - tx_lcp p t by omega, tx_en_at e1 z hi]
      have hls : tx_ls (l ++ [t]) c6 (upd a7 l.length (nI t.length)) := tx_ls_s hl ht (fun i hi => by rw [hc6.1 i (by omega), hb6.1 i (by omega)]) hw
      have el : (l ++ [t]).length = l.length + 1 := by rw [List.length_append]; rfl
      have ea : l ++ t :: ts = l ++ [t] ++ ts := by rw [List.append_assoc]; rfl
      rw [ea] at H
      have ih := tx_un15 h0 h2 hsl h4 hz ts t (o + 2 + (t.length - tx_lcp p t)) (6 * l.length) (q + 1) (l ++ [t]) c6 (upd a7 l.length (nI t.length)) (by omega) (fun z hz => ho z (List.mem_cons_of_mem _ hz)) e2 e3 (Or.inr (by rw [el]; omega)) hw hls (by rw [el]; omega) H
      rw [show tx_lcp p t + (t.length - tx_lcp p t) = t.length by omega, nI_1, ← el]
      exact ih
theorem tx_un {post : St1 → Prop} {P Q : List tx_Bk} {b : tx_Bk} {l : List (List Nat)} {a6 a7 : Nat → Int32} (h : tx_ph Bs bl a2 a3 a4 a5) (e : Bs = P ++ b :: Q) (hl : tx_ls l a6 a7) (hl2 : l.length + b.2.length ≤ 16) (H : ∀ a6' a7', tx_ls (l ++ b.2) a6' a7' → post (kl, bl, tot, fb, fi, nI (l ++ b.2).length, a1, a2, a3, a4, a5, a6', a7')) : wpX_unpack post (kl, bl, tot, fb, fi, nI l.length, a1, a2, a3, a4, a5, a6, a7) (nI P.length) := by
  obtain ⟨g1, g2, g3⟩ := tx_ph_at h e
  obtain ⟨b1, b2, b3, b4, b5⟩ := g3
  have c0 : (nI P.length).toNatClampNeg = P.length := nI_clamp (by omega)
  have le := tx_enc_len b.2 [] b3
  refine ⟨pk_in P.length 16 g1, nm_r (e' := nI (48 * b.1)) (by rw [c0, g2]; exact tx_x48 b.1) ⟨b.2.length + 1, ?_⟩⟩
  exact tx_un15 g1 g2 b1 b4 b2 b.2 [] (48 * b.1) 0 0 l a6 a7 (Nat.zero_add _) b3 b5 (by omega) (Or.inl rfl) (tx_ar_nil _ _) hl hl2 H
/-! copyInList -/
theorem tx_ci {post : St1 → Prop} {f t : Nat} {w : List Nat} {a6 a7 : Nat → Int32} (hf : f < 16) (ht : t < 16) (hn : f ≠ t) (hw : tx_le a6 a7 f w) (h6 : w.length ≤ 6)
    (H : ∀ a6', (∀ i, i < 6 * t ∨ 6 * t + 6 ≤ i → a6' i = a6 i) → tx_le a6' (upd a7 t (nI w.length)) t w → post (kl, bl, tot, fb, fi, li, a1, a2, a3, a4, a5, a6', upd a7 t (nI w.length))) :
    wpX_copyInList post (kl, bl, tot, fb, fi, li, a1, a2, a3, a4, a5, a6, a7) (nI f) (nI t) := by
  have cf : (nI f).toNatClampNeg = f := nI_clamp (by omega)
  have ct : (nI t).toNatClampNeg = t := nI_clamp (by omega)
  have e0 : a7 (nI f).toNatClampNeg = nI w.length := by rw [cf]; exact hw.1
  have jf : vp_in (nI f) 16 := pk_in f 16 hf
  have jt : vp_in (nI t) 16 := pk_in t 16 ht
  refine pk_loop (fun n i s' => wX_copyInList_2 post (nI f) (nI t) kl bl tot fb fi li n (nI i) a1 a2 a3 a4 a5 s' a7) (fun i s' => tx_cp a6 s' (6 * t) i (fun i => a6 (6 * f + i))) w.length 0 a6 (Nat.zero_le _) (tx_cp0 _ _ _) (fun n s' h => ?_) (fun n i s' hi h hg => ?_)
  · refine ⟨jf, pk_le w.length w.length (fun _ => ⟨jf, jt, nm_r (e' := upd a7 t (nI w.length)) (by rw [ct, e0]) (H s' (fun i hi => h.1 i (by omega)) ⟨pk_us, fun i hi => ?_⟩)⟩) (fun z => absurd z (Nat.lt_irrefl _)) e0 rfl (by omega) (by omega)⟩
    rw [h.2 i hi]
    exact hw.2 i hi
  · have d1 : 6 * nI f + nI i = nI (6 * f + i) := tx_x6i f i
    have d2 : 6 * nI t + nI i = nI (6 * t + i) := tx_x6i t i
    refine ⟨jf, pk_le w.length i (fun z => absurd z (by omega)) (fun _ => ⟨pk_in (6 * f + i) 96 (by omega) d1, pk_in (6 * t + i) 96 (by omega) d2, nm_r (e' := upd s' (6 * t + i) (a6 (6 * f + i))) ?_ (nm_r (nI_1 i) (hg _ (tx_cps h rfl rfl)))⟩) e0 rfl (by omega) (by omega)⟩
    rw [pk_cl (6 * t + i) d2 (by omega), pk_cl (6 * f + i) d1 (by omega), h.1 (6 * f + i) (by omega)]
/-! putKeyInList -/
theorem tx_pu26 {post : St1 → Prop} {g n0 : Nat} {a6 a7 : Nat → Int32} (hk : tx_ky k kl a1) (hg : g < 16) (hn : n0 ≤ 16)
    (H : ∀ a6', (∀ i, i < 6 * g ∨ 6 * g + 6 ≤ i → a6' i = a6 i) → tx_le a6' (upd a7 g (nI k.length)) g k → post (kl, bl, tot, fb, fi, nI (n0 + 1), a1, a2, a3, a4, a5, a6', upd a7 g (nI k.length))) :
    ∃ n, wX_putKeyInList_26 post (nI g) kl bl tot fb fi (nI n0) n 0 a1 a2 a3 a4 a5 a6 a7 := by
  have cg : (nI g).toNatClampNeg = g := nI_clamp (by omega)
  have h6 := hk.1.1
  refine pk_loop (fun n i s' => wX_putKeyInList_26 post (nI g) kl bl tot fb fi (nI n0) n (nI i) a1 a2 a3 a4 a5 s' a7) (fun i s' => tx_cp a6 s' (6 * g) i (fun i => a1 i)) k.length 0 a6 (Nat.zero_le _) (tx_cp0 _ _ _) (fun n s' h => ?_) (fun n i s' hi h hw => ?_)
  · refine pk_le k.length k.length (fun _ => ⟨pk_in g 16 hg, nm_r (e' := upd a7 g (nI k.length)) (by rw [cg, hk.2.1]) (nm_r (nI_1 n0) (H s' (fun i hi => h.1 i (by omega)) ⟨pk_us, fun i hi => ?_⟩))⟩) (fun z => absurd z (Nat.lt_irrefl _)) hk.2.1 rfl (by omega) (by omega)
    rw [h.2 i hi]
    exact tx_ky_at hk hi
  · have d2 : 6 * nI g + nI i = nI (6 * g + i) := tx_x6i g i
    refine pk_le k.length i (fun z => absurd z (by omega)) (fun _ => ⟨pk_in i 6 (by omega), pk_in (6 * g + i) 96 (by omega) d2, nm_r (e' := upd s' (6 * g + i) (a1 i)) ?_ (nm_r (nI_1 i) (hw _ (tx_cps h rfl rfl)))⟩) hk.2.1 rfl (by omega) (by omega)
    rw [pk_cl (6 * g + i) d2 (by omega), nI_clamp (show i < 2 ^ 31 by omega)]
theorem tx_pu5 {post : St1 → Prop} {l1 l2 : List (List Nat)} (hk : tx_ky k kl a1) (hk0 : 0 < k.length) (ho : ∀ t, t ∈ l1 ++ l2 → tx_ok t) (hn : (l1 ++ l2).length < 16)
    (H : ∀ a6' a7', tx_ls (l1 ++ k :: l2) a6' a7' → post (kl, bl, tot, fb, fi, nI (l1 ++ k :: l2).length, a1, a2, a3, a4, a5, a6', a7')) :
    ∀ (d : Nat) (a6 a7 : Nat → Int32), l1.length + d ≤ (l1 ++ l2).length → (∀ j, j < l1.length + d → tx_le a6 a7 j (tx_at [] (l1 ++ l2) j)) → (∀ j, l1.length + d < j → j ≤ (l1 ++ l2).length → tx_le a6 a7 j (tx_at [] (l1 ++ l2) (j - 1))) → wX_putKeyInList_5 post (nI l1.length) (d + 1) (nI (l1.length + d)) kl bl tot fb fi (nI (l1 ++ l2).length) a1 a2 a3 a4 a5 a6 a7
  | 0, a6, a7, hd, h1, h2 => by
    have el : (l1 ++ l2).length = l1.length + l2.length := List.length_append
    have el' : (l1 ++ k :: l2).length = (l1 ++ l2).length + 1 := by rw [List.length_append, List.length_append, List.length_cons]; omega
    refine pk_le l1.length l1.length (fun _ => tx_pu26 hk (by omega) (by omega) (fun b6 hc hw => ?_)) (fun z => absurd z (Nat.lt_irrefl _)) rfl rfl (by omega) (by omega)
    rw [← el']
    have hkk : tx_ok k := ⟨hk0, hk.1.1, hk.1.2⟩
    refine H b6 _ ⟨fun t ht => ?_, fun j hj => ?_⟩
    · rcases List.mem_append.mp ht with e | e
      · exact ho t (List.mem_append_left _ e)
      · rcases List.mem_cons.mp e with e | e
        · rw [e]; exact hkk
        · exact ho t (List.mem_append_right _ e)
    · rw [el'] at hj
      rcases Nat.lt_trichotomy j l1.length with z | z | z
      · have q := h1 j (by omega)
        have o := (ho _ (tx_at_mem (d := []) (l1 ++ l2) j (by omega))).2.1
        rw [tx_at_l l1 l2 j z] at q o
        rw [tx_at_l l1 (k :: l2) j z]
        exact tx_le_k q o hc (by omega)
      · rw [z, tx_at_mid]
        exact hw
      · have q := h2 j (by omega) (by omega)
        have o := (ho _ (tx_at_mem (d := []) (l1 ++ l2) (j - 1) (by omega))).2.1
        have ea : tx_at [] (l1 ++ k :: l2) j = tx_at [] (l1 ++ l2) (j - 1) := by
          have r1 := tx_at_r (d := []) l1 (k :: l2) (j - l1.length - 1 + 1)
          have r2 := tx_at_r (d := []) l1 l2 (j - l1.length - 1)
          rw [show l1.length + (j - l1.length - 1 + 1) = j by omega] at r1
          rw [show l1.length + (j - l1.length - 1) = j - 1 by omega] at r2
          rw [r1, r2]
          rfl
        rw [ea]
        exact tx_le_k q o hc (by omega)
  | d + 1, a6, a7, hd, h1, h2 => by
    have q := h1 (l1.length + d) (by omega)
    have o := (ho _ (tx_at_mem (d := []) (l1 ++ l2) (l1.length + d) (by omega))).2.1
    refine pk_le (l1.length + (d + 1)) l1.length (fun z => absurd z (by omega)) (fun _ => ?_) rfl rfl (by omega) (by omega)
    rw [show l1.length + (d + 1) = l1.length + d + 1 by omega, nI_pred]
    refine tx_ci (by omega) (by omega) (by omega) q o (fun b6 hc hw => nm_r (pk_m1 _) ?_)
    refine tx_pu5 hk hk0 ho hn H d b6 _ (by omega) (fun j hj => ?_) (fun j hj hj2 => ?_)
    · exact tx_le_k (h1 j (by omega)) (ho _ (tx_at_mem (d := []) (l1 ++ l2) j (by omega))).2.1 hc (by omega)
    · by_cases e : j = l1.length + d + 1
      · rw [e, Nat.add_sub_cancel]
        exact hw
      · exact tx_le_k (h2 j (by omega) hj2) (ho _ (tx_at_mem (d := []) (l1 ++ l2) (j - 1) (by omega))).2.1 hc e
theorem tx_pu {post : St1 → Prop} {l1 l2 : List (List Nat)} {a6 a7 : Nat → Int32} (hk : tx_ky k kl a1) (hk0 : 0 < k.length) (hl : tx_ls (l1 ++ l2) a6 a7) (hn : (l1 ++ l2).length < 16)
    (H : ∀ a6' a7', tx_ls (l1 ++ k :: l2) a6' a7' → post (kl, bl, tot, fb, fi, nI (l1 ++ k :: l2).length, a1, a2, a3, a4, a5, a6', a7')) :
    wpX_putKeyInList post (kl, bl, tot, fb, fi, nI (l1 ++ l2).length, a1, a2, a3, a4, a5, a6, a7) (nI l1.length) := by
  have el : (l1 ++ l2).length = l1.length + l2.length := List.length_append
  refine ⟨l2.length + 1, ?_⟩
  have go := tx_pu5 (bl := bl) (tot := tot) (fb := fb) (fi := fi) (a2 := a2) (a3 := a3) (a4 := a4) (a5 := a5) hk hk0 hl.1 hn H l2.length a6 a7 (by omega) (fun j hj => hl.2 j (by omega)) (fun j hj hj2 => absurd hj2 (by omega))
  rw [← el] at go
  exact go
/-! takeFromList -/
theorem tx_ta {post : St1 → Prop} {l1 l2 : List (List Nat)} {t : List Nat} {a6 a7 : Nat → Int32} (hl : tx_ls (l1 ++ t :: l2) a6 a7) (hn : (l1 ++ t :: l2).length ≤ 16)
    (H : ∀ a6' a7', tx_ls (l1 ++ l2) a6' a7' → post (kl, bl, tot, fb, fi, nI (l1 ++ l2).length, a1, a2, a3, a4, a5, a6', a7')) :
    wpX_takeFromList post (kl, bl, tot, fb, fi, nI (l1 ++ t :: l2).length, a1, a2, a3, a4, a5, a6, a7) (nI l1.length) := by
  have el : (l1 ++ l2).length = l1.length + l2.length := List.length_append
  have el' : (l1 ++ t :: l2).length = (l1 ++ l2).length + 1 := by rw [List.length_append, List.length_append, List.length_cons]; omega
  have ho := hl.1
  have ho' : ∀ z, z ∈ l1 ++ l2 → tx_ok z := fun z hz => ho z (by
    rcases List.mem_append.mp hz with e | e
    · exact List.mem_append_left _ e
    · exact List.mem_append_right _ (List.mem_cons_of_mem _ e))
  have ea : ∀ j, l1.length ≤ j → tx_at [] (l1 ++ l2) j = tx_at [] (l1 ++ t :: l2) (j + 1) := by
    intro j hj
    have r1 := tx_at_r (d := []) l1 (t :: l2) (j - l1.length + 1)
    have r2 := tx_at_r (d := []) l1 l2 (j - l1.length)
    rw [show l1.length + (j - l1.length + 1) = j + 1 by omega] at r1
    rw [show l1.length + (j - l1.length) = j by omega] at r2
    rw [r1, r2]
    rfl
  rw [el'] at hn
  refine pk_loop (fun n i (s : (Nat → Int32) × (Nat → Int32)) => wX_takeFromList_2 post n (nI i) kl bl tot fb fi (nI (l1 ++ t :: l2).length) a1 a2 a3 a4 a5 s.1 s.2) (fun i s => l1.length ≤ i ∧ (∀ j, j < i → tx_le s.1 s.2 j (tx_at [] (l1 ++ l2) j)) ∧ (∀ j, i < j → j < (l1 ++ t :: l2).length → tx_le s.1 s.2 j (tx_at [] (l1 ++ t :: l2) j))) (l1 ++ l2).length l1.length (a6, a7) (by omega) ⟨Nat.le_refl _, fun j hj => ?_, fun j _ hj => hl.2 j hj⟩ (fun n s h => ?_) (fun n i s hi h hw => ?_)
  · have q := hl.2 j (by omega)
    rw [tx_at_l l1 (t :: l2) j hj] at q
    rw [tx_at_l l1 l2 j hj]
    exact q
  · refine pk_le (l1 ++ t :: l2).length ((l1 ++ l2).length + 1) (fun _ => nm_r (e' := nI (l1 ++ l2).length) ?_ (H s.1 s.2 ⟨ho', h.2.1⟩)) (fun z => absurd z (by omega)) rfl (nI_1 _) (by omega) (by omega)
    rw [el', nI_pred]
  · have q := h.2.2 (i + 1) (by omega) (by omega)
    have o := (ho _ (tx_at_mem (d := []) (l1 ++ t :: l2) (i + 1) (by omega))).2.1
    refine pk_le (l1 ++ t :: l2).length (i + 1) (fun z => absurd z (by omega)) (fun _ => ?_) rfl (nI_1 _) (by omega) (by omega)
    rw [nI_1]
    refine tx_ci (by omega) (by omega) (by omega) q o (fun b6 hc hx => nm_e (hw (b6, _) ⟨by have := h.1; omega, fun j hj => ?_, fun j hj hj2 => ?_⟩))
    · by_cases e : j = i
      · rw [e, ea i h.1]
        exact hx
      · exact tx_le_k (h.2.1 j (by omega)) (ho' _ (tx_at_mem (d := []) (l1 ++ l2) j (by omega))).2.1 hc e
    · exact tx_le_k (h.2.2 j (by omega) hj2) (ho _ (tx_at_mem (d := []) (l1 ++ t :: l2) j (by omega))).2.1 hc (by omega)
/-! sharedInList, sharedWithKey -/
theorem tx_si2 {post : Int32 → Prop} {f g : Nat} {p t : List Nat} {a6 a7 : Nat → Int32} (hf : f < 16) (hg : g < 16) (h1 : tx_le a6 a7 f p) (h2 : tx_le a6 a7 g t) (o1 : tx_ok p) (o2 : tx_ok t) (H : post (nI (tx_lcp p t))) : ∀ (d m : Nat), m + d = tx_lcp p t → wX_sharedInList_2 post (nI f) (nI g) kl bl tot fb fi li a1 a2 a3 a4 a5 a6 a7 (d + 1) (nI m)
  | 0, m, hm => by
    have l := tx_lcp_le p t
    have q1 := o1.2.1
    have q2 := o2.2.1
    have e : m = tx_lcp p t := by omega
    rw [← e] at H
    have cf : (nI f).toNatClampNeg = f := nI_clamp (by omega)
    have cg : (nI g).toNatClampNeg = g := nI_clamp (by omega)
    have d1 : 6 * nI f + nI m = nI (6 * f + m) := tx_x6i f m
    have d2 : 6 * nI g + nI m = nI (6 * g + m) := tx_x6i g m
    refine ⟨pk_in f 16 hf, pk_le p.length m (fun _ => H) (fun z1 => ⟨pk_in g 16 hg, pk_le t.length m (fun _ => H) (fun z2 => ⟨pk_in (6 * f + m) 96 (by omega) d1, pk_in (6 * g + m) 96 (by omega) d2, ?_⟩) (by rw [cg]; exact h2.1) rfl (by omega) (by omega)⟩) (by rw [cf]; exact h1.1) rfl (by omega) (by omega)⟩
    rw [pk_cl (6 * f + m) d1 (by omega), pk_cl (6 * g + m) d2 (by omega), h1.2 m z1, h2.2 m z2]
    have ne : tx_at 0 p m ≠ tx_at 0 t m := by
      have q := tx_lcp_ne p t (by omega) (by omega)
      rw [← e] at q
      exact q
    have g1 := tx_dg_at o1.2.2 z1
    have g2 := tx_dg_at o2.2.2 z2
    exact pk_eq _ _ (fun z => absurd z ne) (fun _ => H) rfl rfl (by omega) (by omega)
  | d + 1, m, hm => by
    have l := tx_lcp_le p t
    have q1 := o1.2.1
    have q2 := o2.2.1
    have z1 : m < p.length := by omega
    have z2 : m < t.length := by omega
    have cf : (nI f).toNatClampNeg = f := nI_clamp (by omega)
    have cg : (nI g).toNatClampNeg = g := nI_clamp (by omega)
    have d1 : 6 * nI f + nI m = nI (6 * f + m) := tx_x6i f m
    have d2 : 6 * nI g + nI m = nI (6 * g + m) := tx_x6i g m
    have ih := tx_si2 hf hg h1 h2 o1 o2 H d (m + 1) (by omega)
    refine ⟨pk_in f 16 hf, pk_le p.length m (fun z => absurd z (by omega)) (fun _ => ⟨pk_in g 16 hg, pk_le t.length m (fun z => absurd z (by omega)) (fun _ => ⟨pk_in (6 * f + m) 96 (by omega) d1, pk_in (6 * g + m) 96 (by omega) d2, br_t ?_ (nm_r (nI_1 m) ih)⟩) (by rw [cg]; exact h2.1) rfl (by omega) (by omega)⟩) (by rw [cf]; exact h1.1) rfl (by omega) (by omega)⟩
    rw [pk_cl (6 * f + m) d1 (by omega), pk_cl (6 * g + m) d2 (by omega), h1.2 m z1, h2.2 m z2, tx_lcp_eq p t m (by omega)]
theorem tx_si {post : Int32 → Prop} {f g : Nat} {p t : List Nat} {a6 a7 : Nat → Int32} (hf : f < 16) (hg : g < 16) (h1 : tx_le a6 a7 f p) (h2 : tx_le a6 a7 g t) (o1 : tx_ok p) (o2 : tx_ok t) (H : post (nI (tx_lcp p t))) : wpX_sharedInList post (kl, bl, tot, fb, fi, li, a1, a2, a3, a4, a5, a6, a7) (nI f) (nI g) :=
  ⟨_, tx_si2 hf hg h1 h2 o1 o2 H (tx_lcp p t) 0 (Nat.zero_add _)⟩
theorem tx_sw2 {post : Int32 → Prop} {g : Nat} {t : List Nat} {a6 a7 : Nat → Int32} (hk : tx_ky k kl a1) (hg : g < 16) (h2 : tx_le a6 a7 g t) (o2 : tx_ok t) (H : post (nI (tx_lcp k t))) : ∀ (d m : Nat), m + d = tx_lcp k t → wX_sharedWithKey_2 post (nI g) kl bl tot fb fi li a1 a2 a3 a4 a5 a6 a7 (d + 1) (nI m)
  | 0, m, hm => by
    have l := tx_lcp_le k t
    have q1 := hk.1.1
    have q2 := o2.2.1
    have e : m = tx_lcp k t := by omega
    rw [← e] at H
    have cg : (nI g).toNatClampNeg = g := nI_clamp (by omega)
    have cm : (nI m).toNatClampNeg = m := nI_clamp (by omega)
    have d2 : 6 * nI g + nI m = nI (6 * g + m) := tx_x6i g m
    refine pk_le k.length m (fun _ => H) (fun z1 => ⟨pk_in g 16 hg, pk_le t.length m (fun _ => H) (fun z2 => ⟨pk_in (6 * g + m) 96 (by omega) d2, pk_in m 6 (by omega), ?_⟩) (by rw [cg]; exact h2.1) rfl (by omega) (by omega)⟩) hk.2.1 rfl (by omega) (by omega)
    rw [pk_cl (6 * g + m) d2 (by omega), cm, h2.2 m z2, tx_ky_at hk z1]
    have ne : tx_at 0 t m ≠ tx_at 0 k m := by
      have q := tx_lcp_ne k t (by omega) (by omega)
      rw [← e] at q
      exact q.symm
    have g1 := tx_dg_at hk.1.2 z1
    have g2 := tx_dg_at o2.2.2 z2
    exact pk_eq _ _ (fun z => absurd z ne) (fun _ => H) rfl rfl (by omega) (by omega)
  | d + 1, m, hm => by
    have l := tx_lcp_le k t
    have q1 := hk.1.1
    have q2 := o2.2.1
    have z1 : m < k.length := by omega
    have z2 : m < t.length := by omega
    have cg : (nI g).toNatClampNeg = g := nI_clamp (by omega)
    have cm : (nI m).toNatClampNeg = m := nI_clamp (by omega)
    have d2 : 6 * nI g + nI m = nI (6 * g + m) := tx_x6i g m
    have ih := tx_sw2 hk hg h2 o2 H d (m + 1) (by omega)
    refine pk_le k.length m (fun z => absurd z (by omega)) (fun _ => ⟨pk_in g 16 hg, pk_le t.length m (fun z => absurd z (by omega)) (fun _ => ⟨pk_in (6 * g + m) 96 (by omega) d2, pk_in m 6 (by omega), br_t ?_ (nm_r (nI_1 m) ih)⟩) (by rw [cg]; exact h2.1) rfl (by omega) (by omega)⟩) hk.2.1 rfl (by omega) (by omega)
    rw [pk_cl (6 * g + m) d2 (by omega), cm, h2.2 m z2, tx_ky_at hk z1, tx_lcp_eq k t m (by omega)]
theorem tx_sw {post : Int32 → Prop} {g : Nat} {t : List Nat} {a6 a7 : Nat → Int32} (hk : tx_ky k kl a1) (hg : g < 16) (h2 : tx_le a6 a7 g t) (o2 : tx_ok t) (H : post (nI (tx_lcp k t))) : wpX_sharedWithKey post (kl, bl, tot, fb, fi, li, a1, a2, a3, a4, a5, a6, a7) (nI g) :=
  ⟨_, tx_sw2 hk hg h2 o2 H (tx_lcp k t) 0 (Nat.zero_add _)⟩
end
end
section
section
variable {kl bl tot fb fi li : Int32} {a1 a2 a3 : Nat → Int32} {Bs : List tx_Bk} {k : List Nat}
/-! pack -/
theorem tx_pa78 {post : St1 → Prop} {J : Int32 → Int32 → (Nat → Int32) → (Nat → Int32) → (Nat → Int32) → (Nat → Int32) → (Nat → Int32) → (Nat → Int32) → (Nat → Int32) → Prop} {x2 x3 x4 : Int32} {o g s : Nat} {t : List Nat} {a4 a5 a6 a7 : Nat → Int32} (hg : g < 16) (hw : tx_le a6 a7 g t) (ht : tx_ok t) (hs : s ≤ t.length) (hb : o + 2 + (t.length - s) ≤ 768)
    (H : ∀ a5', tx_cp a5 a5' (o + 2) (t.length - s) (fun i => nI (tx_at 0 t (s + i))) → J (nI (o + 2 + (t.length - s))) (nI (g + 1)) a1 a2 a3 a4 a5' a6 a7) :
    ∃ n, wX_pack_78 post J x2 x3 x4 (nI o) (nI g) (nI s) kl bl tot fb fi li n (nI s) a1 a2 a3 a4 a5 a6 a7 := by
  have h6 := ht.2.1
  have cg : (nI g).toNatClampNeg = g := nI_clamp (by omega)
  have e0 : a7 (nI g).toNatClampNeg = nI t.length := by rw [cg]; exact hw.1
  have jg : vp_in (nI g) 16 := pk_in g 16 hg
  refine pk_loop (fun n d s' => wX_pack_78 post J x2 x3 x4 (nI o) (nI g) (nI s) kl bl tot fb fi li n (nI (s + d)) a1 a2 a3 a4 s' a6 a7) (fun d s' => tx_cp a5 s' (o + 2) d (fun i => nI (tx_at 0 t (s + i)))) (t.length - s) 0 a5 (Nat.zero_le _) (tx_cp0 _ _ _) (fun n s' h => ?_) (fun n d s' hd h hg => ?_)
  · refine ⟨jg, pk_le t.length (s + (t.length - s)) (fun _ => ⟨jg, nm_r (e' := nI (o + 2 + (t.length - s))) ?_ (nm_r (nI_1 g) (H s' h))⟩) (fun z => absurd z (by omega)) e0 rfl (by omega) (by omega)⟩
    rw [e0, show (2 : Int32) + nI t.length = nI (2 + t.length) from nI_add 2 _, pk_sub (by omega), nI_add, show o + (2 + t.length - s) = o + 2 + (t.length - s) by omega]
  · have d1 : 6 * nI g + nI (s + d) = nI (6 * g + (s + d)) := tx_x6i g (s + d)
    have d2 : nI o + 2 + nI (s + d) - nI s = nI (o + 2 + d) := by rw [tx_n2s (by omega), show o + 2 + (s + d) - s = o + 2 + d by omega]
    refine ⟨jg, pk_le t.length (s + d) (fun z => absurd z (by omega)) (fun _ => ⟨pk_in (6 * g + (s + d)) 96 (by omega) d1, pk_in (o + 2 + d) 768 (by omega) d2, nm_r (e' := upd s' (o + 2 + d) (nI (tx_at 0 t (s + d)))) ?_ (nm_r (nI_1 (s + d)) (hg _ (tx_cps h rfl rfl)))⟩) e0 rfl (by omega) (by omega)⟩
    rw [pk_cl (6 * g + (s + d)) d1 (by omega), pk_cl (o + 2 + d) d2 (by omega), hw.2 (s + d) (by omega)]
theorem tx_pa44 {post : St1 → Prop} {J : Int32 → Int32 → (Nat → Int32) → (Nat → Int32) → (Nat → Int32) → (Nat → Int32) → (Nat → Int32) → (Nat → Int32) → (Nat → Int32) → Prop} {x2 x3 x4 : Int32} {o g s : Nat} {t : List Nat} {a4 a5 a6 a7 : Nat → Int32} (hg : g < 16) (hw : tx_le a6 a7 g t) (ht : tx_ok t) (hs : s ≤ t.length) (hb : o + 2 + (t.length - s) ≤ 768)
    (H : ∀ a5', (∀ j, j < o ∨ o + 2 + (t.length - s) ≤ j → a5' j = a5 j) → tx_ar a5' o (s :: (t.length - s) :: t.drop s) → J (nI (o + 2 + (t.length - s))) (nI (g + 1)) a1 a2 a3 a4 a5' a6 a7) :
    wX_pack_44 post J x2 x3 x4 (nI o) (nI g) (nI s) kl bl tot fb fi li a1 a2 a3 a4 a5 a6 a7 := by
  have h6 := ht.2.1
  have cg : (nI g).toNatClampNeg = g := nI_clamp (by omega)
  have c0 : (nI o).toNatClampNeg = o := nI_clamp (by omega)
  have c1 : (nI o + 1).toNatClampNeg = o + 1 := pk_cl (o + 1) (nI_1 o) (by omega)
  refine ⟨pk_in o 768 (by omega), nm_r (e' := upd a5 o (nI s)) (by rw [c0]) ⟨pk_in g 16 hg, pk_in (o + 1) 768 (by omega) (nI_1 o), nm_r (e' := upd (upd a5 o (nI s)) (o + 1) (nI (t.length - s))) (by rw [c1, cg, hw.1, pk_sub hs]) (tx_pa78 hg hw ht hs hb (fun b5 hc => H b5 (fun j hj => ?_) (tx_ar_mk ?_ (tx_ar_mk ?_ (fun i hi => ?_)))))⟩⟩
  · rw [hc.1 j (by omega), pk_un (by omega), pk_un (by omega)]
  · rw [hc.1 o (by omega), pk_un (by omega), pk_us]
  · rw [hc.1 (o + 1) (by omega), pk_us]
  · rw [List.length_drop] at hi
    rw [show o + 1 + 1 + i = o + 2 + i by omega, hc.2 i hi, tx_at_drop]
theorem tx_pa18 {post : St1 → Prop} {fr en sl base : Nat} {a4 a6 a7 : Nat → Int32} (hen : en ≤ 16) (hsl : sl < 16) (hbase : base + 48 ≤ 768) : ∀ (ts : List (List Nat)) (p : List Nat) (o q : Nat) (E : List Nat) (a5 : Nat → Int32), q + ts.length = en → ((q = fr ∧ p = []) ∨ (fr < q ∧ tx_le a6 a7 (q - 1) p ∧ tx_ok p)) → (∀ j, j < ts.length → tx_le a6 a7 (q + j) (tx_at [] ts j)) → (∀ t, t ∈ ts → tx_ok t) → o = base + E.length → E.length + 8 * ts.length ≤ 48 → tx_ar a5 base E → (∀ a5', tx_ar a5' base (E ++ tx_enc p ts) → (∀ j, j < base ∨ base + 48 ≤ j → a5' j = a5 j) → post (kl, bl, tot, fb, fi, li, a1, a2, a3, upd a4 sl (nI (en - fr)), a5', a6, a7)) → wX_pack_18 post (nI fr) (nI en) (nI sl) kl bl tot fb fi li (ts.length + 1) (nI o) (nI q) a1 a2 a3 a4 a5 a6 a7
  | [], p, o, q, E, a5, hq, hp, hts, hok, ho, hE, har, H => by
    have hq' : q = en := hq
    have cs : (nI sl).toNatClampNeg = sl := nI_clamp (by omega)
    have hf : fr ≤ q := by omega
    refine pk_le en q (fun _ => ⟨pk_in sl 16 hsl, nm_r (e' := upd a4 sl (nI (en - fr))) (by rw [cs, pk_sub (by omega)]) (H a5 ?_ (fun _ _ => rfl))⟩) (fun z => absurd z (by omega)) rfl rfl (by omega) (by omega)
    show tx_ar a5 base (E ++ [])
    rw [List.append_nil]
    exact har
  | t :: ts, p, o, q, E, a5, hq, hp, hts, hok, ho, hE, har, H => by
    have ht : tx_ok t := hok t List.mem_cons_self
    have h6 := ht.2.1
    rw [List.length_cons] at hq hE
    have hw : tx_le a6 a7 q t := hts 0 (by rw [List.length_cons]; omega)
    have lp := tx_lcp_le p t
    have el : ∀ x : Nat, (E ++ (x :: (t.length - x) :: t.drop x)).length = E.length + 2 + (t.length - x) := by
      intro x
      rw [List.length_append, List.length_cons, List.length_cons, List.length_drop]
      omega
    have step : wX_pack_44 post (wX_pack_18 post (nI fr) (nI en) (nI sl) kl bl tot fb fi li (ts.length + 1)) (nI fr) (nI en) (nI sl) (nI o) (nI q) (nI (tx_lcp p t)) kl bl tot fb fi li a1 a2 a3 a4 a5 a6 a7 := by
      refine tx_pa44 (by omega) hw ht lp.2 (by omega) (fun b5 hc hx => ?_)
      refine tx_pa18 hen hsl hbase ts t _ (q + 1) (E ++ (tx_lcp p t :: (t.length - tx_lcp p t) :: t.drop (tx_lcp p t))) b5 (by omega) (Or.inr ⟨by omega, by rw [Nat.add_sub_cancel]; exact hw, ht⟩) (fun j hj => ?_) (fun z hz => hok z (List.mem_cons_of_mem _ hz)) (by rw [el]; omega) (by rw [el]; omega) ?_ (fun c5 hc5 hf5 => H c5 ?_ (fun j hj => ?_))
      · have r := hts (j + 1) (by rw [List.length_cons]; omega)
        rw [show q + 1 + j = q + (j + 1) by omega]
        exact r
      · refine tx_ar_app (tx_ar_cg har (fun i h1 h2 => hc i (by omega))) ?_
        rw [← ho]
        exact hx
      · rw [List.append_assoc] at hc5
        exact hc5
      · rw [hf5 j hj, hc j (by omega)]
    refine pk_le en q (fun z => absurd z (by omega)) (fun _ => ?_) rfl rfl (by omega) (by omega)
    rcases hp with ⟨z1, z2⟩ | ⟨z1, z2, z3⟩
    · rw [z2, tx_lcp_nil] at step
      exact br_t (by rw [z1]) step
    · refine br_f (fun y => ?_) ?_
      · have := (nI_eq (by omega) (by omega)).mp y
        omega
      · have e1 : nI q - 1 = nI (q - 1) := pk_sub (b := 1) (by omega)
        rw [e1]
        exact tx_si (by omega) (by omega) z2 hw z3 ht step
theorem tx_blk_k {a4 a5 a5' : Nat → Int32} {c : tx_Bk} {s : Nat} {x : Int32} (h : tx_blk a4 a5 c) (hn : c.1 ≠ s) (hc : ∀ j, j < 48 * s ∨ 48 * s + 48 ≤ j → a5' j = a5 j) : tx_blk (upd a4 s x) a5' c := by
  obtain ⟨h1, h2, h3, h4, h5⟩ := h
  have l := tx_enc_len c.2 [] h3
  refine ⟨h1, h2, h3, by rw [pk_un hn]; exact h4, tx_ar_cg h5 (fun i g1 g2 => hc i ?_)⟩
  rcases Nat.lt_or_gt_of_ne hn with z | z
  · left; omega
  · right; omega
theorem tx_nd {P Q : List tx_Bk} {b : tx_Bk} (h : (tx_sl (P ++ b :: Q)).Nodup) : b.1 ∉ tx_sl (P ++ Q) ∧ (tx_sl (P ++ Q)).Nodup := by
  rw [tx_sl_app] at h
  have h' : (tx_sl P ++ b.1 :: tx_sl Q).Pairwise (fun x y => x ≠ y) := h
  rw [List.pairwise_middle (fun z => Ne.symm z)] at h'
  rw [tx_sl_app]
  exact List.nodup_cons.mp h'
theorem tx_nd' {P Q : List tx_Bk} {b : tx_Bk} (h : b.1 ∉ tx_sl (P ++ Q)) (h2 : (tx_sl (P ++ Q)).Nodup) : (tx_sl (P ++ b :: Q)).Nodup := by
  rw [tx_sl_app] at h h2
  rw [tx_sl_app]
  have t : (tx_sl P ++ b.1 :: tx_sl Q).Pairwise (fun x y => x ≠ y) := by
    rw [List.pairwise_middle (fun z => Ne.symm z)]
    exact List.nodup_cons.mpr ⟨h, h2⟩
  exact t
theorem tx_sl_mem {P : List tx_Bk} {c : tx_Bk} (h : c ∈ P) : c.1 ∈ tx_sl P := List.mem_map_of_mem h
theorem tx_mem_mid {α : Type} {P Q : List α} {b c : α} : c ∈ P ++ b :: Q ↔ c = b ∨ c ∈ P ++ Q := by
  constructor
  · intro h
    rcases List.mem_append.mp h with e | e
    · exact Or.inr (List.mem_append_left _ e)
    · rcases List.mem_cons.mp e with e | e
      · exact Or.inl e
      · exact Or.inr (List.mem_append_right _ e)
  · intro h
    rcases h with e | e
    · rw [e]; exact List.mem_append_right _ List.mem_cons_self
    · rcases List.mem_append.mp e with e | e
      · exact List.mem_append_left _ e
      · exact List.mem_append_right _ (List.mem_cons_of_mem _ e)
theorem tx_pa {post : St1 → Prop} {P Q : List tx_Bk} {b : tx_Bk} {l1 ts l2 : List (List Nat)} {a4 a5 a6 a7 : Nat → Int32} {x y z : Int32} (h : tx_ph Bs bl a2 a3 a4 a5) (e : Bs = P ++ b :: Q) (hl : tx_ls (l1 ++ (ts ++ l2)) a6 a7) (hn : (l1 ++ (ts ++ l2)).length ≤ 16) (ht : ts.length ≤ 6) (hx : x = nI P.length) (hy : y = nI l1.length) (hz : z = nI (l1.length + ts.length))
    (H : ∀ a4' a5', tx_ph (P ++ (b.1, ts) :: Q) bl a2 a3 a4' a5' → post (kl, bl, tot, fb, fi, li, a1, a2, a3, a4', a5', a6, a7)) :
    wpX_pack post (kl, bl, tot, fb, fi, li, a1, a2, a3, a4, a5, a6, a7) x y z := by
  subst hx hy hz
  obtain ⟨g1, g2, g3⟩ := tx_ph_at h e
  obtain ⟨b1, b2, b3, b4, b5⟩ := g3
  have c0 : (nI P.length).toNatClampNeg = P.length := nI_clamp (by omega)
  have ll : (l1 ++ (ts ++ l2)).length = l1.length + (ts.length + l2.length) := by rw [List.length_append, List.length_append]
  have ho : ∀ t, t ∈ ts → tx_ok t := fun t z => hl.1 t (List.mem_append_right _ (List.mem_append_left _ z))
  refine ⟨pk_in P.length 16 g1, nm_r (e' := nI b.1) (by rw [c0, g2]) (nm_r (tx_x48 b.1) ⟨ts.length + 1, ?_⟩)⟩
  refine tx_pa18 (base := 48 * b.1) (by omega) b1 (by omega) ts [] (48 * b.1) l1.length [] a5 rfl (Or.inl ⟨rfl, rfl⟩) (fun j hj => ?_) ho (by rw [List.length_nil]; rfl) (by rw [List.length_nil]; omega) (tx_ar_nil _ _) (fun c5 h5 hf => H _ c5 ?_)
  · have q := hl.2 (l1.length + j) (by omega)
    rw [tx_at_r, tx_at_l ts l2 j hj] at q
    exact q
  · obtain ⟨p1, p2, p3, p4, p5, p6⟩ := h
    subst e
    have es : tx_sl (P ++ (b.1, ts) :: Q) = tx_sl (P ++ b :: Q) := by rw [tx_sl_app, tx_sl_app]; rfl
    have en : (P ++ (b.1, ts) :: Q).length = (P ++ b :: Q).length := by rw [List.length_append, List.length_append]; rfl
    refine ⟨by rw [en]; exact p1, by rw [en]; exact p2, by rw [es]; exact p3, by rw [es]; exact p4, by rw [es]; exact p5, fun c hc => ?_⟩
    rcases tx_mem_mid.mp hc with z | z
    · rw [z]
      refine ⟨b1, ht, ho, ?_, h5⟩
      show upd a4 b.1 (nI (l1.length + ts.length - l1.length)) b.1 = nI ts.length
      rw [pk_us, Nat.add_sub_cancel_left]
    · refine tx_blk_k (p6 c (tx_mem_mid.mpr (Or.inr z))) (fun y => ?_) hf
      have nd := (tx_nd p3).1
      rw [← y] at nd
      exact nd (tx_sl_mem z)
/-! openBlock -/
theorem tx_free : ∀ (n : Nat) (l : List Nat), l.length < n → ∃ s, s < n ∧ s ∉ l
  | 0, l, h => absurd h (Nat.not_lt_zero _)
  | n + 1, l, h => by
    by_cases e : n ∈ l
    · obtain ⟨s, h1, h2⟩ := tx_free n (l.erase n) (by
        rw [List.length_erase_of_mem e]
        have : 0 < l.length := List.length_pos_of_mem e
        omega)
      exact ⟨s, by omega, fun z => h2 ((List.mem_erase_of_ne (by omega)).mpr z)⟩
    · exact ⟨n, by omega, e⟩
theorem tx_op45 {post : St1 → Prop} {S1 S2 : List Nat} {s : Nat} {a3 a4 a5 a6 a7 : Nat → Int32} (hn : (S1 ++ S2).length < 16) (H : ∀ a2', tx_ar a2' 0 (S1 ++ s :: S2) → post (kl, nI ((S1 ++ S2).length + 1), tot, fb, fi, li, a1, a2', a3, a4, a5, a6, a7)) :
    ∀ (d : Nat) (a2 : Nat → Int32), S1.length + d ≤ (S1 ++ S2).length → (∀ j, j < S1.length + d → a2 j = nI (tx_at 0 (S1 ++ S2) j)) → (∀ j, S1.length + d < j → j ≤ (S1 ++ S2).length → a2 j = nI (tx_at 0 (S1 ++ S2) (j - 1))) → wX_openBlock_45 post (nI S1.length) (nI s) kl (nI (S1 ++ S2).length) tot fb fi li (d + 1) (nI (S1.length + d)) a1 a2 a3 a4 a5 a6 a7
  | 0, a2, hd, h1, h2 => by
    have el : (S1 ++ S2).length = S1.length + S2.length := List.length_append
    have el' : (S1 ++ s :: S2).length = (S1 ++ S2).length + 1 := by rw [List.length_append, List.length_append, List.length_cons]; omega
    have c0 : (nI S1.length).toNatClampNeg = S1.length := nI_clamp (by omega)
    refine pk_le S1.length S1.length (fun _ => ⟨pk_in S1.length 16 (by omega), nm_r (e' := upd a2 S1.length (nI s)) (by rw [c0]) (nm_r (nI_1 _) (H _ (fun j hj => ?_)))⟩) (fun z => absurd z (Nat.lt_irrefl _)) rfl rfl (by omega) (by omega)
    rw [Nat.zero_add]
    rw [el'] at hj
    rcases Nat.lt_trichotomy j S1.length with z | z | z
    · rw [pk_un (by omega), h1 j (by omega), tx_at_l S1 S2 j z, tx_at_l S1 (s :: S2) j z]
    · rw [z, pk_us, tx_at_mid]
    · rw [pk_un (by omega), h2 j (by omega) (by omega)]
      have r1 := tx_at_r (d := 0) S1 (s :: S2) (j - S1.length - 1 + 1)
      have r2 := tx_at_r (d := 0) S1 S2 (j - S1.length - 1)
      rw [show S1.length + (j - S1.length - 1 + 1) = j by omega] at r1
      rw [show S1.length + (j - S1.length - 1) = j - 1 by omega] at r2
      rw [r1, r2]
      rfl
  | d + 1, a2, hd, h1, h2 => by
    refine pk_le (S1.length + (d + 1)) S1.length (fun z => absurd z (by omega)) (fun _ => ?_) rfl rfl (by omega) (by omega)
    rw [show S1.length + (d + 1) = S1.length + d + 1 by omega, nI_pred]
    have c0 : (nI (S1.length + d)).toNatClampNeg = S1.length + d := nI_clamp (by omega)
    have c1 : (nI (S1.length + d + 1)).toNatClampNeg = S1.length + d + 1 := nI_clamp (by omega)
    rw [c0, c1]
    refine ⟨pk_in (S1.length + d) 16 (by omega), pk_in (S1.length + d + 1) 16 (by omega), nm_e (nm_r (pk_m1 _) (tx_op45 hn H d _ (by omega) (fun j hj => ?_) (fun j hj hj2 => ?_)))⟩
    · rw [pk_un (by omega)]
      exact h1 j (by omega)
    · by_cases e : j = S1.length + d + 1
      · rw [e, pk_us, Nat.add_sub_cancel]
        exact h1 _ (by omega)
      · rw [pk_un e]
        exact h2 j (by omega) hj2
theorem tx_op5 {post : St1 → Prop} {x1 : Int32} {a4 a5 a6 a7 : Nat → Int32} (H : ∀ s, s < 16 → (∀ j, j < 16 → a3 j = 0 → a3 s = 0) → ∃ n, wX_openBlock_45 post x1 (nI s) kl bl tot fb fi li n bl a1 a2 (upd a3 s 1) (upd a4 s 0) a5 a6 a7) :
    ∀ (d s : Nat), s < 16 → d ≤ 16 → (∀ j, d ≤ j → j < 16 → a3 j = 0 → a3 s = 0) → wX_openBlock_5 post x1 kl bl tot fb fi li a1 a2 a3 a4 a5 a6 a7 (d + 1) (nI s) (nI d + (-1))
  | 0, s, hs, hd, h => by
    have c0 : (nI s).toNatClampNeg = s := nI_clamp (by omega)
    refine br_t (by decide) ⟨pk_in s 16 hs, ?_⟩
    rw [c0]
    exact nm_e ⟨pk_in s 16 hs, nm_e (H s hs (fun j hj => h j (Nat.zero_le _) hj))⟩
  | d + 1, s, hs, hd, h => by
    have cd : (nI d).toNatClampNeg = d := nI_clamp (by omega)
    have ih := tx_op5 H d
    rw [pk_m1]
    refine br_f (nI_pos (by omega)) ⟨pk_in d 16 (by omega), ?_⟩
    rw [cd]
    refine br_c (fun z => nm_e (ih d (by omega) (by omega) (fun _ _ _ _ => z))) (fun z => nm_e (ih s hs (by omega) (fun j h1 h2 h3 => ?_)))
    by_cases e : j = d
    · rw [e] at h3
      exact absurd h3 z
    · exact h j (by omega) h2 h3
theorem tx_op {post : St1 → Prop} {P Q : List tx_Bk} {a4 a5 a6 a7 : Nat → Int32} {x : Int32} (h : tx_ph Bs bl a2 a3 a4 a5) (e : Bs = P ++ Q) (hn : Bs.length < 16) (hx : x = nI P.length)
    (H : ∀ s bl' a2' a3' a4', tx_ph (P ++ (s, []) :: Q) bl' a2' a3' a4' a5 → post (kl, bl', tot, fb, fi, li, a1, a2', a3', a4', a5, a6, a7)) :
    wpX_openBlock post (kl, bl, tot, fb, fi, li, a1, a2, a3, a4, a5, a6, a7) x := by
  subst hx
  obtain ⟨p1, p2, p3, p4, p5, p6⟩ := h
  subst e
  refine ⟨17, tx_op5 (fun s hs hf => ?_) 16 0 (by omega) (by omega) (fun j h1 h2 => absurd h2 (by omega))⟩
  obtain ⟨j, j1, j2⟩ := tx_free 16 (tx_sl (P ++ Q)) (by rw [tx_sl_len]; exact hn)
  have f0 : a3 s = 0 := hf j j1 ((p5 j j1).mpr j2)
  have f1 : s ∉ tx_sl (P ++ Q) := (p5 s hs).mp f0
  have el : (P ++ Q).length = P.length + Q.length := List.length_append
  have el' : (tx_sl P ++ tx_sl Q).length = (P ++ Q).length := by rw [List.length_append, tx_sl_len, tx_sl_len, el]
  have go := tx_op45 (post := post) (kl := kl) (tot := tot) (fb := fb) (fi := fi) (li := li) (a1 := a1) (S1 := tx_sl P) (S2 := tx_sl Q) (s := s) (a3 := upd a3 s 1) (a4 := upd a4 s 0) (a5 := a5) (a6 := a6) (a7 := a7) (by rw [el']; exact hn) (fun b2 h2 => H s _ b2 _ _ ?_) Q.length a2 (by rw [el', el, tx_sl_len]; omega) (fun j hj => ?_) (fun j hj hj2 => ?_)
  · rw [el', tx_sl_len, ← el, ← p1] at go
    exact ⟨_, go⟩
  · have en : (P ++ (s, []) :: Q).length = (P ++ Q).length + 1 := by rw [List.length_append, List.length_append, List.length_cons]; omega
    have es : tx_sl (P ++ (s, []) :: Q) = tx_sl P ++ s :: tx_sl Q := by rw [tx_sl_app]; rfl
    refine ⟨by rw [en, el'], by rw [en]; omega, tx_nd' f1 p3, by rw [es]; exact h2, fun i hi => ?_, fun c hc => ?_⟩
    · rw [es, tx_mem_mid, ← tx_sl_app]
      by_cases ei : i = s
      · rw [ei, pk_us]
        exact ⟨fun z => absurd z (by decide), fun z => absurd (Or.inl rfl) z⟩
      · rw [pk_un ei, p5 i hi]
        exact ⟨fun z y => y.elim ei z, fun z y => z (Or.inr y)⟩
    · rcases tx_mem_mid.mp hc with z | z
      · rw [z]
        exact ⟨hs, Nat.zero_le _, fun t ht => (by cases ht), pk_us, tx_ar_nil _ _⟩
      · refine tx_blk_k (p6 c z) (fun y => ?_) (fun _ _ => rfl)
        rw [← y] at f1
        exact f1 (tx_sl_mem z)
  · have q := p4 j (by rw [tx_sl_len] at hj ⊢; rw [el]; omega)
    rw [Nat.zero_add, tx_sl_app] at q
    exact q
  · rw [tx_sl_len] at hj
    rw [el'] at hj2
    omega
/-! closeBlock -/
theorem tx_cb {post : St1 → Prop} {P Q : List tx_Bk} {b : tx_Bk} {a4 a5 a6 a7 : Nat → Int32} {x : Int32} (h : tx_ph Bs bl a2 a3 a4 a5) (e : Bs = P ++ b :: Q) (hx : x = nI P.length)
    (H : ∀ bl' a2' a3', tx_ph (P ++ Q) bl' a2' a3' a4 a5 → post (kl, bl', tot, fb, fi, li, a1, a2', a3', a4, a5, a6, a7)) :
    wpX_closeBlock post (kl, bl, tot, fb, fi, li, a1, a2, a3, a4, a5, a6, a7) x := by
  subst hx
  obtain ⟨g1, g2, g3⟩ := tx_ph_at h e
  obtain ⟨p1, p2, p3, p4, p5, p6⟩ := h
  subst e
  have c0 : (nI P.length).toNatClampNeg = P.length := nI_clamp (by omega)
  have cb : (nI b.1).toNatClampNeg = b.1 := nI_clamp (by have := g3.1; omega)
  have el : (P ++ Q).length = P.length + Q.length := List.length_append
  have en : (P ++ b :: Q).length = (P ++ Q).length + 1 := by rw [List.length_append, List.length_append, List.length_cons]; omega
  obtain ⟨nd1, nd2⟩ := tx_nd p3
  have es : tx_sl (P ++ b :: Q) = tx_sl P ++ b.1 :: tx_sl Q := by rw [tx_sl_app]; rfl
  have ea : ∀ j, P.length ≤ j → tx_at 0 (tx_sl (P ++ Q)) j = tx_at 0 (tx_sl (P ++ b :: Q)) (j + 1) := by
    intro j hj
    have r1 := tx_at_r (d := 0) (tx_sl P) (b.1 :: tx_sl Q) (j - P.length + 1)
    have r2 := tx_at_r (d := 0) (tx_sl P) (tx_sl Q) (j - P.length)
    rw [tx_sl_len, show P.length + (j - P.length + 1) = j + 1 by omega] at r1
    rw [tx_sl_len, show P.length + (j - P.length) = j by omega] at r2
    rw [es, tx_sl_app, r1, r2]
    rfl
  rw [en] at p1 p2
  refine ⟨pk_in P.length 16 g1, ?_⟩
  rw [c0, g2, cb]
  refine ⟨pk_in b.1 16 g3.1, nm_e ?_⟩
  refine pk_loop (fun n i s => wX_closeBlock_14 post kl bl tot fb fi li n (nI i) a1 s (upd a3 b.1 0) a4 a5 a6 a7) (fun i s => P.length ≤ i ∧ (∀ j, j < i → s j = nI (tx_at 0 (tx_sl (P ++ Q)) j)) ∧ (∀ j, i < j → j < (P ++ b :: Q).length → s j = nI (tx_at 0 (tx_sl (P ++ b :: Q)) j))) (P ++ Q).length P.length a2 (by omega) ⟨Nat.le_refl _, fun j hj => ?_, fun j _ hj => ?_⟩ (fun n s h => ?_) (fun n i s hi h hw => ?_)
  · have q := p4 j (by rw [tx_sl_len]; omega)
    rw [Nat.zero_add, es, tx_at_l (tx_sl P) _ j (by rw [tx_sl_len]; exact hj)] at q
    rw [q, tx_sl_app, tx_at_l (tx_sl P) _ j (by rw [tx_sl_len]; exact hj)]
  · have q := p4 j (by rw [tx_sl_len]; exact hj)
    rw [Nat.zero_add] at q
    exact q
  · refine pk_le ((P ++ Q).length + 1) ((P ++ Q).length + 1) (fun _ => nm_r (e' := nI (P ++ Q).length) (by rw [p1, nI_pred]) (H _ s _ ?_)) (fun z => absurd z (Nat.lt_irrefl _)) p1 (nI_1 _) (by omega) (by omega)
    refine ⟨rfl, by omega, nd2, fun i hi => ?_, fun i hi => ?_, fun c hc => p6 c (tx_mem_mid.mpr (Or.inr hc))⟩
    · rw [tx_sl_len] at hi
      rw [Nat.zero_add]
      exact h.2.1 i hi
    · by_cases ei : i = b.1
      · rw [ei, pk_us]
        exact ⟨fun _ => nd1, fun _ => rfl⟩
      · rw [pk_un ei, p5 i hi, es, tx_mem_mid, ← tx_sl_app]
        exact ⟨fun z y => z (Or.inr y), fun z y => y.elim ei z⟩
  · have d1 : nI i + 1 = nI (i + 1) := nI_1 i
    refine pk_le ((P ++ Q).length + 1) (i + 1) (fun z => absurd z (by omega)) (fun _ => ⟨pk_in (i + 1) 16 (by omega) d1, pk_in i 16 (by omega), nm_r (e' := upd s i (nI (tx_at 0 (tx_sl (P ++ Q)) i))) ?_ (nm_r d1 (hw _ ⟨by have := h.1; omega, fun j hj => ?_, fun j hj hj2 => ?_⟩))⟩) p1 d1 (by omega) (by omega)
    · rw [nI_clamp (show i < 2 ^ 31 by omega), pk_cl (i + 1) d1 (by omega), h.2.2 (i + 1) (by omega) (by omega), ea i h.1]
    · by_cases ej : j = i
      · rw [ej, pk_us]
      · rw [pk_un ej]
        exact h.2.1 j (by omega)
    · rw [pk_un (by omega)]
      exact h.2.2 j (by omega) hj2
/-! storeList -/
/-- what the list becomes: blocks N in place of those from b on -/
def tx_sz (N : List tx_Bk) (l : List (List Nat)) : Prop := (∀ c, c ∈ N → c.2 ≠ []) ∧ (3 ≤ l.length → ∀ c, c ∈ N → 3 ≤ c.2.length) ∧ (l.length ≤ 6 → N.length ≤ 1)
theorem tx_st60_1 {post : St1 → Prop} {P Q : List tx_Bk} {b : tx_Bk} {l : List (List Nat)} {a4 a5 a6 a7 : Nat → Int32} (h : tx_ph Bs bl a2 a3 a4 a5) (e : Bs = P ++ b :: Q) (hl : tx_ls l a6 a7) (h1 : 1 ≤ l.length) (h6 : l.length ≤ 6)
    (H : ∀ N bl' a2' a3' a4' a5', tx_flat N = l → tx_sz N l → tx_ph (P ++ (N ++ Q)) bl' a2' a3' a4' a5' → post (kl, bl', tot, fb, fi, nI l.length, a1, a2', a3', a4', a5', a6, a7)) :
    wX_storeList_60 post (nI P.length) 1 kl bl tot fb fi (nI l.length) a1 a2 a3 a4 a5 a6 a7 := by
  refine br_t rfl (tx_pa (l1 := []) (ts := l) (l2 := []) h e (by rw [List.append_nil]; exact hl) (by rw [List.append_nil]; show l.length ≤ 16; omega) h6 rfl rfl (by rw [List.length_nil, Nat.zero_add]) (fun b4 b5 hp => H [(b.1, l)] _ _ _ _ _ ?_ ⟨fun c hc => ?_, fun h3 c hc => ?_, fun _ => Nat.le_refl 1⟩ hp))
  · show l ++ [] = l
    rw [List.append_nil]
  · rw [List.mem_singleton.mp hc]
    intro z
    have z' : l = [] := z
    rw [z', List.length_nil] at h1
    omega
  · rw [List.mem_singleton.mp hc]
    exact h3
theorem tx_st60_2 {post : St1 → Prop} {P Q : List tx_Bk} {b c : tx_Bk} {l : List (List Nat)} {a4 a5 a6 a7 : Nat → Int32} (h : tx_ph Bs bl a2 a3 a4 a5) (e : Bs = P ++ b :: c :: Q) (hl : tx_ls l a6 a7) (h1 : 7 ≤ l.length) (h6 : l.length ≤ 12)
    (H : ∀ N bl' a2' a3' a4' a5', tx_flat N = l → tx_sz N l → tx_ph (P ++ (N ++ Q)) bl' a2' a3' a4' a5' → post (kl, bl', tot, fb, fi, nI l.length, a1, a2', a3', a4', a5', a6, a7)) :
    wX_storeList_60 post (nI P.length) 2 kl bl tot fb fi (nI l.length) a1 a2 a3 a4 a5 a6 a7 := by
  have ed : (nI l.length + 1) / 2 = nI ((l.length + 1) / 2) := by
    rw [nI_1]
    exact pk_div (a := l.length + 1) (d := 2) (by omega) (by decide) (by decide)
  obtain ⟨l1, l2, el, hl1⟩ : ∃ l1 l2, l = l1 ++ l2 ∧ l1.length = (l.length + 1) / 2 :=
    ⟨l.take ((l.length + 1) / 2), l.drop ((l.length + 1) / 2), (List.take_append_drop _ l).symm, by rw [List.length_take]; omega⟩
  have ll : l.length = l1.length + l2.length := by rw [el, List.length_append]
  refine br_f (by decide) (br_t rfl ⟨by decide, nm_r ed ?_⟩)
  refine tx_pa (l1 := []) (ts := l1) (l2 := l2) h e (by rw [← el]; exact hl) (by rw [← el]; show l.length ≤ 16; omega) (by omega) rfl rfl (by rw [List.length_nil, Nat.zero_add, hl1]) (fun b4 b5 hp => ?_)
  have e2 : P ++ (b.1, l1) :: c :: Q = (P ++ [(b.1, l1)]) ++ c :: Q := by rw [List.append_assoc]; rfl
  have e3 : (P ++ [(b.1, l1)]).length = P.length + 1 := by rw [List.length_append]; rfl
  refine tx_pa (l1 := l1) (ts := l2) (l2 := []) hp e2 (by rw [List.append_nil, ← el]; exact hl) (by rw [List.append_nil, ← el]; omega) (by omega) (by rw [e3, nI_1]) (by rw [hl1]) (by rw [ll]) (fun c4 c5 hq => H [(b.1, l1), (c.1, l2)] _ _ _ _ _ ?_ ⟨fun d hd => ?_, fun h3 d hd => ?_, fun z => absurd z (by omega)⟩ ?_)
  · show l1 ++ (l2 ++ []) = l
    rw [List.append_nil, el]
  · rcases List.mem_cons.mp hd with z | z
    · rw [z]
      intro y
      have y' : l1 = [] := y
      rw [y', List.length_nil] at hl1
      omega
    · rw [List.mem_singleton.mp z]
      intro y
      have y' : l2 = [] := y
      rw [y', List.length_nil] at ll
      omega
  · rcases List.mem_cons.mp hd with z | z
    · rw [z]
      show 3 ≤ l1.length
      omega
    · rw [List.mem_singleton.mp z]
      show 3 ≤ l2.length
      omega
  · rw [List.append_assoc] at hq
    exact hq
theorem tx_st1 {post : St1 → Prop} {P Q : List tx_Bk} {b : tx_Bk} {l : List (List Nat)} {a4 a5 a6 a7 : Nat → Int32} {x : Int32} (h : tx_ph Bs bl a2 a3 a4 a5) (e : Bs = P ++ b :: Q) (hx : x = nI P.length) (hB : Bs.length < 16) (hl : tx_ls l a6 a7) (h6 : l.length ≤ 12)
    (H : ∀ N bl' a2' a3' a4' a5', tx_flat N = l → tx_sz N l → tx_ph (P ++ (N ++ Q)) bl' a2' a3' a4' a5' → post (kl, bl', tot, fb, fi, nI l.length, a1, a2', a3', a4', a5', a6, a7)) :
    wpX_storeList post (kl, bl, tot, fb, fi, nI l.length, a1, a2, a3, a4, a5, a6, a7) x 1 := by
  subst hx
  refine pk_eq l.length 0 (fun z => ?_) (fun z => ?_) rfl rfl (by omega) (by omega)
  · refine br_f (by decide) (tx_cb h e rfl (fun b1 b2 b3 hp => br_t (by decide) (br_t (by decide) (br_f (by decide) (br_f (by decide) (H [] _ _ _ _ _ ?_ ⟨fun c hc => (by cases hc), fun _ c hc => (by cases hc), fun _ => Nat.zero_le _⟩ hp))))))
    exact (List.eq_nil_of_length_eq_zero z).symm
  · refine pk_lt 6 l.length (fun y => ?_) (fun y => ?_) rfl rfl (by omega) (by omega)
    · refine br_t (by decide) (br_t (by decide) (br_f (by decide) ?_))
      have e2 : Bs = (P ++ [b]) ++ Q := by rw [e, List.append_assoc]; rfl
      have e3 : (P ++ [b]).length = P.length + 1 := by rw [List.length_append]; rfl
      refine tx_op h e2 hB (by rw [e3, nI_1]) (fun s b1 b2 b3 b4 hp => ?_)
      exact tx_st60_2 (b := b) (c := (s, [])) (Q := Q) hp (by rw [List.append_assoc]; rfl) hl (by omega) h6 H
    · exact br_t (by decide) (br_t (by decide) (br_t (by decide) (tx_st60_1 h e hl (by omega) y H)))
theorem tx_st2 {post : St1 → Prop} {P Q : List tx_Bk} {b c : tx_Bk} {l : List (List Nat)} {a4 a5 a6 a7 : Nat → Int32} {x : Int32} (h : tx_ph Bs bl a2 a3 a4 a5) (e : Bs = P ++ b :: c :: Q) (hx : x = nI P.length) (hl : tx_ls l a6 a7) (h1 : 1 ≤ l.length) (h6 : l.length ≤ 12)
    (H : ∀ N bl' a2' a3' a4' a5', tx_flat N = l → tx_sz N l → tx_ph (P ++ (N ++ Q)) bl' a2' a3' a4' a5' → post (kl, bl', tot, fb, fi, nI l.length, a1, a2', a3', a4', a5', a6, a7)) :
    wpX_storeList post (kl, bl, tot, fb, fi, nI l.length, a1, a2, a3, a4, a5, a6, a7) x 2 := by
  subst hx
  refine br_f (nI_ne0 (by omega) (by omega)) (pk_lt 6 l.length (fun y => ?_) (fun y => ?_) rfl rfl (by omega) (by omega))
  · exact br_t (by decide) (br_t (by decide) (br_t (by decide) (tx_st60_2 h e hl (by omega) h6 H)))
  · refine br_f (by decide) (tx_cb h e rfl (fun b1 b2 b3 hp => br_t (by decide) (br_t (by decide) (tx_st60_1 hp rfl hl h1 y H))))
end
end
section
/-! the whole: key k, terms F in order -/
def tx_inv (Bs : List tx_Bk) : Prop := tx_srt (tx_flat Bs) ∧ (∀ b, b ∈ Bs → b.2 ≠ []) ∧ (2 ≤ Bs.length → ∀ b, b ∈ Bs → 3 ≤ b.2.length) ∧ (tx_flat Bs).length ≤ 40
def tx_S (k : List Nat) (F : List (List Nat)) (u : St1) : Prop := match u with
  | (kl, bl, tot, _, _, _, a1, a2, a3, a4, a5, _, _) => tx_ky k kl a1 ∧ tot = nI F.length ∧ ∃ Bs, tx_flat Bs = F ∧ tx_inv Bs ∧ tx_ph Bs bl a2 a3 a4 a5
theorem tx_flat_ok {Bs : List tx_Bk} {bl : Int32} {a2 a3 a4 a5 : Nat → Int32} (h : tx_ph Bs bl a2 a3 a4 a5) : ∀ t, t ∈ tx_flat Bs → tx_ok t := by
  have h6 := h.2.2.2.2.2
  clear h
  induction Bs with
  | nil => intro t ht; cases ht
  | cons b Bs ih =>
    intro t ht
    rcases List.mem_append.mp ht with e | e
    · exact (h6 b List.mem_cons_self).2.2.1 t e
    · exact ih (fun c hc => h6 c (List.mem_cons_of_mem _ hc)) t e
theorem tx_flat_ge {m : Nat} : ∀ (Bs : List tx_Bk), (∀ b, b ∈ Bs → m ≤ b.2.length) → m * Bs.length ≤ (tx_flat Bs).length
  | [], _ => Nat.zero_le _
  | b :: Bs, h => by
    have i := tx_flat_ge Bs (fun c hc => h c (List.mem_cons_of_mem _ hc))
    have j := h b List.mem_cons_self
    show m * (Bs.length + 1) ≤ (b.2 ++ tx_flat Bs).length
    rw [List.length_append, Nat.mul_add, Nat.mul_one]
    omega
theorem tx_inv_len {Bs : List tx_Bk} (h : tx_inv Bs) : Bs.length ≤ 13 := by
  rcases Nat.lt_or_ge Bs.length 2 with z | z
  · omega
  · have i := tx_flat_ge Bs (h.2.2.1 z)
    have j := h.2.2.2
    omega
theorem tx_find : ∀ (Bs : List tx_Bk) (A B : List (List Nat)) (t : List Nat), tx_flat Bs = A ++ t :: B → ∃ P s t1 t2 Q, Bs = P ++ (s, t1 ++ t :: t2) :: Q ∧ A = tx_flat P ++ t1 ∧ B = t2 ++ tx_flat Q
  | [], A, B, t, h => by
    have h' : ([] : List (List Nat)) = A ++ t :: B := h
    have l : ([] : List (List Nat)).length = (A ++ t :: B).length := by rw [← h']
    rw [List.length_append, List.length_cons, List.length_nil] at l
    omega
  | b :: Bs, A, B, t, h => by
    have h' : b.2 ++ tx_flat Bs = A ++ t :: B := h
    rcases List.append_eq_append_iff.mp h' with ⟨as, e1, e2⟩ | ⟨bs, e1, e2⟩
    · obtain ⟨P, s, t1, t2, Q, f1, f2, f3⟩ := tx_find Bs as B t e2
      refine ⟨b :: P, s, t1, t2, Q, by rw [f1]; rfl, ?_, f3⟩
      show A = b.2 ++ tx_flat P ++ t1
      rw [e1, f2, List.append_assoc]
    · cases bs with
      | nil =>
        rw [List.append_nil] at e1
        obtain ⟨P, s, t1, t2, Q, f1, f2, f3⟩ := tx_find Bs [] B t (show tx_flat Bs = [] ++ t :: B from e2.symm)
        refine ⟨b :: P, s, t1, t2, Q, by rw [f1]; rfl, ?_, f3⟩
        show A = b.2 ++ tx_flat P ++ t1
        rw [List.append_assoc, ← f2, List.append_nil, e1]
      | cons y bs =>
        have e2' : t :: B = y :: (bs ++ tx_flat Bs) := e2
        injection e2' with q1 q2
        exact ⟨[], b.1, A, bs, Bs, by rw [q1, ← e1]; rfl, rfl, q2⟩
theorem tx_uq {k : List Nat} : ∀ (A B A' B' : List (List Nat)), A ++ B = A' ++ B' → tx_lo k A → tx_hi k B → tx_lo k A' → tx_hi k B' → A = A' ∧ B = B'
  | [], B, [], B', e, _, _, _, _ => ⟨rfl, e⟩
  | [], B, a :: A', B', e, _, h2, h3, _ => by
    have e' : B = a :: (A' ++ B') := e
    have q1 := h2 a (by rw [e']; exact List.mem_cons_self)
    have q2 := h3 a List.mem_cons_self
    omega
  | a :: A, B, [], B', e, h1, _, _, h4 => by
    have e' : a :: (A ++ B) = B' := e
    have q1 := h4 a (by rw [← e']; exact List.mem_cons_self)
    have q2 := h1 a List.mem_cons_self
    omega
  | a :: A, B, a' :: A', B', e, h1, h2, h3, h4 => by
    have e' : a :: (A ++ B) = a' :: (A' ++ B') := e
    injection e' with q1 q2
    obtain ⟨r1, r2⟩ := tx_uq A B A' B' q2 (fun t ht => h1 t (List.mem_cons_of_mem _ ht)) h2 (fun t ht => h3 t (List.mem_cons_of_mem _ ht)) h4
    exact ⟨by rw [q1, r1], r2⟩
theorem tx_sp (k : List Nat) : ∀ (F : List (List Nat)), tx_srt F → ∃ A B, F = A ++ B ∧ tx_lo k A ∧ tx_hi k B
  | [], _ => ⟨[], [], rfl, tx_lo_nil k, tx_hi_nil k⟩
  | t :: F, h => by
    rcases Nat.lt_or_ge (tx_c t) (tx_c k) with z | z
    · obtain ⟨A, B, e, h1, h2⟩ := tx_sp k F (tx_srt_c h).2
      exact ⟨t :: A, B, by rw [e]; rfl, tx_lo_c z h1, h2⟩
    · exact ⟨[], t :: F, rfl, tx_lo_nil k, tx_srt_hi h z⟩
theorem tx_nsp {A B : List (List Nat)} {k : List Nat} (h : tx_srt (A ++ k :: B)) : tx_lo k A ∧ tx_hi k (k :: B) := ⟨fun t ht => (tx_srt_app h).2.2 t ht k List.mem_cons_self, tx_srt_hi (tx_srt_app h).2.1 (Nat.le_refl _)⟩
/-- the term isn't there -/
theorem tx_out {A B : List (List Nat)} {k : List Nat} (hl : tx_lo k A) (hh : ∀ t, t ∈ B → tx_c k < tx_c t) : k ∉ A ++ B := by
  intro h
  rcases List.mem_append.mp h with e | e
  · have := hl k e; omega
  · have := hh k e; omega
theorem tx_inv_N {P Q N : List tx_Bk} {l : List (List Nat)} (h1 : ∀ c, c ∈ P ++ Q → c.2 ≠ []) (h3 : P ++ Q ≠ [] → (∀ c, c ∈ P ++ Q → 3 ≤ c.2.length) ∧ 3 ≤ l.length) (hN : tx_sz N l) : (∀ b, b ∈ P ++ (N ++ Q) → b.2 ≠ []) ∧ (2 ≤ (P ++ (N ++ Q)).length → ∀ b, b ∈ P ++ (N ++ Q) → 3 ≤ b.2.length) := by
  have cs : ∀ b, b ∈ P ++ (N ++ Q) → b ∈ P ++ Q ∨ b ∈ N := by
    intro b hb
    rcases List.mem_append.mp hb with e | e
    · exact Or.inl (List.mem_append_left _ e)
    · rcases List.mem_append.mp e with e | e
      · exact Or.inr e
      · exact Or.inl (List.mem_append_right _ e)
  refine ⟨fun b hb => (cs b hb).elim (h1 b) (hN.1 b), fun h2 b hb => ?_⟩
  by_cases e : P ++ Q = []
  · have l0 : (P ++ Q).length = 0 := by rw [e]; rfl
    rw [List.length_append] at l0
    rw [List.length_append, List.length_append] at h2
    have l6 : 3 ≤ l.length := by
      rcases Nat.lt_or_ge 6 l.length with z | z
      · omega
      · have := hN.2.2 z
        omega
    rcases cs b hb with z | z
    · rw [e] at z; cases z
    · exact hN.2.1 l6 b z
  · obtain ⟨q1, q2⟩ := h3 e
    exact (cs b hb).elim (q1 b) (hN.2.1 q2 b)
section
variable {k : List Nat} {F A B : List (List Nat)} {u : St1}
theorem tx_S_srt (h : tx_S k F u) : tx_srt F ∧ F.length ≤ 40 ∧ (∀ t, t ∈ F → tx_ok t) ∧ tx_kk k := by
  obtain ⟨kl, bl, tot, fb, fi, li, a1, a2, a3, a4, a5, a6, a7⟩ := u
  obtain ⟨h1, h2, Bs, h3, h4, h5⟩ := h
  subst h3
  exact ⟨h4.1, h4.2.2.2, tx_flat_ok h5, h1.1⟩
/-- countLess -/
theorem tx_clS {post : Int32 → St1 → Prop} {Bs : List tx_Bk} {kl bl tot fb fi li : Int32} {a1 a2 a3 a4 a5 a6 a7 : Nat → Int32} (hk : tx_ky k kl a1) (hF : tx_flat Bs = A ++ B) (hv : tx_inv Bs) (hp : tx_ph Bs bl a2 a3 a4 a5) (hl : tx_lo k A) (hh : tx_hi k B)
    (H : ∀ fb' fi', ((Bs = [] ∧ A = [] ∧ B = [] ∧ fb' = nI 0 ∧ fi' = nI 0) ∨ ∃ P s t1 t2 Q, Bs = P ++ (s, t1 ++ t2) :: Q ∧ A = tx_flat P ++ t1 ∧ B = t2 ++ tx_flat Q ∧ fb' = nI P.length ∧ fi' = nI t1.length) → post (nI A.length) (kl, bl, tot, fb', fi', li, a1, a2, a3, a4, a5, a6, a7)) :
    wpX_countLess post (kl, bl, tot, fb, fi, li, a1, a2, a3, a4, a5, a6, a7) 0 := by
  refine tx_cl hp hk hv.1 hv.2.1 (fun e => ?_) (fun P s t1 t2 Q e l1 l2 => ?_)
  · have e' : [] = A ++ B := by rw [← hF, e]; rfl
    obtain ⟨q1, q2⟩ := List.append_eq_nil_iff.mp e'.symm
    have r := H (nI 0) (nI 0) (Or.inl ⟨e, q1, q2, rfl, rfl⟩)
    rw [q1] at r
    exact r
  · have e' : A ++ B = (tx_flat P ++ t1) ++ (t2 ++ tx_flat Q) := by
      rw [← hF, e, tx_flat_mid]
      show tx_flat P ++ (t1 ++ t2 ++ tx_flat Q) = _
      rw [List.append_assoc, List.append_assoc]
    obtain ⟨q1, q2⟩ := tx_uq _ _ _ _ e' hl hh l1 l2
    have r := H (nI P.length) (nI t1.length) (Or.inr ⟨P, s, t1, t2, Q, e, q1, q2, rfl, rfl⟩)
    rw [q1, List.length_append] at r
    exact r
/-- the term at a rank -/
theorem tx_rk {Bs : List tx_Bk} {t : List Nat} (hF : tx_flat Bs = A ++ t :: B) : ∃ P b Q t1 t2, Bs = P ++ b :: Q ∧ b.2 = t1 ++ t :: t2 ∧ A = tx_flat P ++ t1 ∧ B = t2 ++ tx_flat Q ∧ (tx_flat P).length ≤ A.length ∧ A.length < (tx_flat P).length + b.2.length ∧ A.length - (tx_flat P).length = t1.length := by
  obtain ⟨P, s, t1, t2, Q, e1, e2, e3⟩ := tx_find Bs A B t hF
  refine ⟨P, (s, t1 ++ t :: t2), Q, t1, t2, e1, rfl, e2, e3, ?_⟩
  show _ ∧ A.length < (tx_flat P).length + (t1 ++ t :: t2).length ∧ _
  rw [e2, List.length_append, List.length_append, List.length_cons]
  omega
/-! load -/
theorem tx_ld51 {post : Int32 → St1 → Prop} {g : Nat} {t : List Nat} {bl tot fb fi li : Int32} {a1 a2 a3 a4 a5 a6 a7 : Nat → Int32} (hg : g < 16) (hw : tx_le a6 a7 g t) (ht : tx_ok t) (H : ∀ a1', tx_ky t (nI t.length) a1' → post (nI t.length) (nI t.length, bl, tot, fb, fi, li, a1', a2, a3, a4, a5, a6, a7)) :
    ∃ n, wX_load_51 post (nI g) (nI t.length) bl tot fb fi li n 0 a1 a2 a3 a4 a5 a6 a7 := by
  have h6 := ht.2.1
  refine pk_loop (fun n i s => wX_load_51 post (nI g) (nI t.length) bl tot fb fi li n (nI i) s a2 a3 a4 a5 a6 a7) (fun i s => tx_cp a1 s 0 i (fun i => a6 (6 * g + i))) t.length 0 a1 (Nat.zero_le _) (tx_cp0 _ _ _) (fun n s h => ?_) (fun n i s hi h hc => ?_)
  · refine pk_le t.length t.length (fun _ => H s ⟨ht.2, rfl, fun i hi => ?_⟩) (fun z => absurd z (Nat.lt_irrefl _)) rfl rfl (by omega) (by omega)
    rw [h.2 i hi]
    exact hw.2 i hi
  · have d2 : 6 * nI g + nI i = nI (6 * g + i) := tx_x6i g i
    refine pk_le t.length i (fun z => absurd z (by omega)) (fun _ => ⟨pk_in (6 * g + i) 96 (by omega) d2, pk_in i 6 (by omega), nm_r (e' := upd s i (a6 (6 * g + i))) ?_ (nm_r (nI_1 i) (hc _ (tx_cps h (Nat.zero_add i).symm rfl)))⟩) rfl rfl (by omega) (by omega)
    rw [pk_cl (6 * g + i) d2 (by omega), nI_clamp (show i < 2 ^ 31 by omega)]
theorem tx_load {post : Int32 → St1 → Prop} {t : List Nat} (h : tx_S k (A ++ t :: B) u) (H : ∀ u', tx_S t (A ++ t :: B) u' → post (nI t.length) u') : wpX_load post u (nI A.length) := by
  obtain ⟨kl, bl, tot, fb, fi, li, a1, a2, a3, a4, a5, a6, a7⟩ := u
  obtain ⟨h1, h2, Bs, h3, h4, h5⟩ := h
  obtain ⟨P, b, Q, t1, t2, e1, e2, e3, e4, e5, e6, e7⟩ := tx_rk h3
  have hl := h4.2.2.2
  rw [h3] at hl
  have ln : (A ++ t :: B).length = A.length + (B.length + 1) := by rw [List.length_append, List.length_cons]
  have hb := (tx_ph_at h5 e1).2.2.2.1
  have ht : tx_ok t := tx_flat_ok h5 t (by rw [h3]; exact List.mem_append_right _ List.mem_cons_self)
  have lt : b.2.length = t1.length + (t2.length + 1) := by rw [e2, List.length_append, List.length_cons]
  refine br_f (nI_pos (by omega)) (pk_lt A.length (A ++ t :: B).length (fun _ => ?_) (fun z => absurd z (by omega)) rfl h2 (by omega) (by omega))
  refine tx_bo h5 (by omega) e1 e5 e6 ?_
  refine tx_un (l := []) h5 e1 (tx_ls_nil _ _) (by rw [List.length_nil]; omega) (fun b6 b7 hs => ?_)
  refine tx_tb h5 e1 (nm_r (e' := nI t1.length) (by rw [pk_sub e5, e7]) ⟨pk_in t1.length 16 (by omega), ?_⟩)
  have hw : tx_le b6 b7 t1.length t := by
    have q := hs.2 t1.length (by show t1.length < b.2.length; omega)
    have q' : tx_le b6 b7 t1.length (tx_at [] b.2 t1.length) := q
    rw [e2, tx_at_mid] at q'
    exact q'
  rw [nI_clamp (show t1.length < 2 ^ 31 by omega), hw.1]
  exact nm_e (tx_ld51 (by omega) hw ht (fun c1 hc => H _ ⟨hc, h2, Bs, h3, h4, h5⟩))
theorem tx_load_n {post : Int32 → St1 → Prop} {r : Nat} (h : tx_S k F u) (hr : F.length ≤ r) (hr2 : r < 2 ^ 31) (H : post (-1) u) : wpX_load post u (nI r) := by
  obtain ⟨kl, bl, tot, fb, fi, li, a1, a2, a3, a4, a5, a6, a7⟩ := u
  obtain ⟨h1, h2, h3⟩ := h
  exact br_f (nI_pos hr2) (pk_lt r F.length (fun z => absurd z (by omega)) (fun _ => H) rfl h2 hr2 (by omega))
/-! held -/
theorem tx_held {post : Int32 → St1 → Prop} (h : tx_S k (A ++ B) u) (hl : tx_lo k A) (hh : tx_hi k B) (H1 : ∀ B', B = k :: B' → ∀ u', tx_S k (A ++ B) u' → post 1 u') (H0 : k ∉ A ++ B → ∀ u', tx_S k (A ++ B) u' → post 0 u') : wpX_held post u := by
  obtain ⟨hs, hn, hok, hkk⟩ := tx_S_srt h
  obtain ⟨kl, bl, tot, fb, fi, li, a1, a2, a3, a4, a5, a6, a7⟩ := u
  obtain ⟨h1, h2, Bs, h3, h4, h5⟩ := h
  have k6 := h1.1.1
  have ln : (A ++ B).length = A.length + B.length := List.length_append
  refine tx_clS h1 h3 h4 h5 hl hh (fun fb' fi' _ => ?_)
  refine pk_eq k.length 0 (fun z => H0 (fun y => ?_) _ ⟨h1, h2, Bs, h3, h4, h5⟩) (fun z => ?_) h1.2.1 rfl (by omega) (by omega)
  · have := (hok k y).1
    omega
  refine pk_lt A.length (A ++ B).length (fun y => ?_) (fun y => H0 (tx_out hl (fun t ht => ?_)) _ ⟨h1, h2, Bs, h3, h4, h5⟩) rfl h2 (by omega) (by omega)
  rotate_left
  · have := List.length_pos_of_mem ht
    omega
  cases B with
  | nil => exact absurd y (by rw [ln, List.length_nil]; omega)
  | cons t B =>
    obtain ⟨P, b, Q, t1, t2, e1, e2, e3, e4, e5, e6, e7⟩ := tx_rk h3
    have hb := (tx_ph_at h5 e1).2.2.2.1
    have ht : tx_ok t := hok t (List.mem_append_right _ List.mem_cons_self)
    have lt : b.2.length = t1.length + (t2.length + 1) := by rw [e2, List.length_append, List.length_cons]
    have t6 := ht.2.1
    have ne : t ≠ k → k ∉ A ++ t :: B := by
      intro w
      have w1 : tx_c k < tx_c t := by
        have q := hh t List.mem_cons_self
        rcases Nat.lt_or_ge (tx_c k) (tx_c t) with v | v
        · exact v
        · exact absurd (tx_c_inj ht.2 hkk (by omega)) w
      refine tx_out hl (fun s hs' => ?_)
      rcases List.mem_cons.mp hs' with v | v
      · rw [v]; exact w1
      · have := (tx_srt_c (tx_srt_app hs).2.1).1 s v
        omega
    refine tx_bo h5 (by omega) e1 e5 e6 ?_
    refine tx_un (l := []) h5 e1 (tx_ls_nil _ _) (by rw [List.length_nil]; omega) (fun b6 b7 hs => ?_)
    refine tx_tb h5 e1 (nm_r (e' := nI t1.length) (by rw [pk_sub e5, e7]) ⟨pk_in t1.length 16 (by omega), ?_⟩)
    have hw : tx_le b6 b7 t1.length t := by
      have q := hs.2 t1.length (by show t1.length < b.2.length; omega)
      have q' : tx_le b6 b7 t1.length (tx_at [] b.2 t1.length) := q
      rw [e2, tx_at_mid] at q'
      exact q'
    rw [nI_clamp (show t1.length < 2 ^ 31 by omega), hw.1]
    refine pk_eq t.length k.length (fun w => tx_sw h1 (by omega) hw ht ?_) (fun w => H0 (ne (fun v => w (by rw [v]))) _ ⟨h1, h2, Bs, h3, h4, h5⟩) rfl h1.2.1 (by omega) (by omega)
    have lc := tx_lcp_le k t
    refine pk_eq (tx_lcp k t) k.length (fun v => ?_) (fun v => H0 (ne (fun x => v ?_)) _ ⟨h1, h2, Bs, h3, h4, h5⟩) rfl h1.2.1 (by omega) (by omega)
    · have et : k = t := tx_at_ext (d := 0) k t w.symm (fun i hi => tx_lcp_eq k t i (by omega))
      exact H1 B (by rw [et]) _ ⟨h1, h2, Bs, h3, h4, h5⟩
    · rw [x]
      exact tx_lcp_u (Nat.le_refl _) (Nat.le_refl _) (fun _ _ => rfl) (fun q => absurd q (Nat.lt_irrefl _))
/-! before -/
theorem tx_before {post : Int32 → St1 → Prop} (h : tx_S k (A ++ B) u) (hl : tx_lo k A) (hh : tx_hi k B) (H : ∀ u', tx_S k (A ++ B) u' → post (nI A.length) u') : wpX_before post u := by
  obtain ⟨kl, bl, tot, fb, fi, li, a1, a2, a3, a4, a5, a6, a7⟩ := u
  obtain ⟨h1, h2, Bs, h3, h4, h5⟩ := h
  exact tx_clS h1 h3 h4 h5 hl hh (fun fb' fi' _ => H _ ⟨h1, h2, Bs, h3, h4, h5⟩)
end
end
section
theorem tx_ins_srt {k : List Nat} {A B : List (List Nat)} (h : tx_srt (A ++ B)) (hl : tx_lo k A) (hh : tx_hi k B) (hn : k ∉ A ++ B) (ho : ∀ t, t ∈ A ++ B → tx_ok t) (hk : tx_kk k) : tx_srt (A ++ k :: B) := by
  obtain ⟨s1, s2, s3⟩ := tx_srt_app h
  have st : ∀ t, t ∈ B → tx_c k < tx_c t := by
    intro t ht
    have q := hh t ht
    rcases Nat.lt_or_ge (tx_c k) (tx_c t) with v | v
    · exact v
    · have e := tx_c_inj (ho t (List.mem_append_right _ ht)).2 hk (by omega)
      rw [e] at ht
      exact absurd (List.mem_append_right _ ht) hn
  refine tx_srt_mk s1 (List.pairwise_cons.mpr ⟨st, s2⟩) (fun a ha b hb => ?_)
  rcases List.mem_cons.mp hb with e | e
  · rw [e]; exact hl a ha
  · exact s3 a ha b e
theorem tx_del_srt {k : List Nat} {A B : List (List Nat)} (h : tx_srt (A ++ k :: B)) : tx_srt (A ++ B) := by
  obtain ⟨s1, s2, s3⟩ := tx_srt_app h
  exact tx_srt_mk s1 (tx_srt_c s2).2 (fun a ha b hb => s3 a ha b (List.mem_cons_of_mem _ hb))
section
variable {k : List Nat} {F A B : List (List Nat)} {u : St1}
/-! insert -/
theorem tx_i53 {post : Int32 → St1 → Prop} {x1 : Int32} {P Q Bs : List tx_Bk} {b : tx_Bk} {t1 t2 : List (List Nat)} {kl bl tot li : Int32} {a1 a2 a3 a4 a5 a6 a7 : Nat → Int32} (hk : tx_ky k kl a1) (hk0 : 0 < k.length) (hp : tx_ph Bs bl a2 a3 a4 a5) (e : Bs = P ++ b :: Q) (eb : b.2 = t1 ++ t2) (hB : Bs.length < 16)
    (H : ∀ N bl' li' a2' a3' a4' a5' a6' a7', tx_flat N = t1 ++ k :: t2 → tx_sz N (t1 ++ k :: t2) → tx_ph (P ++ (N ++ Q)) bl' a2' a3' a4' a5' → post x1 (kl, bl', tot + 1, nI P.length, nI t1.length, li', a1, a2', a3', a4', a5', a6', a7')) :
    wX_insert_53 post x1 kl bl tot (nI P.length) (nI t1.length) li a1 a2 a3 a4 a5 a6 a7 := by
  have hb := (tx_ph_at hp e).2.2.2.1
  have lb : b.2.length = (t1 ++ t2).length := by rw [eb]
  have lk : (t1 ++ k :: t2).length = (t1 ++ t2).length + 1 := by rw [List.length_append, List.length_append, List.length_cons]; omega
  unfold wX_insert_53
  refine tx_un (l := []) hp e (tx_ls_nil _ _) (by rw [List.length_nil]; omega) (fun b6 b7 hs => ?_)
  have hs' : tx_ls (t1 ++ t2) b6 b7 := by rw [← eb]; exact hs
  have go := tx_pu (post := fun u => match u with | (f0_keyLength_90, f0_blocks_91, f0_total_92, f0_foundBlock_93, f0_foundInside_94, f0_listed_95, am711_98, am712_101, am713_104, am714_107, am715_110, am716_113, am717_116) => (wpX_storeList (fun u => match u with | (f0_keyLength_118, f0_blocks_119, f0_total_120, f0_foundBlock_121, f0_foundInside_122, f0_listed_123, am801_126, am802_129, am803_132, am804_135, am805_138, am806_141, am807_144) => (∀ f_145, f_145 = f0_total_120 + 1 → (post x1 (f0_keyLength_118, f0_blocks_119, f_145, f0_foundBlock_121, f0_foundInside_122, f0_listed_123, am801_126, am802_129, am803_132, am804_135, am805_138, am806_141, am807_144)))) (f0_keyLength_90, f0_blocks_91, f0_total_92, f0_foundBlock_93, f0_foundInside_94, f0_listed_95, am711_98, am712_101, am713_104, am714_107, am715_110, am716_113, am717_116) f0_foundBlock_93 1)) (bl := bl) (tot := tot) (fb := nI P.length) (fi := nI t1.length) (a2 := a2) (a3 := a3) (a4 := a4) (a5 := a5) hk hk0 hs' (by omega) (fun c6 c7 hc => tx_st1 hp e rfl hB hc (by omega) (fun N bl' d2 d3 d4 d5 f1 f2 f3 => nm_e (H N bl' _ d2 d3 d4 d5 c6 c7 f1 f2 f3)))
  rw [← eb] at go
  exact go
theorem tx_ins {post : Int32 → St1 → Prop} (h : tx_S k (A ++ B) u) (hl : tx_lo k A) (hh : tx_hi k B) (Hn : (k.length = 0 ∨ 40 ≤ (A ++ B).length ∨ k ∈ A ++ B) → ∀ u', tx_S k (A ++ B) u' → post (-1) u') (Hy : k ∉ A ++ B → 0 < k.length → (A ++ B).length < 40 → ∀ u', tx_S k (A ++ k :: B) u' → post (nI A.length) u') : wpX_insert post u := by
  obtain ⟨hs, hn, hok, hkk⟩ := tx_S_srt h
  have k6 := hkk.1
  obtain ⟨kl, bl, tot, fb, fi, li, a1, a2, a3, a4, a5, a6, a7⟩ := u
  have h1 := h.1.2.1
  have h2 := h.2.1
  refine pk_eq k.length 0 (fun z => Hn (Or.inl z) _ h) (fun z => ?_) h1 rfl (by omega) (by omega)
  refine pk_le 40 (A ++ B).length (fun y => Hn (Or.inr (Or.inl y)) _ h) (fun y => ?_) rfl h2 (by omega) (by omega)
  refine tx_held h hl hh (fun B' eB u' hu => ?_) (fun ho u' hu => ?_)
  · obtain ⟨kl, bl, tot, fb, fi, li, a1, a2, a3, a4, a5, a6, a7⟩ := u'
    exact br_f (by decide) (Hn (Or.inr (Or.inr (by rw [eB]; exact List.mem_append_right _ List.mem_cons_self))) _ hu)
  · obtain ⟨kl, bl, tot, fb, fi, li, a1, a2, a3, a4, a5, a6, a7⟩ := u'
    obtain ⟨g1, g2, Bs, g3, g4, g5⟩ := hu
    have b13 := tx_inv_len g4
    have ll : (A ++ k :: B).length = (A ++ B).length + 1 := by rw [List.length_append, List.length_append, List.length_cons]; omega
    have fin : ∀ (P Q N : List tx_Bk) (t1 t2 : List (List Nat)) (bl' fb' fi' li' : Int32) (b2 b3 b4 b5 b6 b7 : Nat → Int32), A = tx_flat P ++ t1 → B = t2 ++ tx_flat Q → (∀ c, c ∈ P ++ Q → c.2 ≠ []) → (P ++ Q ≠ [] → (∀ c, c ∈ P ++ Q → 3 ≤ c.2.length) ∧ 3 ≤ (t1 ++ k :: t2).length) → tx_flat N = t1 ++ k :: t2 → tx_sz N (t1 ++ k :: t2) → tx_ph (P ++ (N ++ Q)) bl' b2 b3 b4 b5 → post (nI A.length) (kl, bl', tot + 1, fb', fi', li', a1, b2, b3, b4, b5, b6, b7) := by
      intro P Q N t1 t2 bl' fb' fi' li' b2 b3 b4 b5 b6 b7 e1 e2 e3 e4 e5 e6 e7
      have ef : tx_flat (P ++ (N ++ Q)) = A ++ k :: B := by
        rw [tx_flat_app, tx_flat_app, e5, e1, e2, List.append_assoc, List.append_assoc]
        rfl
      obtain ⟨v1, v2⟩ := tx_inv_N e3 e4 e6
      refine Hy ho (by omega) y _ ⟨g1, by rw [g2, nI_1, ll], P ++ (N ++ Q), ef, ⟨?_, v1, v2, ?_⟩, e7⟩
      · rw [ef]
        exact tx_ins_srt hs hl hh ho hok hkk
      · rw [ef, ll]
        exact y
    refine br_t rfl (tx_clS g1 g3 g4 g5 hl hh (fun fb' fi' hq => ?_))
    refine pk_eq Bs.length 0 (fun w => ?_) (fun w => ?_) g5.1 rfl (by omega) (by omega)
    · have eB : Bs = [] := List.eq_nil_of_length_eq_zero w
      have eA : A = [] ∧ B = [] := by
        rw [eB] at g3
        exact List.append_eq_nil_iff.mp g3.symm
      refine tx_op (P := []) (Q := Bs) g5 rfl (by omega) rfl (fun s bl' b2 b3 b4 hp => ?_)
      rw [eB] at hp
      refine tx_i53 (P := []) (Q := []) (b := (s, [])) (t1 := []) (t2 := []) g1 (by omega) hp rfl rfl (show (1 : Nat) < 16 by decide) (fun N bl' li' c2 c3 c4 c5 c6 c7 f1 f2 f3 => ?_)
      exact fin [] [] N [] [] _ _ _ _ _ _ _ _ _ _ eA.1 eA.2 (fun c hc => by cases hc) (fun q => absurd rfl q) f1 f2 f3
    · rcases hq with ⟨q1, q2⟩ | ⟨P, s, t1, t2, Q, q1, q2, q3, q4, q5⟩
      · rw [q1] at w
        exact absurd rfl w
      · rw [q4, q5]
        refine tx_i53 (b := (s, t1 ++ t2)) g1 (by omega) g5 q1 rfl (by omega) (fun N bl' li' c2 c3 c4 c5 c6 c7 f1 f2 f3 => ?_)
        have mem : ∀ c, c ∈ P ++ Q → c ∈ Bs := fun c hc => by rw [q1]; exact tx_mem_mid.mpr (Or.inr hc)
        refine fin P Q N t1 t2 _ _ _ _ _ _ _ _ _ _ q2 q3 (fun c hc => g4.2.1 c (mem c hc)) (fun q => ?_) f1 f2 f3
        have two : 2 ≤ Bs.length := by
          have : 0 < (P ++ Q).length := List.length_pos_iff.mpr q
          rw [List.length_append] at this
          rw [q1, List.length_append, List.length_cons]
          omega
        refine ⟨fun c hc => g4.2.2.1 two c (mem c hc), ?_⟩
        have r : 3 ≤ (t1 ++ t2).length := g4.2.2.1 two (s, t1 ++ t2) (by rw [q1]; exact tx_mem_mid.mpr (Or.inl rfl))
        rw [List.length_append] at r
        rw [List.length_append, List.length_cons]
        omega
/-! delete -/
theorem tx_del {post : Int32 → St1 → Prop} (h : tx_S k F u) (Hn : k ∉ F → ∀ u', tx_S k F u' → post (-1) u') (Hy : ∀ A B, F = A ++ k :: B → ∀ u', tx_S k (A ++ B) u' → post (nI A.length) u') : wpX_delete post u := by
  obtain ⟨hs, hn, hok, hkk⟩ := tx_S_srt h
  obtain ⟨A, B, eF, hl, hh⟩ := tx_sp k F hs
  subst eF
  obtain ⟨kl, bl, tot, fb, fi, li, a1, a2, a3, a4, a5, a6, a7⟩ := u
  unfold wpX_delete
  refine tx_held h hl hh (fun B' eB u' hu => ?_) (fun ho u' hu => ?_)
  rotate_left
  · obtain ⟨kl, bl, tot, fb, fi, li, a1, a2, a3, a4, a5, a6, a7⟩ := u'
    exact br_t rfl (Hn ho _ hu)
  subst eB
  obtain ⟨kl, bl, tot, fb, fi, li, a1, a2, a3, a4, a5, a6, a7⟩ := u'
  obtain ⟨g1, g2, Bs, g3, g4, g5⟩ := hu
  have b13 := tx_inv_len g4
  have Hy' := Hy A B' rfl
  clear Hy Hn h
  have ll : (A ++ k :: B').length = (A ++ B').length + 1 := by rw [List.length_append, List.length_append, List.length_cons]; omega
  have lA : (A ++ B').length = A.length + B'.length := List.length_append
  refine br_f (by decide) (tx_clS g1 g3 g4 g5 hl hh (fun fb' fi' _ => ?_))
  obtain ⟨P, b, Q, t1, t2, e1, e2, e3, e4, e5, e6, e7⟩ := tx_rk g3
  have hb := (tx_ph_at g5 e1).2.2.2.1
  have lb : b.2.length = t1.length + (t2.length + 1) := by rw [e2, List.length_append, List.length_cons]
  have lt : (t1 ++ t2).length = t1.length + t2.length := List.length_append
  have lB : Bs.length = P.length + (Q.length + 1) := by rw [e1, List.length_append, List.length_cons]
  have fin : ∀ (P' Q' N : List tx_Bk) (l : List (List Nat)) (bl' fb' fi' li' : Int32) (b2 b3 b4 b5 b6 b7 : Nat → Int32), tx_flat P' ++ (l ++ tx_flat Q') = A ++ B' → (∀ c, c ∈ P' ++ Q' → c ∈ P ++ Q) → (P' ++ Q' ≠ [] → 3 ≤ l.length) → tx_flat N = l → tx_sz N l → tx_ph (P' ++ (N ++ Q')) bl' b2 b3 b4 b5 → post (nI A.length) (kl, bl', nI (A ++ B').length, fb', fi', li', a1, b2, b3, b4, b5, b6, b7) := by
    intro P' Q' N l bl' fb' fi' li' b2 b3 b4 b5 b6 b7 f1 f2 f3 f4 f5 f6
    have ef : tx_flat (P' ++ (N ++ Q')) = A ++ B' := by
      rw [tx_flat_app, tx_flat_app, f4, f1]
    have mem : ∀ c, c ∈ P' ++ Q' → c ∈ Bs := fun c hc => by rw [e1]; exact tx_mem_mid.mpr (Or.inr (f2 c hc))
    obtain ⟨v1, v2⟩ := tx_inv_N (fun c hc => g4.2.1 c (mem c hc)) (fun q => ⟨fun c hc => g4.2.2.1 (by
      have : 0 < (P ++ Q).length := by
        obtain ⟨c, hc⟩ := List.exists_mem_of_ne_nil _ q
        exact List.length_pos_of_mem (f2 c hc)
      rw [List.length_append] at this
      omega) c (mem c hc), f3 q⟩) f5
    refine Hy' _ ⟨g1, rfl, P' ++ (N ++ Q'), ef, ⟨?_, v1, v2, ?_⟩, f6⟩
    · rw [ef]
      exact tx_del_srt hs
    · rw [ef]
      omega
  have et : tot - 1 = nI (A ++ B').length := by rw [g2, ll, nI_pred]
  have fl1 : tx_flat P ++ ((t1 ++ t2) ++ tx_flat Q) = A ++ B' := by rw [e3, e4, List.append_assoc, List.append_assoc]
  refine tx_bo g5 (by omega) e1 e5 e6 ?_
  refine tx_un (l := []) g5 e1 (tx_ls_nil _ _) (by rw [List.length_nil]; omega) (fun b6 b7 hs => ?_)
  refine tx_tb g5 e1 (nm_r (e' := nI t1.length) (by rw [pk_sub e5, e7]) ?_)
  have hs' : tx_ls (t1 ++ k :: t2) b6 b7 := by rw [← e2]; exact hs
  show wpX_takeFromList _ (kl, bl, tot, fb', fi', nI b.2.length, a1, a2, a3, a4, a5, b6, b7) (nI t1.length)
  rw [e2]
  refine tx_ta hs' (by rw [List.length_append, List.length_cons]; omega) (fun c6 c7 hc => nm_r et ?_)
  have one : wX_delete_70 post (nI A.length) (nI P.length) kl bl (nI (A ++ B').length) fb' fi' (nI (t1 ++ t2).length) a1 a2 a3 a4 a5 c6 c7 ∨ ((t1 ++ t2).length < 3 ∧ Bs.length ≠ 1) := by
    by_cases w : (t1 ++ t2).length < 3 ∧ Bs.length ≠ 1
    · exact Or.inr w
    · refine Or.inl ?_
      unfold wX_delete_70
      refine tx_st1 g5 e1 rfl (by omega) hc (by omega) (fun N bl' d2 d3 d4 d5 f1 f2 f3 => fin P Q N (t1 ++ t2) bl' _ _ _ d2 d3 d4 d5 _ _ fl1 (fun _ z => z) (fun q => ?_) f1 f2 f3)
      have : 0 < (P ++ Q).length := List.length_pos_iff.mpr q
      rw [List.length_append] at this
      omega
  refine pk_le 3 (t1 ++ t2).length (fun z => ?_) (fun z => ?_) rfl rfl (by omega) (by omega)
  · exact one.resolve_right (by omega)
  refine pk_eq Bs.length 1 (fun y => ?_) (fun y => ?_) g5.1 rfl (by omega) (by omega)
  · exact one.resolve_right (by omega)
  have two : 2 ≤ Bs.length := by omega
  have b3 : 3 ≤ b.2.length := g4.2.2.1 two b (by rw [e1]; exact tx_mem_mid.mpr (Or.inl rfl))
  refine pk_le Bs.length (P.length + 1) (fun x => ?_) (fun x => ?_) g5.1 (nI_1 _) (by omega) (by omega)
  · have eQ : Q = [] := List.eq_nil_of_length_eq_zero (by omega)
    obtain ⟨P', c, eP⟩ : ∃ P' c, P = P' ++ [c] := by
      rcases tx_snoc P with q | ⟨P', c, q⟩
      · have : P.length = 0 := by rw [q]; rfl
        omega
      · exact ⟨P', c, q⟩
    have lP : P.length = P'.length + 1 := by rw [eP, List.length_append]; rfl
    have e8 : Bs = P' ++ c :: (b :: Q) := by rw [e1, eP, List.append_assoc]; rfl
    have hc6 := (tx_ph_at g5 e8).2.2.2.1
    have c3 : 3 ≤ c.2.length := g4.2.2.1 two c (by rw [e8]; exact tx_mem_mid.mpr (Or.inl rfl))
    have fP : tx_flat P = tx_flat P' ++ c.2 := by
      rw [eP, tx_flat_app]
      show _ ++ (c.2 ++ []) = _
      rw [List.append_nil]
    have lf : (tx_flat P).length = (tx_flat P').length + c.2.length := by rw [fP, List.length_append]
    have lct : (c.2 ++ t1).length = c.2.length + t1.length := List.length_append
    have em : nI P.length - 1 = nI P'.length := by rw [lP, nI_pred]
    rw [em]
    refine tx_un (l := []) g5 e8 (tx_ls_nil _ _) (by rw [List.length_nil]; omega) (fun d6 d7 hd => ?_)
    have hd' : tx_ls c.2 d6 d7 := hd
    refine tx_un (l := c.2) g5 e1 hd' (by omega) (fun x6 x7 hx => ?_)
    refine tx_tb g5 e8 (nm_r (e' := nI (c.2 ++ t1).length) (by rw [pk_sub (by omega), lct]; congr 1; omega) ?_)
    have el : c.2 ++ b.2 = (c.2 ++ t1) ++ k :: t2 := by rw [e2, List.append_assoc]
    rw [el] at hx
    rw [el]
    refine tx_ta hx (by rw [List.length_append, List.length_cons]; omega) (fun y6 y7 hy => ?_)
    have l9 : (c.2 ++ t1 ++ t2).length = c.2.length + t1.length + t2.length := by rw [List.length_append, List.length_append]
    refine tx_st2 (P := P') (b := c) (c := b) (Q := Q) g5 e8 rfl hy (by omega) (by omega) (fun N bl' d2 d3 d4 d5 f1 f2 f3 => fin P' Q N (c.2 ++ t1 ++ t2) bl' _ _ _ d2 d3 d4 d5 _ _ ?_ (fun q hq => ?_) (fun _ => by omega) f1 f2 f3)
    · rw [← fl1, fP]
      simp only [List.append_assoc]
    · rw [eP]
      rcases List.mem_append.mp hq with v | v
      · exact List.mem_append_left _ (List.mem_append_left _ v)
      · exact List.mem_append_right _ v
  · cases Q with
    | nil => exact absurd x (by rw [lB, List.length_nil]; omega)
    | cons c Q' =>
      have e8 : Bs = (P ++ [b]) ++ c :: Q' := by rw [e1, List.append_assoc]; rfl
      have lP : (P ++ [b]).length = P.length + 1 := by rw [List.length_append]; rfl
      have hc6 := (tx_ph_at g5 e8).2.2.2.1
      have c3 : 3 ≤ c.2.length := g4.2.2.1 two c (by rw [e8]; exact tx_mem_mid.mpr (Or.inl rfl))
      rw [nI_1, ← lP]
      refine tx_un (l := t1 ++ t2) g5 e8 hc (by omega) (fun d6 d7 hd => ?_)
      have l9 : (t1 ++ t2 ++ c.2).length = (t1 ++ t2).length + c.2.length := List.length_append
      refine tx_st2 (P := P) (b := b) (c := c) (Q := Q') g5 e1 rfl hd (by omega) (by omega) (fun N bl' d2 d3 d4 d5 f1 f2 f3 => fin P Q' N (t1 ++ t2 ++ c.2) bl' _ _ _ d2 d3 d4 d5 _ _ ?_ (fun q hq => ?_) (fun _ => by omega) f1 f2 f3)
      · rw [← fl1]
        show tx_flat P ++ (t1 ++ t2 ++ c.2 ++ tx_flat Q') = tx_flat P ++ (t1 ++ t2 ++ (c.2 ++ tx_flat Q'))
        simp only [List.append_assoc]
      · rcases List.mem_append.mp hq with v | v
        · exact List.mem_append_left _ v
        · exact List.mem_append_right _ (List.mem_cons_of_mem _ v)
end
end
section
section
variable {k : List Nat} {F A B : List (List Nat)} {u : St1}
/-! the key -/
theorem tx_type {post : Int32 → St1 → Prop} {x : Int32} (h : tx_S k F u) (H : ∀ r k' u', tx_S k' F u' → post r u') : wpX_type post u x := by
  obtain ⟨kl, bl, tot, fb, fi, li, a1, a2, a3, a4, a5, a6, a7⟩ := u
  have h1 := h.1
  have k6 := h1.1.1
  refine br_c (fun _ => H _ k _ h) (fun z => br_c (fun _ => H _ k _ h) (fun y => ?_))
  obtain ⟨j, hj, ex⟩ := nI_of2 (M := 9) (n := 9) rfl z (Int32.not_lt.mp y)
  refine pk_lt k.length 6 (fun w => ⟨pk_in k.length 6 w h1.2.1, ?_⟩) (fun _ => H _ k _ h) h1.2.1 rfl (by omega) (by omega)
  rw [h1.2.1, nI_clamp (show k.length < 2 ^ 31 by omega), ex]
  refine nm_e (nm_e (H _ (k ++ [j]) _ ⟨⟨⟨?_, ?_⟩, ?_, ?_⟩, h.2⟩))
  · rw [List.length_append, List.length_cons, List.length_nil]; omega
  · intro t ht
    rcases List.mem_append.mp ht with e | e
    · exact h1.1.2 t e
    · rw [List.mem_singleton.mp e]; exact hj
  · rw [nI_1, List.length_append]; rfl
  · refine tx_ar_app (tx_ar_cg h1.2.2 (fun i _ hi => pk_un (by omega))) (tx_ar_mk ?_ (tx_ar_nil _ _))
    rw [Nat.zero_add, pk_us]
theorem tx_back {post : Int32 → St1 → Prop} (h : tx_S k F u) (H : ∀ r k' u', tx_S k' F u' → post r u') : wpX_back post u := by
  obtain ⟨kl, bl, tot, fb, fi, li, a1, a2, a3, a4, a5, a6, a7⟩ := u
  have h1 := h.1
  have k6 := h1.1.1
  refine pk_eq k.length 0 (fun _ => H _ k _ h) (fun z => ?_) h1.2.1 rfl (by omega) (by omega)
  rcases tx_snoc k with e | ⟨k', x, e⟩
  · rw [e] at z
    exact absurd rfl z
  · have e' : k = k' ++ [x] := e
    have el : k.length = k'.length + 1 := by rw [e', List.length_append]; rfl
    refine nm_r (e' := nI k'.length) (by rw [h1.2.1, el, nI_pred]) ⟨pk_in k'.length 6 (by omega), H _ k' _ ⟨⟨⟨by omega, fun t ht => h1.1.2 t ?_⟩, rfl, ?_⟩, h.2⟩⟩
    · rw [e']; exact List.mem_append_left _ ht
    · have q := h1.2.2
      rw [e'] at q
      exact tx_ar_l q
theorem tx_erase {post : St1 → Prop} (h : tx_S k F u) (H : ∀ u', tx_S [] F u' → post u') : wpX_erase post u := by
  obtain ⟨kl, bl, tot, fb, fi, li, a1, a2, a3, a4, a5, a6, a7⟩ := u
  exact H _ ⟨⟨⟨Nat.zero_le _, fun t ht => (by cases ht)⟩, rfl, tx_ar_nil _ _⟩, h.2⟩
theorem tx_size {post : Int32 → Prop} (h : tx_S k F u) (H : post (nI F.length)) : wpX_size post u := by
  obtain ⟨kl, bl, tot, fb, fi, li, a1, a2, a3, a4, a5, a6, a7⟩ := u
  have h2 : tot = nI F.length := h.2.1
  subst h2
  exact H
theorem tx_loadA {post : Int32 → St1 → Prop} {j : Nat} (hj : j < 2 ^ 31) (h : tx_S k F u) (H : ∀ r k' u', tx_S k' F u' → post r u') : wpX_load post u (nI j) := by
  rcases Nat.lt_or_ge j F.length with z | z
  · obtain ⟨P, Q, e, hp⟩ := tx_split (d := []) F j z
    generalize tx_at [] F j = t at e
    subst e
    rw [← hp]
    exact tx_load h (fun u' hu => H _ t _ hu)
  · exact tx_load_n h z hj (H _ k _ h)
/-! code -/
def tx_R (k : List Nat) : Nat → Nat
  | 0 => 0
  | i + 1 => tx_R k i * 11 + (if i < k.length then tx_at 0 k i + 1 else 0)
theorem tx_R6 (k : List Nat) (h : k.length ≤ 6) : tx_R k 6 = tx_c k := by
  unfold tx_c
  match k, h with
  | [], _ => rfl
  | [a], _ => simp [tx_R, tx_at, tx_cd]; omega
  | [a, b], _ => simp [tx_R, tx_at, tx_cd]; omega
  | [a, b, c], _ => simp [tx_R, tx_at, tx_cd]; omega
  | [a, b, c, d], _ => simp [tx_R, tx_at, tx_cd]; omega
  | [a, b, c, d, e], _ => simp [tx_R, tx_at, tx_cd]; omega
  | [a, b, c, d, e, f], _ => simp [tx_R, tx_at, tx_cd]; omega
  | a :: b :: c :: d :: e :: f :: g :: l, h => exact absurd h (by simp only [List.length_cons]; omega)
theorem tx_code {post : Int32 → Prop} (h : tx_S k F u) (H : post (nI (tx_c k))) : wpL_code post u := by
  obtain ⟨kl, bl, tot, fb, fi, li, a1, a2, a3, a4, a5, a6, a7⟩ := u
  have h1 := h.1
  have k6 := h1.1.1
  rw [← tx_R6 k k6] at H
  refine pk_loop (fun n i x => wL_code_4 post kl bl tot fb fi li a1 a2 a3 a4 a5 a6 a7 n x (nI i)) (fun i x => x = nI (tx_R k i)) 6 0 0 (by omega) rfl (fun n s hs => ?_) (fun n i s hi hs hw => ?_)
  · subst hs
    exact br_t (by decide) H
  · subst hs
    have e11 : nI (tx_R k i) * 11 = nI (tx_R k i * 11) := pk_mul _ 11
    refine pk_le 6 i (fun z => absurd z (by omega)) (fun _ => ?_) rfl rfl (by omega) (by omega)
    refine br_f (nI_pos (by omega)) (pk_lt i k.length (fun z => ⟨pk_in i 6 hi, ?_⟩) (fun z => ?_) rfl h1.2.1 (by omega) (by omega))
    · refine nm_r (e' := nI (tx_R k (i + 1))) ?_ (nm_r (nI_1 i) (hw _ rfl))
      show _ = nI (tx_R k i * 11 + (if i < k.length then tx_at 0 k i + 1 else 0))
      rw [if_pos z, nI_clamp (show i < 2 ^ 31 by omega), tx_ky_at h1 z, e11, nI_add, nI_1, Nat.add_assoc]
    · refine nm_r (e' := nI (tx_R k (i + 1))) ?_ (nm_r (nI_1 i) (hw _ rfl))
      show _ = nI (tx_R k i * 11 + (if i < k.length then tx_at 0 k i + 1 else 0))
      rw [if_neg (by omega), e11, Int32.add_assoc, show (-1 : Int32) + 1 = 0 from by decide, Int32.add_zero, Nat.add_zero]
/-! ranked -/
theorem tx_ra9 {post : Int32 → St1 → Prop} (H : ∀ k' u', tx_S k' F u' → post 1 u') : ∀ (B A : List (List Nat)) (k : List Nat) (last : Nat) (kl bl tot fb fi li : Int32) (a1 a2 a3 a4 a5 a6 a7 : Nat → Int32), F = A ++ B → tx_S k F (kl, bl, tot, fb, fi, li, a1, a2, a3, a4, a5, a6, a7) → (∀ t, t ∈ B → last < tx_c t) → last < 1771561 → wL_ranked_9 post (nI F.length) (B.length + 1) (nI last) (nI A.length) kl bl tot fb fi li a1 a2 a3 a4 a5 a6 a7
  | [], A, k, last, kl, bl, tot, fb, fi, li, a1, a2, a3, a4, a5, a6, a7, e, h, hb, hl => by
    have n40 := (tx_S_srt h).2.1
    have el : F.length = A.length := by rw [e, List.append_nil]
    exact pk_le F.length A.length (fun _ => tx_load_n h (Nat.le_refl _) (by omega) (br_t rfl (H k _ h))) (fun z => absurd z (by omega)) rfl rfl (by omega) (by omega)
  | t :: B, A, k, last, kl, bl, tot, fb, fi, li, a1, a2, a3, a4, a5, a6, a7, e, h, hb, hl => by
    obtain ⟨hs, n40, hok, hkk⟩ := tx_S_srt h
    have el : F.length = A.length + (B.length + 1) := by rw [e, List.length_append, List.length_cons]
    have ht : tx_ok t := hok t (by rw [e]; exact List.mem_append_right _ List.mem_cons_self)
    have t6 := ht.2.1
    have t0 := ht.1
    have ct := tx_c_lt ht.2
    have ln := hb t List.mem_cons_self
    have hs' : tx_srt (A ++ t :: B) := by rw [← e]; exact hs
    obtain ⟨lo, hi⟩ := tx_nsp hs'
    have ih := tx_ra9 H B (A ++ [t])
    have eA : (A ++ [t]).length = A.length + 1 := by rw [List.length_append]; rfl
    have eF : F = A ++ [t] ++ B := by rw [e, List.append_assoc]; rfl
    refine pk_le F.length A.length (fun z => absurd z (by omega)) (fun _ => ?_) rfl rfl (by omega) (by omega)
    refine tx_load (by rw [← e]; exact h) (fun u1 hu1 => ?_)
    obtain ⟨kl, bl, tot, fb, fi, li, a1, a2, a3, a4, a5, a6, a7⟩ := u1
    refine pk_lt t.length 1 (fun z => absurd z (by omega)) (fun _ => ?_) rfl rfl (by omega) (by omega)
    refine tx_held hu1 lo hi (fun _ _ u2 hu2 => ?_) (fun z => absurd (List.mem_append_right _ List.mem_cons_self) z)
    obtain ⟨kl, bl, tot, fb, fi, li, a1, a2, a3, a4, a5, a6, a7⟩ := u2
    refine br_f (by decide) (tx_before hu2 lo hi (fun u3 hu3 => ?_))
    obtain ⟨kl, bl, tot, fb, fi, li, a1, a2, a3, a4, a5, a6, a7⟩ := u3
    refine br_t rfl (tx_code hu3 (pk_lt last (tx_c t) (fun _ => nm_r (e' := nI (A ++ [t]).length) (by rw [eA, nI_1]) ?_) (fun z => absurd z (by omega)) rfl rfl (by omega) (by omega)))
    exact ih t (tx_c t) kl bl tot fb fi li a1 a2 a3 a4 a5 a6 a7 eF (by rw [e]; exact hu3) (tx_srt_c (tx_srt_app hs').2.1).1 ct
theorem tx_ranked {post : Int32 → St1 → Prop} (h : tx_S k F u) (H : ∀ k' u', tx_S k' F u' → post 1 u') : wpL_ranked post u := by
  have hok := (tx_S_srt h).2.2.1
  obtain ⟨kl, bl, tot, fb, fi, li, a1, a2, a3, a4, a5, a6, a7⟩ := u
  exact tx_size (post := fun r => ∃ n, wL_ranked_9 post r n 0 0 kl bl tot fb fi li a1 a2 a3 a4 a5 a6 a7) h ⟨F.length + 1, tx_ra9 H F [] k 0 kl bl tot fb fi li a1 a2 a3 a4 a5 a6 a7 rfl h (fun t ht => tx_c_pos (hok t ht)) (by omega)⟩
/-! inserted -/
theorem tx_inserted {post : Int32 → St1 → Prop} (h : tx_S k F u) (H : ∀ k' F' u', tx_S k' F' u' → post 1 u') : wpL_inserted post u := by
  obtain ⟨hs, hn, hok, hkk⟩ := tx_S_srt h
  obtain ⟨A, B, eF, hl, hh⟩ := tx_sp k F hs
  subst eF
  have k6 := hkk.1
  have ll : (A ++ k :: B).length = (A ++ B).length + 1 := by rw [List.length_append, List.length_append, List.length_cons]; omega
  have la : (A ++ B).length = A.length + B.length := List.length_append
  obtain ⟨kl, bl, tot, fb, fi, li, a1, a2, a3, a4, a5, a6, a7⟩ := u
  refine tx_code h (tx_size h (tx_ins h hl hh (fun _ u1 hu1 => ?_) (fun ho k0 n40 u1 hu1 => ?_)))
  · obtain ⟨kl, bl, tot, fb, fi, li, a1, a2, a3, a4, a5, a6, a7⟩ := u1
    exact br_f (by decide) (tx_code hu1 (tx_size hu1 (br_t rfl (br_t rfl (H _ _ _ hu1)))))
  · obtain ⟨kl, bl, tot, fb, fi, li, a1, a2, a3, a4, a5, a6, a7⟩ := u1
    refine br_t (nI_pos' (by omega)) (tx_erase hu1 (fun u2 hu2 => ?_))
    obtain ⟨kl, bl, tot, fb, fi, li, a1, a2, a3, a4, a5, a6, a7⟩ := u2
    refine tx_load hu2 (fun u3 hu3 => ?_)
    obtain ⟨kl, bl, tot, fb, fi, li, a1, a2, a3, a4, a5, a6, a7⟩ := u3
    refine tx_code hu3 (pk_lt k.length 1 (fun z => absurd z (by omega)) (fun _ => br_t rfl ?_) rfl rfl (by omega) (by omega))
    refine tx_del hu3 (fun z => absurd (List.mem_append_right _ List.mem_cons_self) z) (fun A' B' e u4 hu4 => ?_)
    have s3 := (tx_S_srt hu3).1
    obtain ⟨lo1, hi1⟩ := tx_nsp s3
    obtain ⟨lo2, hi2⟩ := tx_nsp (by rw [e] at s3; exact s3)
    obtain ⟨q1, q2⟩ := tx_uq _ _ _ _ e lo1 hi1 lo2 hi2
    injection q2 with _ q3
    subst q1 q3
    obtain ⟨kl, bl, tot, fb, fi, li, a1, a2, a3, a4, a5, a6, a7⟩ := u4
    refine br_t rfl (tx_size hu4 (br_t rfl (tx_held hu4 hl hh (fun B' eB u5 hu5 => ?_) (fun _ u5 hu5 => ?_))))
    · exact absurd (by rw [eB]; exact List.mem_append_right _ List.mem_cons_self) ho
    · obtain ⟨kl, bl, tot, fb, fi, li, a1, a2, a3, a4, a5, a6, a7⟩ := u5
      refine br_t rfl (tx_ins hu5 hl hh (fun z u6 hu6 => ?_) (fun _ _ _ u6 hu6 => ?_))
      · rcases z with z | z | z
        · omega
        · omega
        · exact absurd z ho
      · obtain ⟨kl, bl, tot, fb, fi, li, a1, a2, a3, a4, a5, a6, a7⟩ := u6
        exact br_t rfl (tx_size hu6 (br_t (by rw [ll, nI_1]) (H _ _ _ hu6)))
end
/-! the law -/
section
variable {k : List Nat} {F : List (List Nat)} {post : Int32 → Prop} {L : Nat} {xs : Nat → Int32} {J : Int32 → Int32 → Int32 → Int32 → Int32 → Int32 → Int32 → (Nat → Int32) → (Nat → Int32) → (Nat → Int32) → (Nat → Int32) → (Nat → Int32) → (Nat → Int32) → (Nat → Int32) → Prop} {kc ks i : Nat}
theorem tx_l192 {kl bl tot fb fi li : Int32} {a1 a2 a3 a4 a5 a6 a7 : Nat → Int32} (hi : i < L) (hL : L ≤ 260) (HJ : ∀ k' F' kl bl tot fb fi li a1 a2 a3 a4 a5 a6 a7, tx_S k' F' (kl, bl, tot, fb, fi, li, a1, a2, a3, a4, a5, a6, a7) → J (nI i + 3) kl bl tot fb fi li a1 a2 a3 a4 a5 a6 a7) (h : tx_S k F (kl, bl, tot, fb, fi, li, a1, a2, a3, a4, a5, a6, a7)) :
    wL_law_192 post L xs J (nI i) kc ks kl bl tot fb fi li a1 a2 a3 a4 a5 a6 a7 := by
  refine ⟨pk_in i L hi, br_c (fun _ => tx_ranked h (fun k' u' hu => ?_)) (fun _ => nm_e (HJ _ _ _ _ _ _ _ _ _ _ _ _ _ _ _ h))⟩
  obtain ⟨kl, bl, tot, fb, fi, li, a1, a2, a3, a4, a5, a6, a7⟩ := u'
  exact br_f (by decide) (nm_e (HJ _ _ _ _ _ _ _ _ _ _ _ _ _ _ _ hu))
theorem tx_l183 {kl bl tot fb fi li : Int32} {a1 a2 a3 a4 a5 a6 a7 : Nat → Int32} (hi : i < L) (hL : L ≤ 260) (HJ : ∀ k' F' kl bl tot fb fi li a1 a2 a3 a4 a5 a6 a7, tx_S k' F' (kl, bl, tot, fb, fi, li, a1, a2, a3, a4, a5, a6, a7) → J (nI i + 3) kl bl tot fb fi li a1 a2 a3 a4 a5 a6 a7) (h : tx_S k F (kl, bl, tot, fb, fi, li, a1, a2, a3, a4, a5, a6, a7)) :
    wL_law_183 post L xs J (nI i) kc ks kl bl tot fb fi li a1 a2 a3 a4 a5 a6 a7 := by
  unfold wL_law_183
  refine tx_inserted h (fun k' F' u' hu => ?_)
  obtain ⟨kl, bl, tot, fb, fi, li, a1, a2, a3, a4, a5, a6, a7⟩ := u'
  exact br_f (by decide) (tx_l192 hi hL HJ hu)
theorem tx_l62 {z0 kl bl tot fb fi li : Int32} {a1 a2 a3 a4 a5 a6 a7 : Nat → Int32} (hi : i < L) (hL : L ≤ 260) (HJ : ∀ k' F' kl bl tot fb fi li a1 a2 a3 a4 a5 a6 a7, tx_S k' F' (kl, bl, tot, fb, fi, li, a1, a2, a3, a4, a5, a6, a7) → J (nI i + 3) kl bl tot fb fi li a1 a2 a3 a4 a5 a6 a7) (h : tx_S k F (kl, bl, tot, fb, fi, li, a1, a2, a3, a4, a5, a6, a7)) :
    wL_law_62 post L xs J (nI i) z0 kc ks kl bl tot fb fi li a1 a2 a3 a4 a5 a6 a7 := by
  unfold wL_law_62
  refine tx_type h (fun r k' u' hu => ?_)
  obtain ⟨kl, bl, tot, fb, fi, li, a1, a2, a3, a4, a5, a6, a7⟩ := u'
  exact tx_l192 hi hL HJ hu
theorem tx_l141 {x4 : Int32} (hi : i + 2 < L) (hL : L ≤ 260) (HJ : ∀ k' F' kl bl tot fb fi li a1 a2 a3 a4 a5 a6 a7, tx_S k' F' (kl, bl, tot, fb, fi, li, a1, a2, a3, a4, a5, a6, a7) → J (nI i + 3) kl bl tot fb fi li a1 a2 a3 a4 a5 a6 a7) : ∀ (d c : Nat) (k : List Nat) (F : List (List Nat)) (kl bl tot fb fi li : Int32) (a1 a2 a3 a4 a5 a6 a7 : Nat → Int32), c + d = 6 → tx_S k F (kl, bl, tot, fb, fi, li, a1, a2, a3, a4, a5, a6, a7) →
    wL_law_141 post L xs J (nI i) x4 kc ks (d + 1) (nI c) kl bl tot fb fi li a1 a2 a3 a4 a5 a6 a7
  | 0, c, k, F, kl, bl, tot, fb, fi, li, a1, a2, a3, a4, a5, a6, a7, hc, h =>
    pk_le 6 c (fun _ => tx_l183 (by omega) hL HJ h) (fun z => absurd z (by omega)) rfl rfl (by omega) (by omega)
  | d + 1, c, k, F, kl, bl, tot, fb, fi, li, a1, a2, a3, a4, a5, a6, a7, hc, h => by
    have ih := tx_l141 (x4 := x4) hi hL HJ d (c + 1)
    refine pk_le 6 c (fun z => absurd z (by omega)) (fun _ => ⟨pk_in (i + 2) L hi (tx_n2 i), br_c (fun _ => nm_r (nI_1 c) (ih k F _ _ _ _ _ _ _ _ _ _ _ _ _ (by omega) h)) (fun _ => tx_type h (fun r k' u' hu => ?_))⟩) rfl rfl (by omega) (by omega)
    obtain ⟨kl, bl, tot, fb, fi, li, a1, a2, a3, a4, a5, a6, a7⟩ := u'
    exact nm_r (nI_1 c) (ih k' F _ _ _ _ _ _ _ _ _ _ _ _ _ (by omega) hu)
theorem tx_l10 (hL : L ≤ 260) (hp : post 1) : ∀ (d i : Nat) (k : List Nat) (F : List (List Nat)) (kl bl tot fb fi li : Int32) (a1 a2 a3 a4 a5 a6 a7 : Nat → Int32), L ≤ i + 3 * d + 2 → i ≤ L → tx_S k F (kl, bl, tot, fb, fi, li, a1, a2, a3, a4, a5, a6, a7) →
    wL_law_10 post L xs kc ks (d + 1) (nI i) kl bl tot fb fi li a1 a2 a3 a4 a5 a6 a7
  | 0, i, k, F, kl, bl, tot, fb, fi, li, a1, a2, a3, a4, a5, a6, a7, hd, hi, h => by
    refine pk_lt L (i + 3) (fun _ => tx_ranked h (fun k' u' hu => ?_)) (fun z => absurd z (by omega)) rfl (nI_add i 3) (by omega) (by omega)
    obtain ⟨kl, bl, tot, fb, fi, li, a1, a2, a3, a4, a5, a6, a7⟩ := u'
    exact hp
  | d + 1, i, k, F, kl, bl, tot, fb, fi, li, a1, a2, a3, a4, a5, a6, a7, hd, hi, h => by
    have e3 : nI i + 3 = nI (i + 3) := nI_add i 3
    refine pk_lt L (i + 3) (fun _ => tx_ranked h (fun k' u' hu => ?_)) (fun z => ?_) rfl e3 (by omega) (by omega)
    · obtain ⟨kl, bl, tot, fb, fi, li, a1, a2, a3, a4, a5, a6, a7⟩ := u'
      exact hp
    have HJ : ∀ k' F' kl bl tot fb fi li a1 a2 a3 a4 a5 a6 a7, tx_S k' F' (kl, bl, tot, fb, fi, li, a1, a2, a3, a4, a5, a6, a7) → wL_law_10 post L xs kc ks (d + 1) (nI i + 3) kl bl tot fb fi li a1 a2 a3 a4 a5 a6 a7 := by
      intro k' F' kl bl tot fb fi li a1 a2 a3 a4 a5 a6 a7 hu
      rw [e3]
      exact tx_l10 hL hp d (i + 3) k' F' kl bl tot fb fi li a1 a2 a3 a4 a5 a6 a7 (by omega) (by omega) hu
    have hiL : i < L := by omega
    refine ⟨pk_in i L hiL, fun x3 _ => ⟨pk_in (i + 1) L (by omega) (nI_1 i), fun x4 _ => ?_⟩⟩
    refine br_c (fun _ => br_c (fun _ => br_c (fun _ => tx_erase h (fun u' hu => ?_)) (fun _ => br_c (fun _ => ?_) (fun _ => br_c (fun _ => tx_del h (fun _ u' hu => ?_) (fun A B _ u' hu => ?_)) (fun _ => br_c (fun _ => tx_l183 hiL hL HJ h) (fun _ => tx_erase h (fun u' hu => ?_)))))) (fun _ => tx_back h (fun r k' u' hu => ?_))) (fun _ => br_c (fun _ => tx_l62 hiL hL HJ h) (fun _ => ⟨by decide, tx_l62 hiL hL HJ h⟩))
    · obtain ⟨kl, bl, tot, fb, fi, li, a1, a2, a3, a4, a5, a6, a7⟩ := u'
      exact tx_l192 hiL hL HJ hu
    · obtain ⟨j, hj, ej⟩ := pk_andE x4 (m := 31) 5 rfl
      rw [ej]
      refine tx_loadA (by omega) h (fun r k' u' hu => ?_)
      obtain ⟨kl, bl, tot, fb, fi, li, a1, a2, a3, a4, a5, a6, a7⟩ := u'
      exact tx_l192 hiL hL HJ hu
    · obtain ⟨kl, bl, tot, fb, fi, li, a1, a2, a3, a4, a5, a6, a7⟩ := u'
      exact tx_l192 hiL hL HJ hu
    · obtain ⟨kl, bl, tot, fb, fi, li, a1, a2, a3, a4, a5, a6, a7⟩ := u'
      exact tx_l192 hiL hL HJ hu
    · obtain ⟨kl, bl, tot, fb, fi, li, a1, a2, a3, a4, a5, a6, a7⟩ := u'
      exact ⟨7, tx_l141 (by omega) hL HJ 6 0 [] F _ _ _ _ _ _ _ _ _ _ _ _ _ rfl hu⟩
    · obtain ⟨kl, bl, tot, fb, fi, li, a1, a2, a3, a4, a5, a6, a7⟩ := u'
      exact tx_l192 hiL hL HJ hu
end
end
section
theorem tx_S0 : tx_S [] [] (0, 0, 0, 0, 0, 0, (fun _ => 0), (fun _ => 0), (fun _ => 0), (fun _ => 0), (fun _ => 0), (fun _ => 0), (fun _ => 0)) := by
  refine ⟨⟨⟨Nat.zero_le _, fun t ht => (by cases ht)⟩, rfl, tx_ar_nil _ _⟩, rfl, [], rfl, ⟨List.Pairwise.nil, fun b hb => (by cases hb), fun _ b hb => (by cases hb), Nat.zero_le _⟩, rfl, Nat.zero_le _, List.Pairwise.nil, tx_ar_nil _ _, fun s _ => ⟨fun _ z => (by cases z), fun _ => rfl⟩, fun b hb => (by cases hb)⟩
theorem i_vc (xs : Nat → Int32) (L : Nat) (hL : L ≤ 260) : wpL_law (fun r => r = 1) L xs := by
  refine ⟨7, 934, by omega, by omega, ?_⟩
  refine ⟨by omega, by omega, by omega, by omega, by omega, by omega, by omega, by omega, by omega, by omega, by omega, by omega, by omega, by omega, ?_⟩
  exact ⟨88, tx_l10 (post := fun r => r = 1) hL rfl 87 0 [] [] _ _ _ _ _ _ _ _ _ _ _ _ _ (by omega) (Nat.zero_le _) tx_S0⟩
end
