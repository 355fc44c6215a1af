section
theorem pk_us {f : Nat → Int32} {k : Nat} {x : Int32} : upd f k x k = x := if_pos rfl
theorem pk_un {f : Nat → Int32} {k j : Nat} {x : Int32} (h : j ≠ k) : upd f k x j = f j := if_neg h
theorem pk_sub {a b : Nat} (h : b ≤ a) : nI a - nI b = nI (a - b) := by
  obtain ⟨c, rfl⟩ : ∃ c, a = c + b := ⟨a - b, by omega⟩
  rw [← nI_add, Int32.add_sub_cancel, Nat.add_sub_cancel]
theorem pk_m1 (n : Nat) : nI (n + 1) + (-1) = nI n := by
  rw [← nI_1, Int32.add_assoc, show (1 : Int32) + (-1) = 0 from rfl, Int32.add_zero]
theorem pk_mul (a b : Nat) : nI a * nI b = nI (a * b) := (Int32.ofNat_mul a b).symm
theorem pk_le {x y : Int32} {A B : Prop} (a b : Nat) (f : a ≤ b → A) (g : b < a → B) (hx : x = nI a := by rfl) (hy : y = nI b := by rfl) (ha : a < 2 ^ 31 := by omega) (hb : b < 2 ^ 31 := by omega) : (x ≤ y → A) ∧ (¬ x ≤ y → B) := by
  subst hx hy
  rw [nI_leI ha hb]
  exact ⟨f, fun z => g (by omega)⟩
theorem pk_lt {x y : Int32} {A B : Prop} (a b : Nat) (f : a < b → A) (g : b ≤ a → B) (hx : x = nI a := by rfl) (hy : y = nI b := by rfl) (ha : a < 2 ^ 31 := by omega) (hb : b < 2 ^ 31 := by omega) : (x < y → A) ∧ (¬ x < y → B) := by
  subst hx hy
  rw [nI_ltI ha hb]
  exact ⟨f, fun z => g (by omega)⟩
theorem pk_eq {x y : Int32} {A B : Prop} (a b : Nat) (f : a = b → A) (g : a ≠ b → B) (hx : x = nI a := by rfl) (hy : y = nI b := by rfl) (ha : a < 2 ^ 31 := by omega) (hb : b < 2 ^ 31 := by omega) : (x = y → A) ∧ (¬ x = y → B) := by
  subst hx hy
  rw [nI_eq ha hb]
  exact ⟨f, g⟩
theorem pk_in {x : Int32} (n N : Nat) (h : n < N) (hx : x = nI n := by rfl) (hN : N < 2 ^ 31 := by omega) : vp_in x N := by
  subst hx
  exact vp_in_nI h hN
theorem pk_cl {x : Int32} (n : Nat) (hx : x = nI n := by rfl) (h : n < 2 ^ 31 := by omega) : x.toNatClampNeg = n := by
  subst hx
  exact nI_clamp h
theorem pk_vb (z : Int32) : vp_nar .byte z.toInt8.toInt32 = z.toInt8.toInt32 := by rw [vp_nar_byte]; simp
theorem pk_vs (z : Int32) : vp_nar .short z.toInt16.toInt32 = z.toInt16.toInt32 := by rw [vp_nar_short]; simp
theorem pk_least (P : Nat → Prop) (h : ∃ k, P k) : ∃ k, P k ∧ ∀ j, j < k → ¬ P j := by
  obtain ⟨k, hk⟩ := h
  induction k using Nat.strongRecOn with
  | ind k ih =>
    by_cases e : ∃ j, j < k ∧ P j
    · obtain ⟨j, hj, pj⟩ := e
      exact ih j hj pj
    · exact ⟨k, hk, fun j hj pj => e ⟨j, hj, pj⟩⟩
theorem bs_b {n : Nat} (h : n < 128) : (nI n).toInt8.toInt32 = nI n := lg_i2b_small (by rw [nI_toInt (by omega)]; omega) (by rw [nI_toInt (by omega)]; omega)
theorem bs_s {n : Nat} (h : n < 32768) : (nI n).toInt16.toInt32 = nI n := lg_i2s_small (by rw [nI_toInt (by omega)]; omega) (by rw [nI_toInt (by omega)]; omega)
theorem bs_nb {n : Nat} (h : n < 128) : vp_nar .byte (nI n) = nI n := by rw [vp_nar_byte, bs_b h]
theorem bs_nbb {n : Nat} (h : n < 128) : vp_nar .byte (nI n).toInt8.toInt32 = nI n := by rw [pk_vb, bs_b h]
theorem bs_nss {n : Nat} (h : n < 32768) : vp_nar .short (nI n).toInt16.toInt32 = nI n := by rw [pk_vs, bs_s h]
theorem bs_nb0 : vp_nar .byte 0 = 0 := bs_nb (n := 0) (by decide)
theorem bs_nb1 : vp_nar .byte 1 = 1 := bs_nb (n := 1) (by decide)
theorem bs_nbm : vp_nar .byte (-1) = -1 := by rw [vp_nar_byte]; decide
theorem bs_m1lt : (-1 : Int32) < 0 := by decide
theorem bs_m1le : ¬ (0 : Int32) ≤ -1 := by decide
/-- 4 * s + c as the walks print it -/
theorem bs_ix (s c : Nat) : (4 : Int32) * nI s + nI c = nI (4 * s + c) := by
  rw [← nI_add, ← pk_mul]; rfl
noncomputable def b01 (P : Prop) : Nat := @ite Nat P (Classical.propDecidable P) 1 0
theorem b01_t {P : Prop} (h : P) : b01 P = 1 := by unfold b01; rw [if_pos h]
theorem b01_f {P : Prop} (h : ¬ P) : b01 P = 0 := by unfold b01; rw [if_neg h]
theorem b01_le (P : Prop) : b01 P ≤ 1 := by
  rcases Classical.em P with h | h
  · rw [b01_t h]; omega
  · rw [b01_f h]; omega
theorem b01_c {P Q : Prop} (h : P ↔ Q) : b01 P = b01 Q := by
  rcases Classical.em P with hp | hp
  · rw [b01_t hp, b01_t (h.mp hp)]
  · rw [b01_f hp, b01_f (fun z => hp (h.mpr z))]
/-- the number of k < N with P k -/
noncomputable def cn (P : Nat → Prop) : Nat → Nat
  | 0 => 0
  | k + 1 => cn P k + b01 (P k)
theorem cn_le (P : Nat → Prop) : ∀ N, cn P N ≤ N
  | 0 => Nat.le_refl _
  | N + 1 => by have := cn_le P N; have := b01_le (P N); simp only [cn]; omega
theorem cn_c {P Q : Nat → Prop} : ∀ {N : Nat}, (∀ k, k < N → (P k ↔ Q k)) → cn P N = cn Q N
  | 0, _ => rfl
  | N + 1, h => by
    have a := cn_c (P := P) (Q := Q) (N := N) (fun k hk => h k (by omega))
    have b := b01_c (h N (by omega))
    simp only [cn]; omega
theorem cn_or {P Q R : Nat → Prop} : ∀ {N : Nat}, (∀ k, k < N → (R k ↔ (P k ∨ Q k))) → (∀ k, k < N → P k → Q k → False) → cn R N = cn P N + cn Q N
  | 0, _, _ => rfl
  | N + 1, h, d => by
    have a := cn_or (P := P) (Q := Q) (R := R) (N := N) (fun k hk => h k (by omega)) (fun k hk => d k (by omega))
    have e := h N (by omega)
    have x : b01 (R N) = b01 (P N) + b01 (Q N) := by
      rcases Classical.em (P N) with hp | hp
      · rw [b01_t hp, b01_t (e.mpr (Or.inl hp)), b01_f (fun z => d N (by omega) hp z)]
      · rcases Classical.em (Q N) with hq | hq
        · rw [b01_f hp, b01_t hq, b01_t (e.mpr (Or.inr hq))]
        · rw [b01_f hp, b01_f hq, b01_f (fun z => (e.mp z).elim hp hq)]
    simp only [cn]; omega
theorem cn_mono {P Q : Nat → Prop} : ∀ {N : Nat}, (∀ k, k < N → P k → Q k) → cn P N ≤ cn Q N
  | 0, _ => Nat.le_refl _
  | N + 1, h => by
    have a := cn_mono (P := P) (Q := Q) (N := N) (fun k hk => h k (by omega))
    have b : b01 (P N) ≤ b01 (Q N) := by
      rcases Classical.em (P N) with hp | hp
      · rw [b01_t hp, b01_t (h N (by omega) hp)]; omega
      · rw [b01_f hp]; omega
    simp only [cn]; omega
theorem cn_lt {P Q : Nat → Prop} {a : Nat} (hp : ¬ P a) (hq : Q a) : ∀ {N : Nat}, (∀ k, k < N → P k → Q k) → a < N → cn P N < cn Q N
  | 0, _, h => by omega
  | N + 1, h, ha => by
    simp only [cn]
    rcases Nat.lt_or_ge a N with z | z
    · have x := cn_lt hp hq (N := N) (fun k hk => h k (by omega)) z
      have b : b01 (P N) ≤ b01 (Q N) := by
        rcases Classical.em (P N) with hp | hp
        · rw [b01_t hp, b01_t (h N (by omega) hp)]; omega
        · rw [b01_f hp]; omega
      omega
    · have e : a = N := by omega
      subst e
      have x := cn_mono (P := P) (Q := Q) (N := a) (fun k hk => h k (by omega))
      rw [b01_f hp, b01_t hq]; omega
theorem cn_0 {P : Nat → Prop} : ∀ {N : Nat}, (∀ k, k < N → ¬ P k) → cn P N = 0
  | 0, _ => rfl
  | N + 1, h => by
    have a := cn_0 (P := P) (N := N) (fun k hk => h k (by omega))
    simp only [cn]; rw [a, b01_f (h N (by omega))]
theorem cn_pos {P : Nat → Prop} {a N : Nat} (h : P a) (ha : a < N) : 0 < cn P N := by
  have := cn_lt (P := fun _ => False) (Q := P) (a := a) (fun z => z) h (N := N) (fun _ _ z => z.elim) ha
  omega
theorem cn_ex {P : Nat → Prop} {N : Nat} (h : 0 < cn P N) : ∃ a, a < N ∧ P a := by
  rcases Classical.em (∃ a, a < N ∧ P a) with e | e
  · exact e
  · have := cn_0 (P := P) (N := N) (fun k hk z => e ⟨k, hk, z⟩); omega
end
section
/-! words reversed: sa_rv T e = [T (e-1), .., T 0]; w occurs with end e iff it is a beginning of that -/
def sa_rv (T : Nat → Nat) : Nat → List Nat
  | 0 => []
  | n + 1 => T n :: sa_rv T n
theorem sa_rv_len (T : Nat → Nat) : ∀ n, (sa_rv T n).length = n
  | 0 => rfl
  | n + 1 => by simp [sa_rv, sa_rv_len T n]
def sa_at (T : Nat → Nat) (w : List Nat) (e : Nat) : Prop := w <+: sa_rv T e
def sa_oc (T : Nat → Nat) (p : Nat) (w : List Nat) : Prop := ∃ e, e ≤ p ∧ sa_at T w e
def sa_lm (T : Nat → Nat) (p : Nat) (v : List Nat) : Prop := sa_oc T p v ∧ ∀ a, ∃ e, e ≤ p ∧ sa_at T v e ∧ ¬ sa_at T (v ++ [a]) e
def sa_ex (T : Nat → Nat) (p : Nat) (w v : List Nat) : Prop := w <+: v ∧ ∀ e, e ≤ p → sa_at T w e → sa_at T v e
section
variable {T : Nat → Nat} {p e c : Nat} {u v w x z : List Nat}
theorem sa_at_len (h : sa_at T w e) : w.length ≤ e := by
  have := List.IsPrefix.length_le h
  rw [sa_rv_len] at this; exact this
theorem sa_at_nil : sa_at T [] e := List.nil_prefix
theorem sa_at_self : sa_at T (sa_rv T e) e := List.prefix_rfl
theorem sa_at_cons : sa_at T (c :: w) (e + 1) ↔ c = T e ∧ sa_at T w e := List.cons_prefix_cons
theorem sa_at_cons' (h : sa_at T (c :: w) e) : ∃ e', e = e' + 1 ∧ c = T e' ∧ sa_at T w e' := by
  cases e with
  | zero => have := sa_at_len h; simp at this
  | succ e => exact ⟨e, rfl, (sa_at_cons.mp h).1, (sa_at_cons.mp h).2⟩
theorem sa_at_pre (h : u <+: v) (k : sa_at T v e) : sa_at T u e := List.IsPrefix.trans h k
theorem sa_at_cmp (h : sa_at T u e) (k : sa_at T v e) (l : u.length ≤ v.length) : u <+: v := List.prefix_of_prefix_length_le h k l
theorem sa_pre_grow (h : u <+: v) (l : u.length < v.length) : ∃ a, u ++ [a] <+: v := by
  obtain ⟨t, rfl⟩ := h
  cases t with
  | nil => simp at l
  | cons a t => exact ⟨a, t, by simp⟩
theorem sa_at_grow (h : sa_at T u e) (l : u.length < e) : ∃ a, sa_at T (u ++ [a]) e := sa_pre_grow h (by rw [sa_rv_len]; exact l)
theorem sa_at_eq (h : sa_at T u e) (l : e ≤ u.length) : u = sa_rv T e := List.IsPrefix.eq_of_length_le h (by rw [sa_rv_len]; exact l)
theorem sa_oc_pre (h : u <+: v) (k : sa_oc T p v) : sa_oc T p u := by
  obtain ⟨e, he, k⟩ := k
  exact ⟨e, he, sa_at_pre h k⟩
theorem sa_oc_up (k : sa_oc T p v) : sa_oc T (p + 1) v := by
  obtain ⟨e, he, k⟩ := k
  exact ⟨e, by omega, k⟩
theorem sa_oc_len (k : sa_oc T p v) : v.length ≤ p := by
  obtain ⟨e, he, k⟩ := k
  have := sa_at_len k; omega
theorem sa_oc_ex (h : sa_ex T p w v) (k : sa_oc T p w) : sa_oc T p v := by
  obtain ⟨e, he, k⟩ := k
  exact ⟨e, he, h.2 e he k⟩
theorem sa_oc_s : sa_oc T (p + 1) v ↔ sa_oc T p v ∨ sa_at T v (p + 1) := by
  constructor
  · intro ⟨e, he, k⟩
    rcases Nat.lt_or_ge p e with l | l
    · have : e = p + 1 := by omega
      subst this; exact Or.inr k
    · exact Or.inl ⟨e, l, k⟩
  · intro h
    rcases h with h | h
    · exact sa_oc_up h
    · exact ⟨p + 1, Nat.le_refl _, h⟩
theorem sa_oc_nil : sa_oc T p [] := ⟨0, Nat.zero_le _, sa_at_nil⟩
theorem sa_oc_tail (k : sa_oc T p (c :: v)) : sa_oc T p v := by
  obtain ⟨e, he, k⟩ := k
  obtain ⟨e', rfl, _, k⟩ := sa_at_cons' k
  exact ⟨e', by omega, k⟩
theorem sa_ex_refl : sa_ex T p w w := ⟨List.prefix_rfl, fun _ _ h => h⟩
theorem sa_ex_trans (h : sa_ex T p w v) (k : sa_ex T p v x) : sa_ex T p w x := ⟨List.IsPrefix.trans h.1 k.1, fun e he a => k.2 e he (h.2 e he a)⟩
theorem sa_ex_mid (h : sa_ex T p w v) (a : w <+: u) (b : u <+: v) : sa_ex T p u v := ⟨b, fun e he k => h.2 e he (sa_at_pre a k)⟩
theorem sa_ex_cons (h : sa_ex T p w v) : sa_ex T p (c :: w) (c :: v) := by
  refine ⟨List.cons_prefix_cons.mpr ⟨rfl, h.1⟩, fun e he k => ?_⟩
  obtain ⟨e', rfl, hc, k⟩ := sa_at_cons' k
  exact sa_at_cons.mpr ⟨hc, h.2 e' (by omega) k⟩
/-- an lm word is the longest of its kind -/
theorem sa_lm_max (h : sa_lm T p v) (k : sa_ex T p v x) : x = v := by
  rcases Nat.lt_or_ge v.length x.length with l | l
  · obtain ⟨a, ha⟩ := sa_pre_grow k.1 l
    obtain ⟨e, he, h1, h2⟩ := h.2 a
    exact absurd (sa_at_pre ha (k.2 e he h1)) h2
  · exact (List.IsPrefix.eq_of_length_le k.1 l).symm
theorem sa_lm_uniq (ho : sa_oc T p w) (hv : sa_lm T p v) (hx : sa_lm T p x) (a : sa_ex T p w v) (b : sa_ex T p w x) : v = x := by
  obtain ⟨e, he, k⟩ := ho
  rcases Nat.le_total v.length x.length with l | l
  · have q := sa_at_cmp (a.2 e he k) (b.2 e he k) l
    exact (sa_lm_max hv (sa_ex_mid b a.1 q)).symm
  · have q := sa_at_cmp (b.2 e he k) (a.2 e he k) l
    exact sa_lm_max hx (sa_ex_mid a b.1 q)
theorem sa_lm_nil : sa_lm T p [] := by
  refine ⟨sa_oc_nil, fun a => ⟨0, Nat.zero_le _, sa_at_nil, fun h => ?_⟩⟩
  have := sa_at_len h; simp at this
theorem sa_lm_rv {q : Nat} (h : q ≤ p) : sa_lm T p (sa_rv T q) := by
  refine ⟨⟨q, h, sa_at_self⟩, fun a => ⟨q, h, sa_at_self, fun k => ?_⟩⟩
  have := sa_at_len k; simp [sa_rv_len] at this; omega
theorem sa_lm_up (h : sa_lm T p v) : sa_lm T (p + 1) v := by
  refine ⟨sa_oc_up h.1, fun a => ?_⟩
  obtain ⟨e, he, h1, h2⟩ := h.2 a
  exact ⟨e, by omega, h1, h2⟩
/-- not lm: all occurrences extend by one letter -/
theorem sa_nlm (ho : sa_oc T p v) (h : ¬ sa_lm T p v) : ∃ a, sa_ex T p v (v ++ [a]) := by
  rcases Classical.em (∃ a, sa_ex T p v (v ++ [a])) with k | k
  · exact k
  · refine absurd ⟨ho, fun a => ?_⟩ h
    rcases Classical.em (∃ e, e ≤ p ∧ sa_at T v e ∧ ¬ sa_at T (v ++ [a]) e) with q | q
    · exact q
    · refine absurd ⟨a, List.prefix_append _ _, fun e he h1 => ?_⟩ k
      rcases Classical.em (sa_at T (v ++ [a]) e) with r | r
      · exact r
      · exact absurd ⟨e, he, h1, r⟩ q
/-- z is the longest beginning of sa_rv (p+1) that occurs in p -/
def sa_Z (T : Nat → Nat) (p : Nat) (z : List Nat) : Prop := sa_at T z (p + 1) ∧ sa_oc T p z ∧ ∀ u, sa_at T u (p + 1) → sa_oc T p u → u.length ≤ z.length
theorem sa_Z_lm (h : sa_Z T p z) : sa_lm T (p + 1) z := by
  refine ⟨sa_oc_up h.2.1, fun a => ?_⟩
  rcases Classical.em (sa_at T (z ++ [a]) (p + 1)) with k | k
  · obtain ⟨e, he, q⟩ := h.2.1
    refine ⟨e, by omega, q, fun r => ?_⟩
    have := h.2.2 _ k ⟨e, he, r⟩
    simp at this; omega
  · exact ⟨p + 1, Nat.le_refl _, h.1, k⟩
theorem sa_lm_s (h : sa_Z T p z) (k : sa_lm T (p + 1) w) : sa_lm T p w ∨ w = sa_rv T (p + 1) ∨ w = z := by
  rcases Classical.em (sa_lm T p w) with a | a
  · exact Or.inl a
  refine Or.inr ?_
  rcases Classical.em (sa_oc T p w) with o | o
  · obtain ⟨b, hb⟩ := sa_nlm o a
    obtain ⟨e, he, k1, k2⟩ := k.2 b
    have ee : e = p + 1 := by
      rcases Nat.lt_or_ge p e with l | l
      · omega
      · exact absurd (hb.2 e l k1) k2
    subst ee
    have lz := h.2.2 w k1 o
    have wz := sa_at_cmp k1 h.1 lz
    rcases Nat.lt_or_ge w.length z.length with l | l
    · obtain ⟨d, hd⟩ := sa_pre_grow wz l
      obtain ⟨e2, he2, q⟩ := h.2.1
      have q1 := hb.2 e2 he2 (sa_at_pre wz q)
      have q2 := sa_at_pre hd q
      have q3 := sa_at_cmp q1 q2 (by simp)
      have q4 : w ++ [b] = w ++ [d] := List.IsPrefix.eq_of_length q3 (by simp)
      rw [← q4] at hd
      exact absurd (sa_at_pre hd h.1) k2
    · exact Or.inr (List.IsPrefix.eq_of_length_le wz l)
  · obtain ⟨o1, o2⟩ := k
    have o3 : sa_at T w (p + 1) := (sa_oc_s.mp o1).resolve_left o
    rcases Nat.lt_or_ge w.length (p + 1) with l | l
    · obtain ⟨d, hd⟩ := sa_at_grow o3 l
      obtain ⟨e, he, k1, k2⟩ := o2 d
      have ee : e = p + 1 := by
        rcases Nat.lt_or_ge p e with l | l
        · omega
        · exact absurd ⟨e, l, k1⟩ o
      subst ee
      exact absurd hd k2
    · exact Or.inl (sa_at_eq o3 l)
/-- the kind of an old word in p + 1: as before, or that of z -/
theorem sa_ex_s (h : sa_Z T p z) (o : sa_oc T p u) (k : sa_ex T p u v) : sa_ex T (p + 1) u v ∨ (sa_at T u (p + 1) ∧ z <+: v ∧ z.length < v.length ∧ sa_ex T p z v ∧ sa_ex T (p + 1) u z) := by
  rcases Classical.em (sa_at T u (p + 1) ∧ ¬ sa_at T v (p + 1)) with a | a
  · refine Or.inr ?_
    have uz := sa_at_cmp a.1 h.1 (h.2.2 u a.1 o)
    obtain ⟨e, he, q⟩ := h.2.1
    have qv := k.2 e he (sa_at_pre uz q)
    have l : z.length < v.length := by
      rcases Nat.lt_or_ge z.length v.length with l | l
      · exact l
      · exact absurd (sa_at_pre (sa_at_cmp qv q l) h.1) a.2
    have zv := sa_at_cmp q qv (by omega)
    refine ⟨a.1, zv, l, sa_ex_mid k uz zv, uz, fun e he q => ?_⟩
    rcases Nat.lt_or_ge p e with l | l
    · have ee : e = p + 1 := by omega
      subst ee; exact h.1
    · exact sa_at_pre zv (k.2 e l q)
  · refine Or.inl ⟨k.1, fun e he q => ?_⟩
    rcases Nat.lt_or_ge p e with l | l
    · have ee : e = p + 1 := by omega
      subst ee
      rcases Classical.em (sa_at T v (p + 1)) with r | r
      · exact r
      · exact absurd ⟨q, r⟩ a
    · exact k.2 e l q
theorem sa_ex_new (a : sa_at T u (p + 1)) (n : ¬ sa_oc T p u) : sa_ex T (p + 1) u (sa_rv T (p + 1)) := by
  refine ⟨a, fun e he q => ?_⟩
  rcases Nat.lt_or_ge p e with l | l
  · have ee : e = p + 1 := by omega
    subst ee; exact sa_at_self
  · exact absurd ⟨e, l, q⟩ n
/-- z = T p :: y, if no longer lm beginning has that -/
theorem sa_Z_of {y : List Nat} (a : sa_at T y p) (o : sa_oc T p (T p :: y)) (m : ∀ u, sa_lm T p u → sa_at T u p → sa_oc T p (T p :: u) → u.length ≤ y.length) : sa_Z T p (T p :: y) := by
  refine ⟨sa_at_cons.mpr ⟨rfl, a⟩, o, ?_⟩
  intro u hu ou
  cases u with
  | nil => simp
  | cons d u =>
    obtain ⟨hd, hu'⟩ := sa_at_cons.mp hu
    subst hd
    rcases Nat.lt_or_ge y.length u.length with l | l
    · -- the longest of them is lm
      have key : ∀ k u, p - u.length ≤ k → sa_at T u p → sa_oc T p (T p :: u) → ∃ x, u.length ≤ x.length ∧ sa_lm T p x ∧ sa_at T x p ∧ sa_oc T p (T p :: x) := by
        intro k
        induction k with
        | zero =>
          intro u hk hu ou
          have := sa_oc_len ou
          simp at this
          omega
        | succ k ih =>
          intro u hk hu ou
          rcases Classical.em (sa_lm T p u) with h | h
          · exact ⟨u, Nat.le_refl _, h, hu, ou⟩
          · obtain ⟨b, hb⟩ := sa_nlm ⟨p, Nat.le_refl _, hu⟩ h
            obtain ⟨x, h1, h2⟩ := ih (u ++ [b]) (by simp; omega) (hb.2 p (Nat.le_refl _) hu) (sa_oc_ex (sa_ex_cons hb) ou)
            simp at h1
            exact ⟨x, by omega, h2⟩
      obtain ⟨x, h1, h2, h3, h4⟩ := key p u (by omega) hu' ou
      have := m x h2 h3 h4
      omega
    · simp; omega
theorem sa_Z_nil (m : ∀ u, sa_lm T p u → sa_at T u p → ¬ sa_oc T p (T p :: u)) : sa_Z T p [] := by
  refine ⟨sa_at_nil, sa_oc_nil, ?_⟩
  intro u hu ou
  cases u with
  | nil => simp
  | cons d u =>
    obtain ⟨hd, hu⟩ := sa_at_cons.mp hu
    subst hd
    have o : sa_oc T p (T p :: []) := sa_oc_pre (List.cons_prefix_cons.mpr ⟨rfl, List.nil_prefix⟩) ou
    exact absurd o (m [] sa_lm_nil sa_at_nil)
end
end
section
/-! the automaton of the beginning p: states are the lm words (ghost W); and what one letter does to it -/
def sa_up (W : Nat → List Nat) (k : Nat) (x : List Nat) : Nat → List Nat := fun j => if j = k then x else W j
theorem sa_up_s {W : Nat → List Nat} {k : Nat} {x : List Nat} : sa_up W k x k = x := if_pos rfl
theorem sa_up_n {W : Nat → List Nat} {k j : Nat} {x : List Nat} (h : j ≠ k) : sa_up W k x j = W j := if_neg h
def sa_W (T : Nat → Nat) (p m : Nat) (W : Nat → List Nat) : Prop :=
  0 < m ∧ W 0 = [] ∧ (∀ s, s < m → sa_lm T p (W s)) ∧ (∀ w, sa_lm T p w → ∃ s, s < m ∧ W s = w) ∧ (∀ s t, s < m → t < m → W s = W t → s = t)
def sa_N (T : Nat → Nat) (p m : Nat) (W : Nat → List Nat) (aN : Nat → Int32) : Prop :=
  ∀ s d, s < m → d < 4 → (sa_oc T p (d :: W s) → ∃ t, t < m ∧ aN (4 * s + d) = nI t ∧ sa_ex T p (d :: W s) (W t)) ∧ (¬ sa_oc T p (d :: W s) → aN (4 * s + d) = 0)
def sa_S (T : Nat → Nat) (p m : Nat) (W : Nat → List Nat) (aS : Nat → Int32) : Prop :=
  aS 0 = -1 ∧ ∀ s, 0 < s → s < m → ∃ t, t < m ∧ aS s = nI t ∧ W t <+: W s ∧ (W t).length < (W s).length ∧ ∀ u, sa_lm T p u → u <+: W s → u.length < (W s).length → u.length ≤ (W t).length
def sa_L (m : Nat) (W : Nat → List Nat) (aL : Nat → Int32) : Prop := ∀ s, s < m → aL s = nI (W s).length
def sa_F (T : Nat → Nat) (m : Nat) (W : Nat → List Nat) (aF : Nat → Int32) : Prop :=
  ∀ s, 0 < s → s < m → ∃ e, aF s = nI e ∧ sa_at T (W s) (e + 1) ∧ ∀ e', e' ≤ e → ¬ sa_at T (W s) e'
def sa_T (T : Nat → Nat) (p m : Nat) (W : Nat → List Nat) (aT : Nat → Int32) : Prop :=
  ∀ s, s < m → aT s = nI (b01 (∃ e, 0 < e ∧ e ≤ p ∧ W s = sa_rv T e))
/-- the table of transitions while the first loop runs: states of the chain with at least k letters have got f -/
def sa_M (T : Nat → Nat) (p m : Nat) (W : Nat → List Nat) (f k : Nat) (aN : Nat → Int32) : Prop :=
  ∀ s d, s < m → d < 4 → (sa_oc T p (d :: W s) → ∃ t, t < m ∧ aN (4 * s + d) = nI t ∧ sa_ex T p (d :: W s) (W t))
    ∧ (¬ sa_oc T p (d :: W s) → sa_at T (d :: W s) (p + 1) → k ≤ (W s).length → aN (4 * s + d) = nI f)
    ∧ (¬ sa_oc T p (d :: W s) → ¬ (sa_at T (d :: W s) (p + 1) ∧ k ≤ (W s).length) → aN (4 * s + d) = 0)
section
variable {T : Nat → Nat} {p m : Nat} {W : Nat → List Nat} {aN aS aL aF aT : Nat → Int32}
theorem sa_W_len (h : sa_W T p m W) {s : Nat} (hs : s < m) : (W s).length ≤ p := sa_oc_len (h.2.2.1 s hs).1
theorem sa_W_pos (h : sa_W T p m W) {s : Nat} (hl : 0 < (W s).length) : 0 < s := by
  rcases Nat.eq_zero_or_pos s with e | e
  · subst e; rw [h.2.1] at hl; simp at hl
  · exact e
theorem sa_W_pos' (h : sa_W T p m W) {s : Nat} (h0 : 0 < s) (hs : s < m) : 0 < (W s).length := by
  rcases Nat.eq_zero_or_pos (W s).length with e | e
  · have := h.2.2.2.2 s 0 hs h.1 (by rw [h.2.1]; exact List.eq_nil_of_length_eq_zero e)
    omega
  · exact e
/-- two prefixes of the text with equal length -/
theorem sa_W_eq (h : sa_W T p m W) {s t e : Nat} (hs : s < m) (ht : t < m) (a : sa_at T (W s) e) (b : sa_at T (W t) e) (l : (W s).length = (W t).length) : s = t :=
  h.2.2.2.2 s t hs ht (List.IsPrefix.eq_of_length (sa_at_cmp a b (by omega)) l)
theorem sa_ex_t0 (h : sa_W T p m W) {d t : Nat} {w : List Nat} (k : sa_ex T p (d :: w) (W t)) : 0 < t := by
  apply sa_W_pos h
  have := List.IsPrefix.length_le k.1
  simp at this; omega
theorem sa_M_0 (h : sa_W T p m W) (k : sa_N T p m W aN) (f : Nat) : sa_M T p m W f (p + 1) aN := by
  intro s d hs hd
  have l := sa_W_len h hs
  exact ⟨(k s d hs hd).1, fun _ _ z => by omega, fun a _ => (k s d hs hd).2 a⟩
theorem sa_M_z (h : sa_W T p m W) (hm : m < 2 ^ 31) (hc : T p < 4) {f k s : Nat} (M : sa_M T p m W f k aN) (hs : s < m) (z : aN (4 * s + T p) = 0) : ¬ sa_oc T p (T p :: W s) := by
  intro o
  obtain ⟨t, ht, e, x⟩ := (M s _ hs hc).1 o
  rw [z, ← nI_0, nI_eq (by omega) (by omega)] at e
  have := sa_ex_t0 h x
  omega
theorem sa_M_u (h : sa_W T p m W) (hc : T p < 4) {f s : Nat} (M : sa_M T p m W f ((W s).length + 1) aN) (hs : s < m) (a : sa_at T (W s) p) (n : ¬ sa_oc T p (T p :: W s)) :
    sa_M T p m W f (W s).length (upd aN (4 * s + T p) (nI f)) := by
  intro s' d hs' hd
  rcases Classical.em (s' = s ∧ d = T p) with q | q
  · obtain ⟨rfl, rfl⟩ := q
    rw [pk_us]
    exact ⟨fun o => absurd o n, fun _ _ _ => rfl, fun _ b => absurd ⟨sa_at_cons.mpr ⟨rfl, a⟩, Nat.le_refl _⟩ b⟩
  · have i : 4 * s' + d ≠ 4 * s + T p := fun z => q (by omega)
    rw [pk_un i]
    refine ⟨(M s' d hs' hd).1, fun o b l => ?_, fun o b => (M s' d hs' hd).2.2 o (fun z => b ⟨z.1, by omega⟩)⟩
    obtain ⟨b1, b2⟩ := sa_at_cons.mp b
    rcases Nat.lt_or_ge (W s).length (W s').length with l2 | l2
    · exact (M s' d hs' hd).2.1 o b l2
    · exact absurd ⟨sa_W_eq h hs' hs b2 a (by omega), b1⟩ q
theorem sa_M_l (h : sa_W T p m W) (hS : sa_S T p m W aS) {f s t : Nat} (M : sa_M T p m W f (W s).length aN) (hs : s < m) (a : sa_at T (W s) p)
    (l1 : (W t).length < (W s).length) (l2 : ∀ u, sa_lm T p u → u <+: W s → u.length < (W s).length → u.length ≤ (W t).length) : sa_M T p m W f ((W t).length + 1) aN := by
  intro s' d hs' hd
  refine ⟨(M s' d hs' hd).1, fun o b l => ?_, fun o b => (M s' d hs' hd).2.2 o (fun z => b ⟨z.1, by omega⟩)⟩
  rcases Nat.lt_or_ge (W s').length (W s).length with q | q
  · have := l2 (W s') (h.2.2.1 s' hs') (sa_at_cmp (sa_at_cons.mp b).2 a (by omega)) q
    omega
  · exact (M s' d hs' hd).2.1 o b q
/-- where the first loop stops -/
theorem sa_M_x (h : sa_W T p m W) (hc : T p < 4) {f s : Nat} (M : sa_M T p m W f ((W s).length + 1) aN) (hs : s < m) (a : sa_at T (W s) p) (n : ¬ aN (4 * s + T p) = 0) :
    sa_oc T p (T p :: W s) ∧ sa_M T p m W f 0 aN := by
  have o : sa_oc T p (T p :: W s) := by
    rcases Classical.em (sa_oc T p (T p :: W s)) with o | o
    · exact o
    · exact absurd ((M s _ hs hc).2.2 o (fun z => by omega)) n
  refine ⟨o, fun s' d hs' hd => ⟨(M s' d hs' hd).1, fun q b _ => ?_, fun q b => (M s' d hs' hd).2.2 q (fun z => b ⟨z.1, by omega⟩)⟩⟩
  obtain ⟨b1, b2⟩ := sa_at_cons.mp b
  rcases Nat.lt_or_ge (W s).length (W s').length with l | l
  · exact (M s' d hs' hd).2.1 q b l
  · subst b1
    exact absurd (sa_oc_pre (List.cons_prefix_cons.mpr ⟨rfl, sa_at_cmp b2 a l⟩) o) q
/-- the chain so far: no longer beginning of the text goes on by this letter -/
def sa_H (T : Nat → Nat) (p m : Nat) (W : Nat → List Nat) (l : Nat) : Prop := ∀ t, t < m → sa_at T (W t) p → l < (W t).length → ¬ sa_oc T p (T p :: W t)
theorem sa_H_l (h : sa_W T p m W) {s t : Nat} (H : sa_H T p m W (W s).length) (hs : s < m) (a : sa_at T (W s) p) (n : ¬ sa_oc T p (T p :: W s))
    (l2 : ∀ u, sa_lm T p u → u <+: W s → u.length < (W s).length → u.length ≤ (W t).length) : sa_H T p m W (W t).length := by
  intro r hr ar lr
  rcases Nat.lt_or_ge (W s).length (W r).length with q | q
  · exact H r hr ar q
  · rcases Nat.lt_or_ge (W r).length (W s).length with q2 | q2
    · have := l2 (W r) (h.2.2.1 r hr) (sa_at_cmp ar a (by omega)) q2
      omega
    · have := sa_W_eq h hr hs ar a (by omega)
      subst this; exact n
theorem sa_H_Z (h : sa_W T p m W) {s : Nat} (H : sa_H T p m W (W s).length) (a : sa_at T (W s) p) (o : sa_oc T p (T p :: W s)) : sa_Z T p (T p :: W s) := by
  refine sa_Z_of a o fun u hu au ou => ?_
  obtain ⟨t, ht, rfl⟩ := h.2.2.2.1 u hu
  rcases Nat.lt_or_ge (W s).length (W t).length with q | q
  · exact absurd ou (H t ht au q)
  · exact q
theorem sa_H_Z0 (h : sa_W T p m W) (H : ∀ t, t < m → sa_at T (W t) p → ¬ sa_oc T p (T p :: W t)) : sa_Z T p [] := by
  refine sa_Z_nil fun u hu au ou => ?_
  obtain ⟨t, ht, rfl⟩ := h.2.2.2.1 u hu
  exact H t ht au ou
theorem sa_rv_noc (w : List Nat) (hl : p < w.length) : ¬ sa_oc T p w := fun o => by have := sa_oc_len o; omega
end
end
section
/-! one letter: the end of extend, without and with a split -/
section
variable {T : Nat → Nat} {p m : Nat} {W : Nat → List Nat} {aN aS aL aF aT bN bS bL bF bT : Nat → Int32}
theorem sf_W1 (h : sa_W T p m W) {t : Nat} (ht : t < m) (hz : sa_Z T p (W t)) : sa_W T (p + 1) (m + 1) (sa_up W m (sa_rv T (p + 1))) := by
  refine ⟨by omega, ?_, ?_, ?_, ?_⟩
  · rw [sa_up_n (by have := h.1; omega)]; exact h.2.1
  · intro s hs
    rcases Nat.lt_or_ge s m with l | l
    · rw [sa_up_n (by omega)]; exact sa_lm_up (h.2.2.1 s l)
    · have : s = m := by omega
      subst this; rw [sa_up_s]; exact sa_lm_rv (Nat.le_refl _)
  · intro w hw
    rcases sa_lm_s hz hw with a | a | a
    · obtain ⟨s, hs, e⟩ := h.2.2.2.1 w a
      exact ⟨s, by omega, by rw [sa_up_n (by omega)]; exact e⟩
    · exact ⟨m, by omega, by rw [sa_up_s]; exact a.symm⟩
    · exact ⟨t, by omega, by rw [sa_up_n (by omega)]; exact a.symm⟩
  · intro s r hs hr e
    rcases Nat.lt_or_ge s m with l | l <;> rcases Nat.lt_or_ge r m with k | k
    · rw [sa_up_n (by omega), sa_up_n (by omega)] at e
      exact h.2.2.2.2 s r l k e
    · have : r = m := by omega
      subst this
      rw [sa_up_n (by omega), sa_up_s] at e
      have := sa_W_len h l
      rw [e, sa_rv_len] at this; omega
    · have : s = m := by omega
      subst this
      rw [sa_up_n (j := r) (by omega), sa_up_s] at e
      have := sa_W_len h k
      rw [← e, sa_rv_len] at this; omega
    · omega
theorem sf_N1 (h : sa_W T p m W) {t : Nat} (ht : t < m) (hz : sa_Z T p (W t)) (M : sa_M T p m W m 0 aN) (h0 : ∀ d, d < 4 → aN (4 * m + d) = 0) :
    sa_N T (p + 1) (m + 1) (sa_up W m (sa_rv T (p + 1))) aN := by
  intro s d hs hd
  rcases Nat.lt_or_ge s m with l | l
  · rw [sa_up_n (by omega)]
    obtain ⟨M1, M2, M3⟩ := M s d l hd
    refine ⟨fun o => ?_, fun o => M3 (fun z => o (sa_oc_up z)) (fun z => o (sa_oc_s.mpr (Or.inr z.1)))⟩
    rcases Classical.em (sa_oc T p (d :: W s)) with q | q
    · obtain ⟨r, hr, e, x⟩ := M1 q
      refine ⟨r, by omega, e, ?_⟩
      rw [sa_up_n (by omega)]
      rcases sa_ex_s hz q x with y | y
      · exact y
      · have := sa_lm_max (h.2.2.1 t ht) y.2.2.2.1
        have := y.2.2.1
        rw [‹W r = W t›] at this
        omega
    · have a := (sa_oc_s.mp o).resolve_left q
      exact ⟨m, by omega, M2 q a (Nat.zero_le _), by rw [sa_up_s]; exact sa_ex_new a q⟩
  · have : s = m := by omega
    subst this
    rw [sa_up_s]
    have n : ¬ sa_oc T (p + 1) (d :: sa_rv T (p + 1)) := sa_rv_noc _ (by simp [sa_rv_len])
    exact ⟨fun o => absurd o n, fun _ => h0 d hd⟩
theorem sf_S1 (h : sa_W T p m W) (hS : sa_S T p m W aS) {t : Nat} (ht : t < m) (hz : sa_Z T p (W t)) (b1 : bS m = nI t) (b2 : ∀ s, s < m → bS s = aS s) :
    sa_S T (p + 1) (m + 1) (sa_up W m (sa_rv T (p + 1))) bS := by
  refine ⟨by rw [b2 0 h.1]; exact hS.1, fun s h0 hs => ?_⟩
  rcases Nat.lt_or_ge s m with l | l
  · obtain ⟨r, hr, e, x1, x2, x3⟩ := hS.2 s h0 l
    refine ⟨r, by omega, by rw [b2 s l]; exact e, ?_⟩
    rw [sa_up_n (by omega), sa_up_n (by omega)]
    refine ⟨x1, x2, fun u hu pu lu => ?_⟩
    rcases sa_lm_s hz hu with a | a | a
    · exact x3 u a pu lu
    · have := sa_W_len h l
      rw [a, sa_rv_len] at lu; omega
    · exact x3 u (by rw [a]; exact h.2.2.1 t ht) pu lu
  · have : s = m := by omega
    subst this
    refine ⟨t, by omega, b1, ?_⟩
    rw [sa_up_n (by omega), sa_up_s, sa_rv_len]
    refine ⟨hz.1, by have := sa_W_len h ht; omega, fun u hu pu lu => ?_⟩
    rcases sa_lm_s hz hu with a | a | a
    · exact hz.2.2 u pu a.1
    · rw [a, sa_rv_len] at lu; omega
    · rw [a]; exact Nat.le_refl _
theorem sf_L1 (hL : sa_L m W aL) (b1 : bL m = nI (p + 1)) (b2 : ∀ s, s < m → bL s = aL s) : sa_L (m + 1) (sa_up W m (sa_rv T (p + 1))) bL := by
  intro s hs
  rcases Nat.lt_or_ge s m with l | l
  · rw [sa_up_n (by omega), b2 s l]; exact hL s l
  · have : s = m := by omega
    subst this
    rw [sa_up_s, b1, sa_rv_len]
theorem sf_F1 (hF : sa_F T m W aF) (b1 : bF m = nI p) (b2 : ∀ s, s < m → bF s = aF s) : sa_F T (m + 1) (sa_up W m (sa_rv T (p + 1))) bF := by
  intro s h0 hs
  rcases Nat.lt_or_ge s m with l | l
  · rw [sa_up_n (by omega), b2 s l]; exact hF s h0 l
  · have : s = m := by omega
    subst this
    rw [sa_up_s]
    refine ⟨p, b1, sa_at_self, fun e' he a => ?_⟩
    have := sa_at_len a
    rw [sa_rv_len] at this; omega
theorem sf_Told (h : sa_W T p m W) {s : Nat} (hs : s < m) : b01 (∃ e, 0 < e ∧ e ≤ p + 1 ∧ W s = sa_rv T e) = b01 (∃ e, 0 < e ∧ e ≤ p ∧ W s = sa_rv T e) := by
  refine b01_c ⟨fun ⟨e, h1, h2, h3⟩ => ?_, fun ⟨e, h1, h2, h3⟩ => ⟨e, h1, by omega, h3⟩⟩
  refine ⟨e, h1, ?_, h3⟩
  have := sa_W_len h hs
  rw [h3, sa_rv_len] at this; exact this
theorem sf_T1 (h : sa_W T p m W) (hT : sa_T T p m W aT) (b1 : bT m = 1) (b2 : ∀ s, s < m → bT s = aT s) : sa_T T (p + 1) (m + 1) (sa_up W m (sa_rv T (p + 1))) bT := by
  intro s hs
  rcases Nat.lt_or_ge s m with l | l
  · rw [sa_up_n (by omega), b2 s l, hT s l, sf_Told h l]
  · have : s = m := by omega
    subst this
    rw [sa_up_s, b1, b01_t ⟨p + 1, by omega, Nat.le_refl _, rfl⟩]
    rfl
/-! with a split: z = T p :: W s0 is no state yet; its kind was that of t -/
section
variable {z : List Nat} {t : Nat}
theorem sf_znl (h : sa_W T p m W) (ht : t < m) (hx : sa_ex T p z (W t)) (hl : z.length < (W t).length) : ¬ sa_lm T p z := fun q => by
  have := sa_lm_max q hx
  rw [this] at hl; omega
theorem sf_W2 (h : sa_W T p m W) (ht : t < m) (hz : sa_Z T p z) (hx : sa_ex T p z (W t)) (hl : z.length < (W t).length) :
    sa_W T (p + 1) (m + 2) (sa_up (sa_up W m (sa_rv T (p + 1))) (m + 1) z) := by
  have nz := sf_znl h ht hx hl
  have lz := sa_oc_len hz.2.1
  have hm := h.1
  refine ⟨by omega, ?_, ?_, ?_, ?_⟩
  · rw [sa_up_n (by omega), sa_up_n (by omega)]; exact h.2.1
  · intro s hs
    rcases Nat.lt_or_ge s m with l | l
    · rw [sa_up_n (by omega), sa_up_n (by omega)]; exact sa_lm_up (h.2.2.1 s l)
    · rcases Nat.lt_or_ge s (m + 1) with k | k
      · have : s = m := by omega
        subst this; rw [sa_up_n (by omega), sa_up_s]; exact sa_lm_rv (Nat.le_refl _)
      · have : s = m + 1 := by omega
        subst this; rw [sa_up_s]; exact sa_Z_lm hz
  · intro w hw
    rcases sa_lm_s hz hw with a | a | a
    · obtain ⟨s, hs, e⟩ := h.2.2.2.1 w a
      exact ⟨s, by omega, by rw [sa_up_n (by omega), sa_up_n (by omega)]; exact e⟩
    · exact ⟨m, by omega, by rw [sa_up_n (by omega), sa_up_s]; exact a.symm⟩
    · exact ⟨m + 1, by omega, by rw [sa_up_s]; exact a.symm⟩
  · have key : ∀ s r, s < m + 2 → r < m + 2 → s < r → sa_up (sa_up W m (sa_rv T (p + 1))) (m + 1) z s = sa_up (sa_up W m (sa_rv T (p + 1))) (m + 1) z r → False := by
      intro s r hs hr lt e
      rcases Nat.lt_or_ge r m with k | k
      · rw [sa_up_n (by omega), sa_up_n (by omega), sa_up_n (by omega), sa_up_n (by omega)] at e
        have := h.2.2.2.2 s r (by omega) k e
        omega
      · rcases Nat.lt_or_ge r (m + 1) with k2 | k2
        · have : r = m := by omega
          subst this
          rw [sa_up_n (by omega), sa_up_n (by omega), sa_up_n (by omega), sa_up_s] at e
          have := sa_W_len h (s := s) (by omega)
          rw [e, sa_rv_len] at this; omega
        · have : r = m + 1 := by omega
          subst this
          rw [sa_up_s, sa_up_n (by omega)] at e
          rcases Nat.lt_or_ge s m with l | l
          · rw [sa_up_n (by omega)] at e
            exact nz (e ▸ h.2.2.1 s l)
          · have : s = m := by omega
            subst this
            rw [sa_up_s] at e
            rw [← e, sa_rv_len] at lz; omega
    intro s r hs hr e
    rcases Nat.lt_or_ge s r with l | l
    · exact (key s r hs hr l e).elim
    · rcases Nat.lt_or_ge r s with k | k
      · exact (key r s hr hs k e.symm).elim
      · omega
theorem sf_N2 (h : sa_W T p m W) (hm : m < 2 ^ 30) (ht : t < m) (hz : sa_Z T p z) (hx : sa_ex T p z (W t)) (hl : z.length < (W t).length) (hz0 : 0 < z.length) (M : sa_M T p m W m 0 aN)
    (b0 : ∀ d, d < 4 → bN (4 * m + d) = 0) (b1 : ∀ d, d < 4 → bN (4 * (m + 1) + d) = aN (4 * t + d))
    (b2 : ∀ s d, s < m → d < 4 → sa_at T (d :: W s) (p + 1) → aN (4 * s + d) = nI t → bN (4 * s + d) = nI (m + 1))
    (b3 : ∀ s d, s < m → d < 4 → ¬ (sa_at T (d :: W s) (p + 1) ∧ aN (4 * s + d) = nI t) → bN (4 * s + d) = aN (4 * s + d)) :
    sa_N T (p + 1) (m + 2) (sa_up (sa_up W m (sa_rv T (p + 1))) (m + 1) z) bN := by
  have h31 : (2 : Nat) ^ 31 = 2 * 2 ^ 30 := by decide
  intro s d hs hd
  rcases Nat.lt_or_ge s m with l | l
  · rw [sa_up_n (by omega), sa_up_n (by omega)]
    obtain ⟨M1, M2, M3⟩ := M s d l hd
    have t0 : 0 < t := sa_W_pos h (by omega)
    refine ⟨fun o => ?_, fun o => ?_⟩
    · rcases Classical.em (sa_oc T p (d :: W s)) with q | q
      · obtain ⟨r, hr, e, x⟩ := M1 q
        rcases Classical.em (sa_at T (d :: W s) (p + 1) ∧ aN (4 * s + d) = nI t) with y | y
        · refine ⟨m + 1, by omega, b2 s d l hd y.1 y.2, ?_⟩
          rw [sa_up_s]
          have rt : r = t := (nI_eq (by omega) (by omega)).mp (e.symm.trans y.2)
          subst rt
          refine ⟨sa_at_cmp y.1 hz.1 (hz.2.2 _ y.1 q), fun e he a => ?_⟩
          rcases Nat.lt_or_ge p e with k | k
          · have : e = p + 1 := by omega
            subst this; exact hz.1
          · exact sa_at_pre hx.1 (x.2 e k a)
        · refine ⟨r, by omega, by rw [b3 s d l hd y]; exact e, ?_⟩
          rw [sa_up_n (by omega), sa_up_n (by omega)]
          rcases sa_ex_s hz q x with w | w
          · exact w
          · have := sa_lm_uniq hz.2.1 (h.2.2.1 r hr) (h.2.2.1 t ht) w.2.2.2.1 hx
            have := h.2.2.2.2 r t hr ht this
            subst this
            exact absurd ⟨w.1, e⟩ y
      · have a := (sa_oc_s.mp o).resolve_left q
        have e := M2 q a (Nat.zero_le _)
        refine ⟨m, by omega, ?_, ?_⟩
        · rw [b3 s d l hd (fun y => ?_)]
          · exact e
          · have := (nI_eq (by omega) (by omega)).mp (e.symm.trans y.2)
            omega
        · rw [sa_up_n (by omega), sa_up_s]; exact sa_ex_new a q
    · have e := M3 (fun z => o (sa_oc_up z)) (fun z => o (sa_oc_s.mpr (Or.inr z.1)))
      rw [b3 s d l hd (fun y => o (sa_oc_s.mpr (Or.inr y.1)))]
      exact e
  · rcases Nat.lt_or_ge s (m + 1) with k | k
    · have : s = m := by omega
      subst this
      rw [sa_up_n (by omega), sa_up_s]
      have n : ¬ sa_oc T (p + 1) (d :: sa_rv T (p + 1)) := sa_rv_noc _ (by simp [sa_rv_len])
      exact ⟨fun o => absurd o n, fun _ => b0 d hd⟩
    · have : s = m + 1 := by omega
      subst this
      rw [sa_up_s, b1 d hd]
      obtain ⟨M1, M2, M3⟩ := M t d ht hd
      have noz : sa_at T (d :: z) (p + 1) → ¬ sa_oc T p (d :: z) := fun a o => by
        have := hz.2.2 _ a o
        simp at this; omega
      rcases Classical.em (sa_oc T p (d :: W t)) with q | q
      · obtain ⟨r, hr, e, x⟩ := M1 q
        have o1 : sa_oc T p (d :: z) := sa_oc_pre (sa_ex_cons hx).1 q
        refine ⟨fun _ => ⟨r, by omega, e, ?_⟩, fun o => absurd (sa_oc_up o1) o⟩
        rw [sa_up_n (by omega), sa_up_n (by omega)]
        rcases sa_ex_s hz o1 (sa_ex_trans (sa_ex_cons hx) x) with w | w
        · exact w
        · exact absurd o1 (noz w.1)
      · have q1 : ¬ sa_oc T p (d :: z) := fun o => q (sa_oc_ex (sa_ex_cons hx) o)
        refine ⟨fun o => ?_, fun o => ?_⟩
        · have a := (sa_oc_s.mp o).resolve_left q1
          obtain ⟨a1, a2⟩ := sa_at_cons.mp a
          have a3 := hx.2 p (Nat.le_refl _) a2
          refine ⟨m, by omega, M2 q (sa_at_cons.mpr ⟨a1, a3⟩) (Nat.zero_le _), ?_⟩
          rw [sa_up_n (by omega), sa_up_s]
          exact sa_ex_new a q1
        · refine M3 q (fun y => o (sa_oc_s.mpr (Or.inr ?_)))
          exact sa_at_pre (sa_ex_cons hx).1 y.1
theorem sf_S2 (h : sa_W T p m W) (hS : sa_S T p m W aS) (ht : t < m) (hz : sa_Z T p z) (hx : sa_ex T p z (W t)) (hl : z.length < (W t).length) (hz0 : 0 < z.length)
    (b1 : bS m = nI (m + 1)) (b2 : bS (m + 1) = aS t) (b3 : bS t = nI (m + 1)) (b4 : ∀ s, s < m → s ≠ t → bS s = aS s) :
    sa_S T (p + 1) (m + 2) (sa_up (sa_up W m (sa_rv T (p + 1))) (m + 1) z) bS := by
  have nz := sf_znl h ht hx hl
  have lz := sa_oc_len hz.2.1
  have t0 : 0 < t := sa_W_pos h (by omega)
  refine ⟨by rw [b4 0 h.1 (by omega)]; exact hS.1, fun s h0 hs => ?_⟩
  have old : ∀ u, sa_lm T p u → u <+: W t → u.length < (W t).length → u.length < z.length := fun u hu pu lu => by
    rcases Nat.lt_or_ge z.length u.length with q | q
    · have zu : z <+: u := List.prefix_of_prefix_length_le hx.1 pu (by omega)
      have := sa_lm_max hu (sa_ex_mid hx zu pu)
      rw [this] at lu; omega
    · rcases Nat.lt_or_ge u.length z.length with q2 | q2
      · exact q2
      · have : u = z := List.IsPrefix.eq_of_length (List.prefix_of_prefix_length_le pu hx.1 q) (by omega)
        exact absurd (this ▸ hu) nz
  rcases Nat.lt_or_ge s m with l | l
  · rcases Classical.em (s = t) with e | e
    · subst e
      refine ⟨m + 1, by omega, b3, ?_⟩
      rw [sa_up_s, sa_up_n (by omega), sa_up_n (by omega)]
      refine ⟨hx.1, hl, fun u hu pu lu => ?_⟩
      rcases sa_lm_s hz hu with a | a | a
      · have := old u a pu lu; omega
      · have := sa_W_len h l
        rw [a, sa_rv_len] at lu; omega
      · rw [a]; exact Nat.le_refl _
    · obtain ⟨r, hr, e1, x1, x2, x3⟩ := hS.2 s h0 l
      refine ⟨r, by omega, by rw [b4 s l e]; exact e1, ?_⟩
      rw [sa_up_n (by omega), sa_up_n (by omega), sa_up_n (by omega), sa_up_n (by omega)]
      refine ⟨x1, x2, fun u hu pu lu => ?_⟩
      rcases sa_lm_s hz hu with a | a | a
      · exact x3 u a pu lu
      · have := sa_W_len h l
        rw [a, sa_rv_len] at lu; omega
      · subst a
        rcases Nat.lt_or_ge (W r).length u.length with q | q
        · obtain ⟨e2, he, as⟩ := (h.2.2.1 s l).1
          have at' := hx.2 e2 he (sa_at_pre pu as)
          rcases Nat.lt_or_ge (W t).length (W s).length with k | k
          · have := x3 (W t) (h.2.2.1 t ht) (sa_at_cmp at' as (by omega)) k
            omega
          · have st := sa_at_cmp as at' k
            have := sa_lm_max (h.2.2.1 s l) (sa_ex_mid hx pu st)
            exact absurd (h.2.2.2.2 t s ht l this).symm e
        · exact q
  · rcases Nat.lt_or_ge s (m + 1) with k | k
    · have : s = m := by omega
      subst this
      refine ⟨s + 1, by omega, b1, ?_⟩
      rw [sa_up_s, sa_up_n (by omega), sa_up_s, sa_rv_len]
      refine ⟨hz.1, by omega, fun u hu pu lu => ?_⟩
      rcases sa_lm_s hz hu with a | a | a
      · exact hz.2.2 u pu a.1
      · rw [a, sa_rv_len] at lu; omega
      · rw [a]; exact Nat.le_refl _
    · have : s = m + 1 := by omega
      subst this
      obtain ⟨r, hr, e1, x1, x2, x3⟩ := hS.2 t t0 ht
      refine ⟨r, by omega, by rw [b2]; exact e1, ?_⟩
      rw [sa_up_s, sa_up_n (by omega), sa_up_n (by omega)]
      have lr := old (W r) (h.2.2.1 r hr) x1 x2
      refine ⟨List.prefix_of_prefix_length_le x1 hx.1 (by omega), lr, fun u hu pu lu => ?_⟩
      rcases sa_lm_s hz hu with a | a | a
      · exact x3 u a (List.IsPrefix.trans pu hx.1) (by omega)
      · rw [a, sa_rv_len] at lu; omega
      · rw [a] at lu; omega
theorem sf_L2 (hL : sa_L m W aL) (b1 : bL m = nI (p + 1)) (b3 : bL (m + 1) = nI z.length) (b2 : ∀ s, s < m → bL s = aL s) : sa_L (m + 2) (sa_up (sa_up W m (sa_rv T (p + 1))) (m + 1) z) bL := by
  intro s hs
  rcases Nat.lt_or_ge s m with l | l
  · rw [sa_up_n (by omega), sa_up_n (by omega), b2 s l]; exact hL s l
  · rcases Nat.lt_or_ge s (m + 1) with k | k
    · have : s = m := by omega
      subst this
      rw [sa_up_n (by omega), sa_up_s, b1, sa_rv_len]
    · have : s = m + 1 := by omega
      subst this
      rw [sa_up_s, b3]
theorem sf_F2 (h : sa_W T p m W) (hF : sa_F T m W aF) (ht : t < m) (hx : sa_ex T p z (W t)) (hl : z.length < (W t).length) (b1 : bF m = nI p) (b3 : bF (m + 1) = aF t) (b2 : ∀ s, s < m → bF s = aF s) :
    sa_F T (m + 2) (sa_up (sa_up W m (sa_rv T (p + 1))) (m + 1) z) bF := by
  intro s h0 hs
  rcases Nat.lt_or_ge s m with l | l
  · rw [sa_up_n (by omega), sa_up_n (by omega), b2 s l]; exact hF s h0 l
  · rcases Nat.lt_or_ge s (m + 1) with k | k
    · have : s = m := by omega
      subst this
      rw [sa_up_n (by omega), sa_up_s]
      refine ⟨p, b1, sa_at_self, fun e' he a => ?_⟩
      have := sa_at_len a
      rw [sa_rv_len] at this; omega
    · have : s = m + 1 := by omega
      subst this
      rw [sa_up_s, b3]
      obtain ⟨e, e1, e2, e3⟩ := hF t (sa_W_pos h (by omega)) ht
      refine ⟨e, e1, sa_at_pre hx.1 e2, fun e' he a => ?_⟩
      obtain ⟨q, hq, aq⟩ := (h.2.2.1 t ht).1
      have : ¬ q ≤ e := fun c => e3 q c aq
      exact e3 e' he (hx.2 e' (by omega) a)
theorem sf_T2 (h : sa_W T p m W) (hT : sa_T T p m W aT) (ht : t < m) (hz : sa_Z T p z) (hx : sa_ex T p z (W t)) (hl : z.length < (W t).length) (b1 : bT m = 1) (b3 : bT (m + 1) = 0) (b2 : ∀ s, s < m → bT s = aT s) :
    sa_T T (p + 1) (m + 2) (sa_up (sa_up W m (sa_rv T (p + 1))) (m + 1) z) bT := by
  have nz := sf_znl h ht hx hl
  have lz := sa_oc_len hz.2.1
  intro s hs
  rcases Nat.lt_or_ge s m with l | l
  · rw [sa_up_n (by omega), sa_up_n (by omega), b2 s l, hT s l, sf_Told h l]
  · rcases Nat.lt_or_ge s (m + 1) with k | k
    · have : s = m := by omega
      subst this
      rw [sa_up_n (by omega), sa_up_s, b1, b01_t ⟨p + 1, by omega, Nat.le_refl _, rfl⟩]
      rfl
    · have : s = m + 1 := by omega
      subst this
      rw [sa_up_s, b3, b01_f]
      · rfl
      · intro ⟨e, e1, e2, e3⟩
        rcases Nat.lt_or_ge p e with q | q
        · rw [e3, sa_rv_len] at lz; omega
        · exact nz (e3 ▸ sa_lm_rv q)
end
end
end
section
/-! the second loop of extend: states of the chain that lead to t lead to the copy m + 1 -/
def sa_Q (T : Nat → Nat) (p m : Nat) (W : Nat → List Nat) (t k : Nat) (a0 b : Nat → Int32) : Prop :=
  (∀ s d, s < m → d < 4 → sa_at T (d :: W s) (p + 1) → k ≤ (W s).length → a0 (4 * s + d) = nI t → b (4 * s + d) = nI (m + 1))
  ∧ (∀ s d, s < m → d < 4 → ¬ (sa_at T (d :: W s) (p + 1) ∧ k ≤ (W s).length ∧ a0 (4 * s + d) = nI t) → b (4 * s + d) = a0 (4 * s + d))
  ∧ (∀ i, 4 * m ≤ i → b i = a0 i)
section
variable {T : Nat → Nat} {p m t : Nat} {W : Nat → List Nat} {a0 b aS : Nat → Int32}
theorem sq_0 (h : sa_W T p m W) (hm : m < 2 ^ 30) (ht : t < m) (M : sa_M T p m W m 0 a0) {s : Nat} (H : sa_H T p m W (W s).length) : sa_Q T p m W t ((W s).length + 1) a0 a0 := by
  have h31 : (2 : Nat) ^ 31 = 2 * 2 ^ 30 := by decide
  refine ⟨fun s' d hs' hd a l e => ?_, fun s' d hs' hd n => rfl, fun i hi => rfl⟩
  obtain ⟨a1, a2⟩ := sa_at_cons.mp a
  subst a1
  have n := H s' hs' a2 (by omega)
  have := (M s' (T p) hs' hd).2.1 n a (Nat.zero_le _)
  have := (nI_eq (by omega) (by omega)).mp (e.symm.trans this)
  omega
theorem sq_g {s : Nat} (hs : s < m) (hc : T p < 4) (Q : sa_Q T p m W t ((W s).length + 1) a0 b) : b (4 * s + T p) = a0 (4 * s + T p) :=
  Q.2.1 s (T p) hs hc (fun z => by have := z.2.1; omega)
theorem sq_u (h : sa_W T p m W) {s : Nat} (hs : s < m) (hc : T p < 4) (a : sa_at T (W s) p) (Q : sa_Q T p m W t ((W s).length + 1) a0 b) (e : a0 (4 * s + T p) = nI t) :
    sa_Q T p m W t (W s).length a0 (upd b (4 * s + T p) (nI (m + 1))) := by
  refine ⟨fun s' d hs' hd a' l e' => ?_, fun s' d hs' hd n => ?_, fun i hi => ?_⟩
  · rcases Classical.em (s' = s ∧ d = T p) with q | q
    · obtain ⟨rfl, rfl⟩ := q
      exact pk_us
    · rw [pk_un (fun z => q (by omega))]
      obtain ⟨b1, b2⟩ := sa_at_cons.mp a'
      rcases Nat.lt_or_ge (W s).length (W s').length with l2 | l2
      · exact Q.1 s' d hs' hd a' l2 e'
      · exact absurd ⟨sa_W_eq h hs' hs b2 a (by omega), b1⟩ q
  · rcases Classical.em (s' = s ∧ d = T p) with q | q
    · obtain ⟨rfl, rfl⟩ := q
      exact absurd ⟨sa_at_cons.mpr ⟨rfl, a⟩, Nat.le_refl _, e⟩ n
    · rw [pk_un (fun z => q (by omega))]
      exact Q.2.1 s' d hs' hd (fun z => n ⟨z.1, by have := z.2.1; omega, z.2.2⟩)
  · rw [pk_un (by omega)]; exact Q.2.2 i hi
theorem sq_l (h : sa_W T p m W) {s r : Nat} (hs : s < m) (a : sa_at T (W s) p) (Q : sa_Q T p m W t (W s).length a0 b)
    (l1 : (W r).length < (W s).length) (l2 : ∀ u, sa_lm T p u → u <+: W s → u.length < (W s).length → u.length ≤ (W r).length) : sa_Q T p m W t ((W r).length + 1) a0 b := by
  refine ⟨fun s' d hs' hd a' l e' => ?_, fun s' d hs' hd n => ?_, Q.2.2⟩
  · rcases Nat.lt_or_ge (W s').length (W s).length with q | q
    · have := l2 (W s') (h.2.2.1 s' hs') (sa_at_cmp (sa_at_cons.mp a').2 a (by omega)) q
      omega
    · exact Q.1 s' d hs' hd a' q e'
  · exact Q.2.1 s' d hs' hd (fun z => n ⟨z.1, by have := z.2.1; omega, z.2.2⟩)
theorem sq_x (h : sa_W T p m W) (hm : m < 2 ^ 30) (ht : t < m) (M : sa_M T p m W m 0 a0) {s s0 : Nat} (hs : s < m) (hc : T p < 4) (a : sa_at T (W s) p) (a0' : sa_at T (W s0) p)
    (l0 : (W s).length ≤ (W s0).length) (o : sa_oc T p (T p :: W s0)) (hx : sa_ex T p (T p :: W s0) (W t)) (Q : sa_Q T p m W t ((W s).length + 1) a0 b) (n : ¬ b (4 * s + T p) = nI t) : sa_Q T p m W t 0 a0 b := by
  have h31 : (2 : Nat) ^ 31 = 2 * 2 ^ 30 := by decide
  rw [sq_g hs hc Q] at n
  have ss0 : W s <+: W s0 := sa_at_cmp a a0' l0
  have os : sa_oc T p (T p :: W s) := sa_oc_pre (List.cons_prefix_cons.mpr ⟨rfl, ss0⟩) o
  refine ⟨fun s' d hs' hd a' l e' => ?_, fun s' d hs' hd z => ?_, Q.2.2⟩
  · rcases Nat.lt_or_ge (W s).length (W s').length with q | q
    · exact Q.1 s' d hs' hd a' q e'
    · obtain ⟨b1, b2⟩ := sa_at_cons.mp a'
      subst b1
      have ps : W s' <+: W s := sa_at_cmp b2 a q
      have os' : sa_oc T p (T p :: W s') := sa_oc_pre (List.cons_prefix_cons.mpr ⟨rfl, ps⟩) os
      obtain ⟨r, hr, er, xr⟩ := (M s' _ hs' hd).1 os'
      have rt : r = t := (nI_eq (by omega) (by omega)).mp (er.symm.trans e')
      subst rt
      have x2 : sa_ex T p (T p :: W s) (W r) := sa_ex_mid xr (List.cons_prefix_cons.mpr ⟨rfl, ps⟩) (List.IsPrefix.trans (List.cons_prefix_cons.mpr ⟨rfl, ss0⟩) hx.1)
      obtain ⟨r', hr', er', xr'⟩ := (M s _ hs hc).1 os
      have := h.2.2.2.2 r' r hr' hr (sa_lm_uniq os (h.2.2.1 r' hr') (h.2.2.1 r hr) xr' x2)
      subst this
      exact absurd er' n
  · exact Q.2.1 s' d hs' hd (fun y => z ⟨y.1, Nat.zero_le _, y.2.2⟩)
end
end
section
/-! the walks of newState, split, extend -/
theorem bs_ixc {s c : Nat} (h : 4 * s + c < 2 ^ 31) : ((4 : Int32) * nI s + nI c).toNatClampNeg = 4 * s + c := by rw [bs_ix, nI_clamp h]
theorem bs_ixi {s c : Nat} (h : s < 50) (hc : c < 4) : vp_in ((4 : Int32) * nI s + nI c) 200 := by rw [bs_ix]; exact vp_in_nI (by omega) (by decide)
theorem bs_cl {s : Nat} (h : s < 1000) : (nI s).toNatClampNeg = s := nI_clamp (by omega)
theorem bs_4le : (4 : Int32) ≤ nI 4 := by decide
theorem bs_4nl {d : Nat} (h : d < 4) : ¬ (4 : Int32) ≤ nI d := nI_ge (b := 4) h (by decide)
section
variable {fT fP fB fM fL fR : Int32} {aX aP aN aS aL aT aF aW aB : Nat → Int32}
theorem xn_48 {post : Int32 → SX → Prop} {m : Nat} (hm : m < 50)
    (K : ∀ bN, (∀ i, ¬ (4 * m ≤ i ∧ i < 4 * m + 4) → bN i = aN i) → (∀ d, d < 4 → bN (4 * m + d) = 0) → post (nI m) (fT, fP, fB, fM, fL, fR, aX, aP, bN, aS, aL, aT, aF, aW, aB)) :
    ∀ k d bN, d + k = 4 → (∀ i, ¬ (4 * m ≤ i ∧ i < 4 * m + 4) → bN i = aN i) → (∀ d', d' < d → bN (4 * m + d') = 0) →
      wX_newState_48 post (nI m) fT fP fB fM fL fR (k + 1) (nI d) aX aP bN aS aL aT aF aW aB := by
  intro k
  induction k with
  | zero =>
    intro d bN hd o z
    have : d = 4 := by omega
    subst this
    exact br_t bs_4le (K bN o z)
  | succ k ih =>
    intro d bN hd o z
    have e := bs_ixc (s := m) (c := d) (by omega)
    refine br_f (bs_4nl (by omega)) ⟨bs_ixi hm (by omega), nm_r (e' := upd bN (4 * m + d) 0) (by rw [e, bs_nb0]) (nm_r (nI_1 d) (ih (d + 1) _ (by omega) ?_ ?_))⟩
    · intro i hi
      rw [pk_un (by omega)]; exact o i hi
    · intro d' hd'
      rcases Nat.lt_or_ge d' d with l | l
      · rw [pk_un (by omega)]; exact z d' l
      · have : d' = d := by omega
        subst this; exact pk_us
theorem xn_new {post : Int32 → SX → Prop} {m : Nat} (hm : m < 50) (l e : Int32)
    (K : ∀ bN, (∀ i, ¬ (4 * m ≤ i ∧ i < 4 * m + 4) → bN i = aN i) → (∀ d, d < 4 → bN (4 * m + d) = 0) →
      post (nI m) (fT, fP, fB, nI (m + 1), fL, fR, aX, aP, bN, upd aS m (-1), upd aL m l.toInt8.toInt32, upd aT m 0, upd aF m e.toInt8.toInt32, aW, aB)) :
    wpX_newState post (fT, fP, fB, nI m, fL, fR, aX, aP, aN, aS, aL, aT, aF, aW, aB) l e := by
  unfold wpX_newState
  have c := bs_cl (s := m) (by omega)
  have i : vp_in (nI m) 50 := vp_in_nI hm (by decide)
  exact nm_r (nI_1 m) ⟨i, nm_r (e' := upd aL m l.toInt8.toInt32) (by rw [c, pk_vb]) ⟨i, nm_r (e' := upd aF m e.toInt8.toInt32) (by rw [c, pk_vb])
    ⟨i, nm_r (e' := upd aT m 0) (by rw [c, bs_nb0]) ⟨i, nm_r (e' := upd aS m (-1)) (by rw [c, bs_nbm]) ⟨4 + 1, xn_48 hm K 4 0 aN rfl (fun _ _ => rfl) (fun d' h => absurd h (Nat.not_lt_zero _))⟩⟩⟩⟩⟩
theorem xs_15 {post : Int32 → SX → Prop} {m t : Nat} (hm : m < 50) (ht : t < m)
    (hbN : ∀ d, d < 4 → vp_nar .byte (aN (4 * t + d)) = aN (4 * t + d)) (hbS : vp_nar .byte (aS t) = aS t)
    (K : ∀ bN bS, (∀ i, i < 4 * m → bN i = aN i) → (∀ d, d < 4 → bN (4 * m + d) = aN (4 * t + d)) → bS m = aS t → bS t = nI m → (∀ s, s < m → s ≠ t → bS s = aS s) →
      post (nI m) (fT, fP, fB, fM, fL, fR, aX, aP, bN, bS, aL, aT, aF, aW, aB)) :
    ∀ k d bN, d + k = 4 → (∀ i, i < 4 * m → bN i = aN i) → (∀ d', d' < d → bN (4 * m + d') = aN (4 * t + d')) →
      wX_split_15 post (nI t) (nI m) fT fP fB fM fL fR (k + 1) (nI d) aX aP bN aS aL aT aF aW aB := by
  intro k
  have cm := bs_cl (s := m) (by omega)
  have ct := bs_cl (s := t) (by omega)
  have im : vp_in (nI m) 50 := vp_in_nI hm (by decide)
  have it : vp_in (nI t) 50 := vp_in_nI (by omega) (by decide)
  induction k with
  | zero =>
    intro d bN hd o z
    have : d = 4 := by omega
    subst this
    refine br_t bs_4le ⟨it, im, nm_r (e' := upd aS m (aS t)) (by rw [cm, ct, hbS]) ⟨it, nm_r (e' := upd (upd aS m (aS t)) t (nI m)) (by rw [ct, bs_nbb (by omega)]) (K bN _ o z ?_ ?_ ?_)⟩⟩
    · rw [pk_un (by omega), pk_us]
    · rw [pk_us]
    · intro s hs hst
      rw [pk_un hst, pk_un (by omega)]
  | succ k ih =>
    intro d bN hd o z
    have e := bs_ixc (s := m) (c := d) (by omega)
    have e2 := bs_ixc (s := t) (c := d) (by omega)
    refine br_f (bs_4nl (by omega)) ⟨bs_ixi (by omega) (by omega), bs_ixi hm (by omega), nm_r (e' := upd bN (4 * m + d) (aN (4 * t + d))) (by rw [e, e2, o _ (by omega), hbN d (by omega)]) (nm_r (nI_1 d) (ih (d + 1) _ (by omega) ?_ ?_))⟩
    · intro i hi
      rw [pk_un (by omega)]; exact o i hi
    · intro d' hd'
      rcases Nat.lt_or_ge d' d with l | l
      · rw [pk_un (by omega)]; exact z d' l
      · have : d' = d := by omega
        subst this; exact pk_us
theorem xs_split {post : Int32 → SX → Prop} {m t l e : Nat} (hm : m < 50) (ht : t < m) (hl : l < 128) (he : aF t = nI e) (he2 : e < 128)
    (hbN : ∀ d, d < 4 → vp_nar .byte (aN (4 * t + d)) = aN (4 * t + d)) (hbS : vp_nar .byte (aS t) = aS t)
    (K : ∀ bN bS, (∀ i, i < 4 * m → bN i = aN i) → (∀ d, d < 4 → bN (4 * m + d) = aN (4 * t + d)) → bS m = aS t → bS t = nI m → (∀ s, s < m → s ≠ t → bS s = aS s) →
      post (nI m) (fT, fP, fB, nI (m + 1), fL, fR, aX, aP, bN, bS, upd aL m (nI l), upd aT m 0, upd aF m (aF t), aW, aB)) :
    wpX_split post (fT, fP, fB, nI m, fL, fR, aX, aP, aN, aS, aL, aT, aF, aW, aB) (nI t) (nI l) := by
  unfold wpX_split
  have ct := bs_cl (s := t) (by omega)
  refine ⟨vp_in_nI (by omega) (by decide), ?_⟩
  refine xn_new hm _ _ fun bN o z => ?_
  rw [ct, he, bs_b he2, bs_b hl]
  have ut : upd aS m (-1) t = aS t := pk_un (by omega)
  have bt : ∀ d, d < 4 → bN (4 * t + d) = aN (4 * t + d) := fun d hd => o _ (by omega)
  refine ⟨4 + 1, xs_15 (aN := bN) hm ht (fun d hd => ?_) ?_ (fun cN cS q1 q2 q3 q4 q5 => ?_) 4 0 bN rfl (fun _ _ => rfl) (fun d' h => absurd h (Nat.not_lt_zero _))⟩
  · rw [bt d hd]; exact hbN d hd
  · rw [ut]; exact hbS
  · rw [← he]
    refine K cN cS (fun i hi => ?_) (fun d hd => ?_) ?_ q4 (fun s hs hst => ?_)
    · rw [q1 i hi]; exact o i (by omega)
    · rw [q2 d hd, bt d hd]
    · rw [q3, ut]
    · rw [q5 s hs hst]; exact pk_un (by omega)
end
end
section
/-! the walk of extend -/
def sa_I (T : Nat → Nat) (p m : Nat) (W : Nat → List Nat) (la : Nat) (aN aS aL aT aF : Nat → Int32) : Prop :=
  sa_W T p m W ∧ sa_N T p m W aN ∧ sa_S T p m W aS ∧ sa_L m W aL ∧ sa_F T m W aF ∧ sa_T T p m W aT ∧ la < m ∧ W la = sa_rv T p ∧ m ≤ 2 * p + 1
section
variable {T : Nat → Nat} {p m : Nat} {W : Nat → List Nat} {fT fP fB fM fL fR : Int32} {aX aP aN aS aL aT aF aW aB bN bS : Nat → Int32}
theorem sa_S_c (h : sa_S T p m W aS) (h0 : 0 < m) (e : ∀ s, s < m → bS s = aS s) : sa_S T p m W bS :=
  ⟨by rw [e 0 h0]; exact h.1, fun s h0 hs => by rw [e s hs]; exact h.2 s h0 hs⟩
theorem sa_N_c (h : sa_N T p m W aN) (e : ∀ i, i < 4 * m → bN i = aN i) : sa_N T p m W bN :=
  fun s d hs hd => by rw [e (4 * s + d) (by omega)]; exact h s d hs hd
theorem xe_27 {post : SX → Prop} (h : sa_W T p m W) (hS : sa_S T p m W aS) (hm : m < 50) (hc : T p < 4)
    (K0 : ∀ bN, sa_M T p m W m 0 bN → (∀ t, t < m → sa_at T (W t) p → ¬ sa_oc T p (T p :: W t)) → (∀ d, d < 4 → bN (4 * m + d) = 0) →
      wX_extend_71 post (nI (T p)) (nI m) (-1) fT fP fB fM fL fR aX aP bN aS aL aT aF aW aB)
    (K1 : ∀ bN s, s < m → sa_at T (W s) p → sa_M T p m W m 0 bN → sa_H T p m W (W s).length → sa_oc T p (T p :: W s) → (∀ d, d < 4 → bN (4 * m + d) = 0) →
      wX_extend_71 post (nI (T p)) (nI m) (nI s) fT fP fB fM fL fR aX aP bN aS aL aT aF aW aB) :
    ∀ n s bN, s < m → (W s).length + 2 ≤ n → sa_at T (W s) p → sa_M T p m W m ((W s).length + 1) bN → sa_H T p m W (W s).length → (∀ d, d < 4 → bN (4 * m + d) = 0) →
      wX_extend_27 post (nI (T p)) (nI m) fT fP fB fM fL fR n (nI s) aX aP bN aS aL aT aF aW aB := by
  intro n
  induction n with
  | zero => intro s bN hs hn; omega
  | succ n ih =>
    intro s bN hs hn a M H z
    have cs := bs_cl (s := s) (by omega)
    have ix := bs_ixc (s := s) (c := T p) (by omega)
    have ii := bs_ixi (s := s) (c := T p) (by omega) hc
    rcases Classical.em (bN (4 * s + T p) = 0) with q | q
    · have no := sa_M_z h (by omega) hc M hs q
      have M' := sa_M_u h hc M hs a no
      have z' : ∀ d, d < 4 → upd bN (4 * s + T p) (nI m) (4 * m + d) = 0 := fun d hd => by rw [pk_un (by omega)]; exact z d hd
      refine br_f (nI_pos (by omega)) ⟨ii, br_t (by rw [ix]; exact q) ⟨ii, nm_r (e' := upd bN (4 * s + T p) (nI m)) (by rw [ix, bs_nbb (by omega)]) ⟨vp_in_nI (by omega) (by decide), ?_⟩⟩⟩
      rw [cs]
      rcases Nat.eq_zero_or_pos s with s0 | s0
      · subst s0
        refine nm_r hS.1 ?_
        have w0 : (W 0).length = 0 := by rw [h.2.1]; rfl
        obtain ⟨n', rfl⟩ : ∃ n', n = n' + 1 := ⟨n - 1, by omega⟩
        rw [w0] at M'
        refine br_t bs_m1lt (K0 _ M' (fun t ht at' => ?_) z')
        rcases Nat.eq_zero_or_pos t with t0 | t0
        · subst t0; exact no
        · exact H t ht at' (by rw [w0]; exact sa_W_pos' h t0 ht)
      · obtain ⟨r, hr, e, x1, x2, x3⟩ := hS.2 s s0 hs
        refine nm_r e ?_
        exact ih r _ hr (by omega) (sa_at_pre x1 a) (sa_M_l h hS M' hs a x2 x3) (sa_H_l h H hs a no x3) z'
    · obtain ⟨o, M'⟩ := sa_M_x h hc M hs a q
      exact br_f (nI_pos (by omega)) ⟨ii, br_f (by rw [ix]; exact q) (K1 bN s hs a M' H o z)⟩
/-- the second loop: from s on -/
theorem xe_143 {post : SX → Prop} {t s0 : Nat} (h : sa_W T p m W) (hS0 : aS 0 = -1)
    (hS : ∀ s, 0 < s → s < m → (W s).length ≤ (W s0).length → ∃ t, t < m ∧ aS s = nI t ∧ W t <+: W s ∧ (W t).length < (W s).length ∧ ∀ u, sa_lm T p u → u <+: W s → u.length < (W s).length → u.length ≤ (W t).length)
    (hm : m + 1 < 50) (hc : T p < 4) (ht : t < m)
    (M : sa_M T p m W m 0 aN) (a0' : sa_at T (W s0) p) (o : sa_oc T p (T p :: W s0)) (hx : sa_ex T p (T p :: W s0) (W t))
    (K : ∀ bN, sa_Q T p m W t 0 aN bN → post (fT, fP, fB, fM, fL, fR, aX, aP, bN, upd aS m (nI (m + 1)), aL, aT, aF, aW, aB)) :
    ∀ n s bN, s < m → (W s).length + 2 ≤ n → (W s).length ≤ (W s0).length → sa_at T (W s) p → sa_Q T p m W t ((W s).length + 1) aN bN →
      wX_extend_143 post (nI (T p)) (nI m) (nI t) (nI (m + 1)) fT fP fB fM fL fR n (nI s) aX aP bN aS aL aT aF aW aB := by
  intro n
  have im : vp_in (nI m) 50 := vp_in_nI (by omega) (by decide)
  have cm := bs_cl (s := m) (by omega)
  induction n with
  | zero => intro s bN hs hn; omega
  | succ n ih =>
    intro s bN hs hn l0 a Q
    have cs := bs_cl (s := s) (by omega)
    have ix := bs_ixc (s := s) (c := T p) (by omega)
    have ii := bs_ixi (s := s) (c := T p) (by omega) hc
    rcases Classical.em (bN (4 * s + T p) = nI t) with q | q
    · have Q' := sq_u h hs hc a Q (by rw [← sq_g hs hc Q]; exact q)
      refine br_f (nI_pos (by omega)) ⟨ii, br_t (by rw [ix]; exact q) ⟨ii, nm_r (e' := upd bN (4 * s + T p) (nI (m + 1))) (by rw [ix, bs_nbb (by omega)]) ⟨vp_in_nI (by omega) (by decide), ?_⟩⟩⟩
      rw [cs]
      rcases Nat.eq_zero_or_pos s with z0 | z0
      · subst z0
        refine nm_r hS0 ?_
        have w0 : (W 0).length = 0 := by rw [h.2.1]; rfl
        obtain ⟨n', rfl⟩ : ∃ n', n = n' + 1 := ⟨n - 1, by omega⟩
        rw [w0] at Q'
        exact br_t bs_m1lt ⟨im, nm_r (e' := upd aS m (nI (m + 1))) (by rw [cm, bs_nbb (by omega)]) (K _ Q')⟩
      · obtain ⟨r, hr, e, x1, x2, x3⟩ := hS s z0 hs l0
        refine nm_r e ?_
        exact ih r _ hr (by omega) (by omega) (sa_at_pre x1 a) (sq_l h hs a Q' x2 x3)
    · have Q' := sq_x h (by omega) ht M hs hc a a0' l0 o hx Q q
      exact br_f (nI_pos (by omega)) ⟨ii, br_f (by rw [ix]; exact q) ⟨im, nm_r (e' := upd aS m (nI (m + 1))) (by rw [cm, bs_nbb (by omega)]) (K _ Q')⟩⟩
theorem sa_M_b {f k : Nat} (h : sa_M T p m W f k aN) (hm : m < 50) (hf : f < 50) {s d : Nat} (hs : s < m) (hd : d < 4) : vp_nar .byte (aN (4 * s + d)) = aN (4 * s + d) := by
  obtain ⟨h1, h2, h3⟩ := h s d hs hd
  rcases Classical.em (sa_oc T p (d :: W s)) with o | o
  · obtain ⟨t, ht, e, _⟩ := h1 o
    rw [e]; exact bs_nb (by omega)
  · rcases Classical.em (sa_at T (d :: W s) (p + 1) ∧ k ≤ (W s).length) with a | a
    · rw [h2 o a.1 a.2]; exact bs_nb (by omega)
    · rw [h3 o a]; exact bs_nb0
theorem xe_extend {post : SX → Prop} {la : Nat} (hp : p < 24) (hc : T p < 4) (I : sa_I T p m W la aN aS aL aT aF)
    (K : ∀ m' W' la' bN bS bL bT bF, sa_I T (p + 1) m' W' la' bN bS bL bT bF → post (fT, fP, fB, nI m', nI la', fR, aX, aP, bN, bS, bL, bT, bF, aW, aB)) :
    wpX_extend post (fT, fP, fB, nI m, nI la, fR, aX, aP, aN, aS, aL, aT, aF, aW, aB) (nI (T p)) (nI p) := by
  obtain ⟨h, hN, hS, hL, hF, hT, hla, wla, hm⟩ := I
  unfold wpX_extend
  have m0 := h.1
  have im : vp_in (nI m) 50 := vp_in_nI (by omega) (by decide)
  have cm := bs_cl (s := m) (by omega)
  refine xn_new (by omega) _ _ fun bN o z => ?_
  refine ⟨im, nm_r (e' := upd (upd aT m 0) m 1) (by rw [cm, bs_nb1]) ?_⟩
  rw [nI_1, bs_b (n := p + 1) (by omega), bs_b (n := p) (by omega)]
  have hN' : sa_N T p m W bN := sa_N_c hN (fun i hi => o i (by omega))
  have hS' : sa_S T p m W (upd aS m (-1)) := sa_S_c hS m0 (fun s hs => pk_un (by omega))
  have uL : ∀ s, s < m → upd aL m (nI (p + 1)) s = aL s := fun s hs => pk_un (by omega)
  have uF : ∀ s, s < m → upd aF m (nI p) s = aF s := fun s hs => pk_un (by omega)
  have uT : ∀ s, s < m → upd (upd aT m 0) m 1 s = aT s := fun s hs => by rw [pk_un (by omega), pk_un (by omega)]
  refine ⟨(W la).length + 2, xe_27 h hS' (by omega) hc ?_ ?_ _ la bN hla (Nat.le_refl _) (by rw [wla]; exact sa_at_self) ?_ ?_ z⟩
  · intro cN M H z
    have Z : sa_Z T p (W 0) := by rw [h.2.1]; exact sa_H_Z0 h H
    refine br_f bs_m1le ⟨im, nm_r (e' := upd (upd aS m (-1)) m (nI 0)) (by rw [cm, bs_nb0, nI_0]) (K (m + 1) _ m cN _ _ _ _ ⟨sf_W1 h m0 Z, sf_N1 h m0 Z M z, ?_, ?_, ?_, ?_, by omega, sa_up_s, by omega⟩)⟩
    · exact sf_S1 h hS m0 Z pk_us (fun s hs => by rw [pk_un (by omega), pk_un (by omega)])
    · exact sf_L1 hL pk_us uL
    · exact sf_F1 hF pk_us uF
    · exact sf_T1 h hT pk_us uT
  · intro cN s hs a M H oc z
    have Z : sa_Z T p (T p :: W s) := sa_H_Z h H a oc
    obtain ⟨t, ht, et, xt⟩ := (M s _ hs hc).1 oc
    have cs := bs_cl (s := s) (by omega)
    have ct := bs_cl (s := t) (by omega)
    have ix := bs_ixc (s := s) (c := T p) (by omega)
    have ii := bs_ixi (s := s) (c := T p) (by omega) hc
    have is : vp_in (nI s) 50 := vp_in_nI (by omega) (by decide)
    have it : vp_in (nI t) 50 := vp_in_nI (by omega) (by decide)
    have es : upd aL m (nI (p + 1)) s = nI (W s).length := by rw [uL s hs]; exact hL s hs
    have e2 : upd aL m (nI (p + 1)) t = nI (W t).length := by rw [uL t ht]; exact hL t ht
    have ls := sa_W_len h hs
    have lt := sa_W_len h ht
    have lz : (T p :: W s).length = (W s).length + 1 := rfl
    refine br_t (nI_pos' (by omega)) ⟨ii, nm_r (e' := nI t) (by rw [ix]; exact et) ⟨it, is, ?_⟩⟩
    rw [ct, cs, es, e2, nI_1]
    refine pk_eq (W t).length ((W s).length + 1) (fun e => ?_) (fun e => ?_)
    · have ez : W t = T p :: W s := (List.IsPrefix.eq_of_length xt.1 (by rw [e]; rfl)).symm
      have Z' : sa_Z T p (W t) := by rw [ez]; exact Z
      refine ⟨im, nm_r (e' := upd (upd aS m (-1)) m (nI t)) (by rw [cm, bs_nbb (by omega)]) (K (m + 1) _ m cN _ _ _ _ ⟨sf_W1 h ht Z', sf_N1 h ht Z' M z, ?_, ?_, ?_, ?_, by omega, sa_up_s, by omega⟩)⟩
      · exact sf_S1 h hS ht Z' pk_us (fun s hs => by rw [pk_un (by omega), pk_un (by omega)])
      · exact sf_L1 hL pk_us uL
      · exact sf_F1 hF pk_us uF
      · exact sf_T1 h hT pk_us uT
    · have hl : (T p :: W s).length < (W t).length := by
        have := List.IsPrefix.length_le xt.1
        omega
      have t0 : 0 < t := sa_W_pos h (by omega)
      obtain ⟨ef, f1, f2, f3⟩ := hF t t0 ht
      have fle : ef < p := by
        obtain ⟨q, hq, aq⟩ := (h.2.2.1 t ht).1
        have : ¬ q ≤ ef := fun c => f3 q c aq
        omega
      obtain ⟨r, hr, er, r1, r2, r3⟩ := hS.2 t t0 ht
      refine ⟨is, xs_split (m := m + 1) (t := t) (e := ef) (by omega) (by omega) (by omega) (by rw [uF t ht]; exact f1) (by omega) (fun d hd => sa_M_b M (by omega) (by omega) ht hd) (by rw [pk_un (by omega), er]; exact bs_nb (by omega)) ?_⟩
      intro dN dS q1 q2 q3 q4 q5
      have M' : sa_M T p m W m 0 dN := fun s d hs hd => by rw [q1 _ (by omega)]; exact M s d hs hd
      have sS : ∀ r, r < m → r ≠ t → dS r = aS r := fun r hr ht => by rw [q5 r (by omega) ht]; exact pk_un (by omega)
      -- the chain below s is as it was: t is longer than all of it
      have st : ∀ r, r < m → (W r).length ≤ (W s).length → r ≠ t := fun r hr lr e => by subst e; omega
      refine ⟨(W s).length + 2, xe_143 (aN := dN) (t := t) (s0 := s) h ?_ ?_ (by omega) hc ht M' a oc xt ?_ _ s dN hs (Nat.le_refl _) (Nat.le_refl _) a (sq_0 h (by omega) ht M' H)⟩
      · rw [sS 0 m0 (st 0 m0 (by rw [h.2.1]; exact Nat.zero_le _))]; exact hS.1
      · intro r h0 hr lr
        rw [sS r hr (st r hr lr)]
        exact hS.2 r h0 hr
      · intro eN Q
        refine K (m + 2) _ m eN _ _ _ _ ⟨sf_W2 h ht Z xt hl, ?_, ?_, ?_, ?_, ?_, by omega, by rw [sa_up_n (by omega), sa_up_s], by omega⟩
        · refine sf_N2 (aN := dN) h (by omega) ht Z xt hl (by omega) M' (fun d hd => ?_) (fun d hd => ?_) (fun s d hs hd x1 x2 => ?_) (fun s d hs hd x => ?_)
          · rw [Q.2.2 _ (by omega), q1 _ (by omega)]; exact z d hd
          · rw [Q.2.2 _ (by omega), q2 d hd, q1 _ (by omega)]
          · exact Q.1 s d hs hd x1 (Nat.zero_le _) x2
          · exact Q.2.1 s d hs hd (fun y => x ⟨y.1, y.2.2⟩)
        · refine sf_S2 h hS ht Z xt hl (by omega) pk_us ?_ ?_ ?_
          · rw [pk_un (by omega), q3]; exact pk_un (by omega)
          · rw [pk_un (by omega)]; exact q4
          · intro r hr hrt
            rw [pk_un (by omega)]; exact sS r hr hrt
        · refine sf_L2 hL ?_ pk_us ?_
          · rw [pk_un (by omega)]; exact pk_us
          · intro r hr
            rw [pk_un (by omega)]; exact uL r hr
        · refine sf_F2 h hF ht xt hl ?_ ?_ ?_
          · rw [pk_un (by omega)]; exact pk_us
          · rw [pk_us]; exact uF t ht
          · intro r hr
            rw [pk_un (by omega)]; exact uF r hr
        · refine sf_T2 h hT ht Z xt hl ?_ pk_us ?_
          · rw [pk_un (by omega)]; exact pk_us
          · intro r hr
            rw [pk_un (by omega)]; exact uT r hr
  · rw [wla, sa_rv_len]; exact sa_M_0 h hN' m
  · intro t ht at' l
    rw [wla, sa_rv_len] at l
    have := sa_W_len h ht
    omega
end
end
section
/-! orderByLength: insertion sort; ghost g with byLength j = nI (g j) -/
def or_P (W : Nat → List Nat) (i : Nat) (g : Nat → Nat) (b : Nat → Int32) : Prop :=
  (∀ j, j < i → g j < i ∧ b j = nI (g j)) ∧ (∀ s, s < i → ∃ j, j < i ∧ g j = s) ∧ (∀ j k, j < k → k < i → (W (g j)).length ≤ (W (g k)).length) ∧ (∀ j k, j < i → k < i → g j = g k → j = k)
def or_f (g : Nat → Nat) (a i : Nat) (j : Nat) : Nat := if j < a then g j else if j = a then i else g (j - 1)
theorem or_ins {W : Nat → List Nat} {i a : Nat} {g : Nat → Nat} {b b' : Nat → Int32} (h : or_P W i g b) (ha : a ≤ i)
    (b1 : ∀ j, j < a → b' j = nI (g j)) (b2 : ∀ j, a < j → j ≤ i → b' j = nI (g (j - 1))) (b3 : ∀ j, a ≤ j → j < i → (W i).length < (W (g j)).length)
    (b4 : ∀ j, j < a → (W (g j)).length ≤ (W i).length) : ∃ g', or_P W (i + 1) g' (upd b' a (nI i)) := by
  obtain ⟨h1, h2, h3, h4⟩ := h
  have e1 : ∀ j, j < a → or_f g a i j = g j := fun j hj => if_pos hj
  have e2 : or_f g a i a = i := by simp [or_f]
  have e3 : ∀ j, a < j → or_f g a i j = g (j - 1) := fun j hj => by unfold or_f; rw [if_neg (by omega), if_neg (by omega)]
  refine ⟨or_f g a i, ?_, ?_, ?_, ?_⟩
  · intro j hj
    rcases Nat.lt_trichotomy j a with l | l | l
    · rw [e1 j l, pk_un (by omega)]
      exact ⟨by have := (h1 j (by omega)).1; omega, b1 j l⟩
    · subst l
      rw [e2, pk_us]
      exact ⟨by omega, rfl⟩
    · rw [e3 j l, pk_un (by omega)]
      exact ⟨by have := (h1 (j - 1) (by omega)).1; omega, b2 j l (by omega)⟩
  · intro s hs
    rcases Nat.lt_or_ge s i with l | l
    · obtain ⟨j, hj, e⟩ := h2 s l
      rcases Nat.lt_or_ge j a with k | k
      · exact ⟨j, by omega, by rw [e1 j k]; exact e⟩
      · refine ⟨j + 1, by omega, ?_⟩
        rw [e3 (j + 1) (by omega)]; exact e
    · have : s = i := by omega
      subst this
      exact ⟨a, by omega, e2⟩
  · intro j k hjk hk
    rcases Nat.lt_trichotomy k a with l | l | l
    · rw [e1 j (by omega), e1 k l]; exact h3 j k hjk (by omega)
    · subst l
      rw [e1 j hjk, e2]; exact b4 j hjk
    · rw [e3 k l]
      rcases Nat.lt_trichotomy j a with q | q | q
      · rw [e1 j q]; exact h3 j (k - 1) (by omega) (by omega)
      · subst q
        rw [e2]; exact Nat.le_of_lt (b3 (k - 1) (by omega) (by omega))
      · rw [e3 j q]; exact h3 (j - 1) (k - 1) (by omega) (by omega)
  · have key : ∀ j k, j < k → k < i + 1 → or_f g a i j = or_f g a i k → False := by
      intro j k hjk hk e
      rcases Nat.lt_trichotomy k a with l | l | l
      · rw [e1 j (by omega), e1 k l] at e
        have := h4 j k (by omega) (by omega) e; omega
      · subst l
        rw [e1 j hjk, e2] at e
        have := (h1 j (by omega)).1; omega
      · rw [e3 k l] at e
        rcases Nat.lt_trichotomy j a with q | q | q
        · rw [e1 j q] at e
          have := h4 j (k - 1) (by omega) (by omega) e; omega
        · subst q
          rw [e2] at e
          have := (h1 (k - 1) (by omega)).1; omega
        · rw [e3 j q] at e
          have := h4 (j - 1) (k - 1) (by omega) (by omega) e; omega
    intro j k hj hk e
    rcases Nat.lt_trichotomy j k with l | l | l
    · exact (key j k l hk e).elim
    · exact l
    · exact (key k j l hj e.symm).elim
section
variable {m : Nat} {W : Nat → List Nat} {fT fP fB fL fR : Int32} {aX aP aN aS aL aT aF aW aB : Nat → Int32}
theorem xo_12 {post : SX → Prop} {J : Int32 → (Nat → Int32) → (Nat → Int32) → (Nat → Int32) → (Nat → Int32) → (Nat → Int32) → (Nat → Int32) → (Nat → Int32) → (Nat → Int32) → (Nat → Int32) → Prop}
    {i : Nat} {g : Nat → Nat} {b : Nat → Int32} (hm : m ≤ 50) (hi : i < m) (hW : ∀ s, s < m → (W s).length < 1000) (hL : sa_L m W aL) (h : or_P W i g b)
    (K : ∀ g' b', or_P W (i + 1) g' b' → J (nI (i + 1)) aX aP aN aS aL aT aF aW b') :
    ∀ a b', a ≤ i → (∀ j, j < a → b' j = nI (g j)) → (∀ j, a < j → j ≤ i → b' j = nI (g (j - 1))) → (∀ j, a ≤ j → j < i → (W i).length < (W (g j)).length) →
      wX_orderByLength_12 post J (nI i) fT fP fB (nI m) fL fR (a + 1) (nI a) aX aP aN aS aL aT aF aW b' := by
  intro a
  have fin : ∀ a b', a ≤ i → (∀ j, j < a → b' j = nI (g j)) → (∀ j, a < j → j ≤ i → b' j = nI (g (j - 1))) → (∀ j, a ≤ j → j < i → (W i).length < (W (g j)).length) →
      (∀ j, j < a → (W (g j)).length ≤ (W i).length) → wX_orderByLength_58 post J (nI i) (nI a) fT fP fB (nI m) fL fR aX aP aN aS aL aT aF aW b' := by
    intro a b' ha b1 b2 b3 b4
    obtain ⟨g', hg⟩ := or_ins h ha b1 b2 b3 b4
    exact ⟨vp_in_nI (by omega) (by decide), nm_r (e' := upd b' a (nI i)) (by rw [bs_cl (by omega), bs_nbb (by omega)]) (nm_r (nI_1 i) (K g' _ hg))⟩
  induction a with
  | zero =>
    intro b' ha b1 b2 b3
    exact br_t (by decide) (fin 0 b' ha b1 b2 b3 (fun j hj => absurd hj (Nat.not_lt_zero _)))
  | succ a ih =>
    intro b' ha b1 b2 b3
    have e1 : nI (a + 1) - 1 = nI a := nI_pred a
    have ca := bs_cl (s := a) (by omega)
    have ci := bs_cl (s := i) (by omega)
    have ga := (h.1 a (by omega)).1
    have eb : b' (nI (a + 1) - 1).toNatClampNeg = nI (g a) := by rw [e1, ca]; exact b1 a (by omega)
    have cg := bs_cl (s := g a) (by omega)
    have i1 : vp_in (nI (a + 1) - 1) 50 := by rw [e1]; exact vp_in_nI (by omega) (by decide)
    refine br_f (nI_nle (by omega) (by omega)) ⟨i1, by rw [eb]; exact vp_in_nI (by omega) (by decide), vp_in_nI (by omega) (by decide), ?_⟩
    rw [eb, cg, ci, hL (g a) (by omega), hL i hi]
    have l1 := hW (g a) (by omega)
    have l2 := hW i hi
    refine pk_le (W (g a)).length (W i).length (fun l => ?_) (fun l => ?_)
    · refine fin (a + 1) b' ha b1 b2 b3 (fun j hj => ?_)
      rcases Nat.lt_or_ge j a with k | k
      · have := h.2.2.1 j a k (by omega); omega
      · have : j = a := by omega
        subst this; exact l
    · refine ⟨i1, vp_in_nI (by omega) (by decide), nm_r (e' := upd b' (a + 1) (nI (g a))) (by rw [bs_cl (by omega), bs_nb (by omega)]) (nm_r (pk_m1 a) (ih _ (by omega) ?_ ?_ ?_))⟩
      · intro j hj
        rw [pk_un (by omega)]; exact b1 j (by omega)
      · intro j hj hji
        rcases Nat.lt_or_ge (a + 1) j with k | k
        · rw [pk_un (by omega)]; exact b2 j k hji
        · have : j = a + 1 := by omega
          subst this; exact pk_us
      · intro j hj hji
        rcases Nat.lt_or_ge a j with k | k
        · exact b3 j k hji
        · have : j = a := by omega
          subst this; exact l
theorem xo_2 {post : SX → Prop} (hm : m ≤ 50) (hW : ∀ s, s < m → (W s).length < 1000) (hL : sa_L m W aL)
    (K : ∀ g b, or_P W m g b → post (fT, fP, fB, nI m, fL, fR, aX, aP, aN, aS, aL, aT, aF, aW, b)) :
    ∀ n i g b, i + n = m → or_P W i g b → wX_orderByLength_2 post fT fP fB (nI m) fL fR (n + 1) (nI i) aX aP aN aS aL aT aF aW b := by
  intro n
  induction n with
  | zero =>
    intro i g b hi h
    have : i = m := by omega
    subst this
    exact br_t (nI_le (Nat.le_refl _) (by omega)) (K g b h)
  | succ n ih =>
    intro i g b hi h
    exact br_f (nI_ge (by omega) (by omega)) ⟨i + 1, xo_12 hm (by omega) hW hL h (fun g' b' hg => ih (i + 1) g' b' (by omega) hg) i b (Nat.le_refl _) (fun j hj => (h.1 j hj).2) (fun j h1 h2 => absurd h1 (by omega)) (fun j h1 h2 => absurd h1 (by omega))⟩
theorem xo_order {post : SX → Prop} (hm : m ≤ 50) (hW : ∀ s, s < m → (W s).length < 1000) (hL : sa_L m W aL)
    (K : ∀ g b, or_P W m g b → post (fT, fP, fB, nI m, fL, fR, aX, aP, aN, aS, aL, aT, aF, aW, b)) :
    wpX_orderByLength post (fT, fP, fB, nI m, fL, fR, aX, aP, aN, aS, aL, aT, aF, aW, aB) := by
  unfold wpX_orderByLength
  exact ⟨m + 1, xo_2 hm hW hL K m 0 (fun _ => 0) aB (by omega) ⟨fun j hj => absurd hj (Nat.not_lt_zero _), fun j hj => absurd hj (Nat.not_lt_zero _), fun j k _ hj => absurd hj (Nat.not_lt_zero _), fun j k hj => absurd hj (Nat.not_lt_zero _)⟩⟩
end
end
section
/-! countTimes: each end is counted along the chain of shorter -/
/-- how often w occurs (for a word that isn't empty) -/
noncomputable def ct (T : Nat → Nat) (n : Nat) (w : List Nat) : Nat := cn (fun e => sa_at T w (e + 1)) n
/-- the states behind place i of the order -/
def tk_p (g : Nat → Nat) (m i s : Nat) : Prop := ∃ j, i < j ∧ j < m ∧ g j = s
def tk (T : Nat → Nat) (m : Nat) (W : Nat → List Nat) (aS : Nat → Int32) (g : Nat → Nat) (i t e : Nat) : Prop :=
  sa_at T (W t) (e + 1) ∧ ∀ s, 0 < s → s < m → aS s = nI t → sa_at T (W s) (e + 1) → tk_p g m i s
section
variable {T : Nat → Nat} {n m : Nat} {W : Nat → List Nat} {g : Nat → Nat} {fT fP fB fL fR : Int32} {aX aP aN aS aL aT aF aW aB : Nat → Int32}
theorem cn_one {P : Nat → Prop} : ∀ {N : Nat}, (∀ j k, j < N → k < N → P j → P k → j = k) → cn P N = b01 (∃ k, k < N ∧ P k)
  | 0, _ => by rw [b01_f (fun ⟨k, hk, _⟩ => absurd hk (Nat.not_lt_zero _))]; rfl
  | N + 1, h => by
    simp only [cn]
    rcases Classical.em (P N) with p | p
    · rw [b01_t p, b01_t ⟨N, by omega, p⟩, cn_0]
      intro k hk pk
      have := h k N (by omega) (by omega) pk p; omega
    · rw [b01_f p, cn_one (N := N) (fun j k hj hk => h j k (by omega) (by omega))]
      refine b01_c ⟨fun ⟨k, hk, pk⟩ => ⟨k, by omega, pk⟩, fun ⟨k, hk, pk⟩ => ⟨k, ?_, pk⟩⟩
      rcases Nat.lt_or_ge k N with l | l
      · exact l
      · have : k = N := by omega
        subst this; exact absurd pk p
/-- between t and a longer word there is a child of t -/
theorem tk_child (h : sa_W T n m W) (hS : sa_S T n m W aS) {t : Nat} (ht : t < m) : ∀ k r, (W r).length ≤ k → r < m → W t <+: W r → (W t).length < (W r).length → ∃ s, 0 < s ∧ s < m ∧ aS s = nI t ∧ W s <+: W r := by
  intro k
  induction k with
  | zero => intro r h1 _ _ h2; omega
  | succ k ih =>
    intro r h1 hr hp hl
    have r0 : 0 < r := sa_W_pos h (by omega)
    obtain ⟨q, hq, e, x1, x2, x3⟩ := hS.2 r r0 hr
    have lt := x3 (W t) (h.2.2.1 t ht) hp hl
    have pq : W t <+: W q := List.prefix_of_prefix_length_le hp x1 lt
    rcases Nat.lt_or_ge (W t).length (W q).length with l | l
    · obtain ⟨s, s0, hs, es, ps⟩ := ih q (by omega) hq pq l
      exact ⟨s, s0, hs, es, List.IsPrefix.trans ps x1⟩
    · have : t = q := h.2.2.2.2 t q ht hq (List.IsPrefix.eq_of_length_le pq l)
      subst this
      exact ⟨r, r0, hr, e, List.prefix_rfl⟩
theorem tk_uniq (h : sa_W T n m W) (hS : sa_S T n m W aS) (hm : m < 50) {t s s' e : Nat} (h0 : 0 < s) (hs : s < m) (h0' : 0 < s') (hs' : s' < m) (a : aS s = nI t) (a' : aS s' = nI t)
    (p : sa_at T (W s) e) (p' : sa_at T (W s') e) (ht : t < m) : s = s' := by
  obtain ⟨q, hq, e1, x1, x2, x3⟩ := hS.2 s h0 hs
  obtain ⟨q', hq', e1', x1', x2', x3'⟩ := hS.2 s' h0' hs'
  have : q = t := (nI_eq (by omega) (by omega)).mp (e1.symm.trans a)
  subst this
  have : q' = q := (nI_eq (by omega) (by omega)).mp (e1'.symm.trans a')
  subst this
  rcases Nat.lt_trichotomy (W s).length (W s').length with l | l | l
  · have := x3' (W s) (h.2.2.1 s hs) (sa_at_cmp p p' (by omega)) l; omega
  · exact sa_W_eq h hs hs' p p' l
  · have := x3 (W s') (h.2.2.1 s' hs') (sa_at_cmp p' p (by omega)) l; omega
theorem tk_0 (h : sa_W T n m W) (hS : sa_S T n m W aS) (hm : m < 50) (hT : sa_T T n m W aT) {i : Nat} (hi : m ≤ i + 1) {t : Nat} (ht : t < m) : aT t = nI (cn (tk T m W aS g i t) n) := by
  rw [hT t ht]
  have key : ∀ e, e < n → (tk T m W aS g i t e ↔ W t = sa_rv T (e + 1)) := by
    intro e he
    constructor
    · intro ⟨k1, k2⟩
      rcases Nat.lt_or_ge (W t).length (e + 1) with l | l
      · obtain ⟨r, hr, er⟩ := h.2.2.2.1 (sa_rv T (e + 1)) (sa_lm_rv (by omega))
        obtain ⟨s, s0, hs, es, ps⟩ := tk_child h hS ht _ r (Nat.le_refl _) hr (by rw [er]; exact k1) (by rw [er, sa_rv_len]; exact l)
        rw [er] at ps
        obtain ⟨j, j1, j2, _⟩ := k2 s s0 hs es ps
        omega
      · exact sa_at_eq k1 l
    · intro e1
      refine ⟨by rw [e1]; exact sa_at_self, fun s s0 hs es ps => ?_⟩
      obtain ⟨q, hq, e2, x1, x2, x3⟩ := hS.2 s s0 hs
      have : q = t := (nI_eq (by omega) (by omega)).mp (e2.symm.trans es)
      subst this
      have := sa_at_len ps
      rw [e1, sa_rv_len] at x2; omega
  rw [cn_c key, cn_one]
  · refine congrArg nI (b01_c ⟨fun ⟨e, e0, e1, e2⟩ => ⟨e - 1, by omega, ?_⟩, fun ⟨e, e0, e1⟩ => ⟨e + 1, by omega, by omega, e1⟩⟩)
    rw [show e - 1 + 1 = e by omega]; exact e2
  · intro j k hj hk e1 e2
    have := congrArg List.length (e1.symm.trans e2)
    rw [sa_rv_len, sa_rv_len] at this; omega
theorem tk_g0 (h : sa_W T n m W) (G : or_P W m g aB) {j : Nat} (hj : j < m) (e : g j = 0) : j = 0 := by
  rcases Nat.eq_zero_or_pos j with z | z
  · exact z
  · have m0 := h.1
    have l := G.2.2.1 0 j z hj
    rw [e, h.2.1] at l
    have : g 0 = 0 := by
      rcases Nat.eq_zero_or_pos (g 0) with q | q
      · exact q
      · have := sa_W_pos' h q (G.1 0 m0).1
        simp at l; rw [l] at this; simp at this
    exact G.2.2.2 j 0 hj m0 (e.trans this.symm)
/-- all children of g i are behind i -/
theorem tk_s (h : sa_W T n m W) (hS : sa_S T n m W aS) (hm : m < 50) (G : or_P W m g aB) {i : Nat} (hi : i < m) : cn (tk T m W aS g i (g i)) n = ct T n (W (g i)) := by
  refine cn_c fun e he => ⟨fun k => k.1, fun k => ⟨k, fun s s0 hs es ps => ?_⟩⟩
  have gi := (G.1 i hi).1
  obtain ⟨q, hq, e2, x1, x2, x3⟩ := hS.2 s s0 hs
  have : q = g i := (nI_eq (by omega) (by omega)).mp (e2.symm.trans es)
  subst this
  obtain ⟨j, hj, ej⟩ := G.2.1 s hs
  refine ⟨j, ?_, hj, ej⟩
  rcases Nat.lt_trichotomy i j with l | l | l
  · exact l
  · subst l; rw [ej] at x2; omega
  · have := G.2.2.1 j i l hi
    rw [ej] at this; omega
theorem tk_step (h : sa_W T n m W) (hS : sa_S T n m W aS) (hm : m < 50) (G : or_P W m g aB) {i t : Nat} (hi : i + 1 < m) (h0 : 0 < g (i + 1)) (ht : t < m) (es : aS (g (i + 1)) = nI t) :
    cn (tk T m W aS g i t) n = cn (tk T m W aS g (i + 1) t) n + ct T n (W (g (i + 1))) := by
  have gi := (G.1 (i + 1) hi).1
  obtain ⟨q, hq, e2, x1, x2, x3⟩ := hS.2 _ h0 gi
  have : q = t := (nI_eq (by omega) (by omega)).mp (e2.symm.trans es)
  subst this
  refine cn_or (fun e he => ⟨fun k => ?_, fun k => ?_⟩) (fun e he k1 k2 => ?_)
  · rcases Classical.em (sa_at T (W (g (i + 1))) (e + 1)) with a | a
    · exact Or.inr a
    · refine Or.inl ⟨k.1, fun s s0 hs e1 ps => ?_⟩
      obtain ⟨j, j1, j2, j3⟩ := k.2 s s0 hs e1 ps
      refine ⟨j, ?_, j2, j3⟩
      rcases Nat.lt_or_ge (i + 1) j with l | l
      · exact l
      · have : j = i + 1 := by omega
        subst this; subst j3; exact absurd ps a
  · rcases k with k | k
    · refine ⟨k.1, fun s s0 hs e1 ps => ?_⟩
      obtain ⟨j, j1, j2, j3⟩ := k.2 s s0 hs e1 ps
      exact ⟨j, by omega, j2, j3⟩
    · refine ⟨sa_at_pre x1 k, fun s s0 hs e1 ps => ?_⟩
      have := tk_uniq h hS hm s0 hs h0 gi e1 es ps k ht
      exact ⟨i + 1, by omega, hi, this.symm⟩
  · obtain ⟨j, j1, j2, j3⟩ := k1.2 _ h0 gi es k2
    have := G.2.2.2 j (i + 1) j2 hi j3
    omega
theorem tk_other (G : or_P W m g aB) (hm : m < 50) {i t r : Nat} (hi : i + 1 < m) (es : aS (g (i + 1)) = nI t) (ht : t < m) (hr : r < m) (n' : r ≠ t) :
    cn (tk T m W aS g i r) n = cn (tk T m W aS g (i + 1) r) n := by
  refine cn_c fun e he => ⟨fun k => ⟨k.1, fun s s0 hs e1 ps => ?_⟩, fun k => ⟨k.1, fun s s0 hs e1 ps => ?_⟩⟩
  · obtain ⟨j, j1, j2, j3⟩ := k.2 s s0 hs e1 ps
    refine ⟨j, ?_, j2, j3⟩
    rcases Nat.lt_or_ge (i + 1) j with l | l
    · exact l
    · have : j = i + 1 := by omega
      subst this; subst j3
      have := (nI_eq (by omega) (by omega)).mp (e1.symm.trans es)
      exact absurd this n'
  · obtain ⟨j, j1, j2, j3⟩ := k.2 s s0 hs e1 ps
    exact ⟨j, by omega, j2, j3⟩
theorem tk_end (h : sa_W T n m W) (G : or_P W m g aB) {t : Nat} : cn (tk T m W aS g 0 t) n = ct T n (W t) := by
  refine cn_c fun e he => ⟨fun k => k.1, fun k => ⟨k, fun s s0 hs es ps => ?_⟩⟩
  obtain ⟨j, hj, ej⟩ := G.2.1 s hs
  refine ⟨j, ?_, hj, ej⟩
  rcases Nat.eq_zero_or_pos j with z | z
  · subst z
    obtain ⟨j', hj', ej'⟩ := G.2.1 0 h.1
    have := tk_g0 h G hj' ej'
    subst this; omega
  · exact z
theorem ct_le (T : Nat → Nat) (n : Nat) (w : List Nat) : ct T n w ≤ n := cn_le _ _
theorem xt_7 {post : SX → Prop} (h : sa_W T n m W) (hS : sa_S T n m W aS) (hm : m < 50) (hn : n ≤ 24) (G : or_P W m g aB)
    (K : ∀ bT, (∀ t, t < m → bT t = nI (ct T n (W t))) → post (fT, fP, fB, nI m, fL, fR, aX, aP, aN, aS, aL, bT, aF, aW, aB)) :
    ∀ i bT, i < m → (∀ t, t < m → bT t = nI (cn (tk T m W aS g i t) n)) → wX_countTimes_7 post fT fP fB (nI m) fL fR (i + 1) (nI i) aX aP aN aS aL bT aF aW aB := by
  intro i
  induction i with
  | zero =>
    intro bT hi hb
    exact br_t (by decide) (K bT (fun t ht => by rw [hb t ht, tk_end h G]))
  | succ i ih =>
    intro bT hi hb
    have ci := bs_cl (s := i + 1) (by omega)
    have gi := (G.1 (i + 1) hi)
    have cg := bs_cl (s := g (i + 1)) (by omega)
    have h0 : 0 < g (i + 1) := by
      rcases Nat.eq_zero_or_pos (g (i + 1)) with z | z
      · have := tk_g0 h G hi z; omega
      · exact z
    obtain ⟨t, ht, es, x1, x2, x3⟩ := hS.2 _ h0 gi.1
    have c := bs_cl (s := t) (by omega)
    have it : vp_in (aS (nI (g (i + 1))).toNatClampNeg) 50 := by rw [cg, es]; exact vp_in_nI (by omega) (by decide)
    have ig : vp_in (nI (g (i + 1))) 50 := vp_in_nI (by omega) (by decide)
    have st := tk_step (n := n) h hS hm G hi h0 ht es
    have le := cn_le (tk T m W aS g i t) n
    refine br_f (nI_nle (by omega) (by omega)) ⟨vp_in_nI (by omega) (by decide), nm_r (e' := nI (g (i + 1))) (by rw [ci]; exact gi.2) ⟨ig, it, ig, it, nm_r (e' := upd bT t (nI (cn (tk T m W aS g i t) n))) ?_ (nm_r (pk_m1 i) (ih _ (by omega) ?_))⟩⟩
    · rw [cg, es, c, hb t ht, hb _ gi.1, tk_s h hS hm G hi, nI_add, ← st, bs_nbb (by omega)]
    · intro r hr
      rcases Classical.em (r = t) with e | e
      · subst e; exact pk_us
      · rw [pk_un e, hb r hr, tk_other G hm hi es ht hr e]
theorem xt_times {post : SX → Prop} (h : sa_W T n m W) (hS : sa_S T n m W aS) (hm : m < 50) (hn : n ≤ 24) (G : or_P W m g aB) (hT : sa_T T n m W aT)
    (K : ∀ bT, (∀ t, t < m → bT t = nI (ct T n (W t))) → post (fT, fP, fB, nI m, fL, fR, aX, aP, aN, aS, aL, bT, aF, aW, aB)) :
    wpX_countTimes post (fT, fP, fB, nI m, fL, fR, aX, aP, aN, aS, aL, aT, aF, aW, aB) := by
  unfold wpX_countTimes
  have m0 := h.1
  obtain ⟨k, rfl⟩ : ∃ k, m = k + 1 := ⟨m - 1, by omega⟩
  exact nm_r (nI_pred k) ⟨k + 1, xt_7 h hS hm hn G K k aT (by omega) (fun t ht => tk_0 h hS hm hT (Nat.le_refl _) ht)⟩
end
end
section
/-! forward words, their order, the sorted list of the words that lead on from a word -/
def lx : List Nat → List Nat → Prop
  | _, [] => False
  | [], _ :: _ => True
  | a :: u, b :: v => a < b ∨ (a = b ∧ lx u v)
theorem lx_nil {u : List Nat} : ¬ lx u [] := by cases u <;> exact fun h => h
theorem lx_irr : ∀ u : List Nat, ¬ lx u u
  | [], h => h
  | a :: u, h => by
    rcases h with h | h
    · omega
    · exact lx_irr u h.2
theorem lx_trans : ∀ {u v w : List Nat}, lx u v → lx v w → lx u w
  | _, [], _, h, _ => absurd h lx_nil
  | _, _ :: _, [], _, h => absurd h lx_nil
  | [], _ :: _, _ :: _, _, _ => trivial
  | a :: u, b :: v, c :: w, h, k => by
    rcases h with h | h <;> rcases k with k | k
    · exact Or.inl (by omega)
    · exact Or.inl (by omega)
    · exact Or.inl (by omega)
    · exact Or.inr ⟨by omega, lx_trans h.2 k.2⟩
theorem lx_tri : ∀ u v : List Nat, lx u v ∨ u = v ∨ lx v u
  | [], [] => Or.inr (Or.inl rfl)
  | [], _ :: _ => Or.inl trivial
  | _ :: _, [] => Or.inr (Or.inr trivial)
  | a :: u, b :: v => by
    rcases Nat.lt_trichotomy a b with l | l | l
    · exact Or.inl (Or.inl l)
    · subst l
      rcases lx_tri u v with h | h | h
      · exact Or.inl (Or.inr ⟨rfl, h⟩)
      · exact Or.inr (Or.inl (by rw [h]))
      · exact Or.inr (Or.inr (Or.inr ⟨rfl, h⟩))
    · exact Or.inr (Or.inr (Or.inl l))
theorem lx_asy {u v : List Nat} (h : lx u v) (k : lx v u) : False := lx_irr u (lx_trans h k)
theorem lx_cc {a : Nat} {u v : List Nat} : lx (a :: u) (a :: v) ↔ lx u v := by
  constructor
  · intro h
    rcases h with h | h
    · omega
    · exact h.2
  · exact fun h => Or.inr ⟨rfl, h⟩
theorem lx_ne {u v : List Nat} (h : lx u v) : u ≠ v := fun e => by subst e; exact lx_irr u h
/-! counting in a list -/
noncomputable def cl (Q : List Nat → Prop) : List (List Nat) → Nat
  | [] => 0
  | x :: l => b01 (Q x) + cl Q l
theorem cl_app {Q : List Nat → Prop} : ∀ (l k : List (List Nat)), cl Q (l ++ k) = cl Q l + cl Q k
  | [], k => by simp [cl]
  | x :: l, k => by simp only [List.cons_append, cl, cl_app l k]; omega
theorem cl_map {Q R : List Nat → Prop} {f : List Nat → List Nat} : ∀ {l : List (List Nat)}, (∀ x, x ∈ l → (Q (f x) ↔ R x)) → cl Q (l.map f) = cl R l
  | [], _ => rfl
  | x :: l, h => by
    simp only [List.map_cons, cl]
    rw [cl_map (fun y hy => h y (List.mem_cons_of_mem _ hy)), b01_c (h x (List.mem_cons_self ..))]
theorem cl_all {Q : List Nat → Prop} : ∀ {l : List (List Nat)}, (∀ x, x ∈ l → Q x) → cl Q l = l.length
  | [], _ => rfl
  | x :: l, h => by
    simp only [cl, List.length_cons]
    rw [cl_all (fun y hy => h y (List.mem_cons_of_mem _ hy)), b01_t (h x (List.mem_cons_self ..))]; omega
theorem cl_none {Q : List Nat → Prop} : ∀ {l : List (List Nat)}, (∀ x, x ∈ l → ¬ Q x) → cl Q l = 0
  | [], _ => rfl
  | x :: l, h => by
    simp only [cl]
    rw [cl_none (fun y hy => h y (List.mem_cons_of_mem _ hy)), b01_f (h x (List.mem_cons_self ..))]
theorem cl_perm {Q : List Nat → Prop} {l k : List (List Nat)} (h : l.Perm k) : cl Q l = cl Q k := by
  induction h with
  | nil => rfl
  | cons x _ ih => simp only [cl, ih]
  | swap x y l => simp only [cl]; omega
  | trans _ _ a b => exact a.trans b
theorem cl_le {Q : List Nat → Prop} : ∀ (l : List (List Nat)), cl Q l ≤ l.length
  | [] => Nat.le_refl _
  | x :: l => by
    have := cl_le (Q := Q) l
    have := b01_le (Q x)
    simp only [cl, List.length_cons]; omega
/-- two lists without repetition that hold the same words with Q -/
theorem cl_ext {Q : List Nat → Prop} : ∀ {l k : List (List Nat)}, l.Nodup → k.Nodup → (∀ x, Q x → (x ∈ l ↔ x ∈ k)) → cl Q l = cl Q k
  | [], k, _, _, h => by
    rw [cl_none (l := k) (fun x hx q => absurd ((h x q).mpr hx) (List.not_mem_nil))]; rfl
  | x :: l, k, d1, d2, h => by
    obtain ⟨n1, d1'⟩ := List.nodup_cons.mp d1
    rcases Classical.em (Q x) with q | q
    · have xk := (h x q).mp (List.mem_cons_self ..)
      have p := List.perm_cons_erase xk
      have dk := (List.Perm.nodup p d2)
      obtain ⟨n2, d2'⟩ := List.nodup_cons.mp dk
      rw [cl_perm p]
      simp only [cl]
      rw [cl_ext (l := l) (k := k.erase x) d1' d2' (fun y qy => ?_)]
      rcases Classical.em (y = x) with e | e
      · subst e; exact ⟨fun z => absurd z n1, fun z => absurd z n2⟩
      · have a := h y qy
        have b := p.mem_iff (a := y)
        simp only [List.mem_cons, e, false_or] at a b
        exact a.trans b
    · simp only [cl]
      rw [b01_f q, Nat.zero_add]
      refine cl_ext d1' d2 (fun y qy => ?_)
      have a := h y qy
      have e : y ≠ x := fun e => q (e ▸ qy)
      simp only [List.mem_cons, e, false_or] at a
      exact a
theorem cl_len {l k : List (List Nat)} (d1 : l.Nodup) (d2 : k.Nodup) (h : ∀ x, x ∈ l ↔ x ∈ k) : l.length = k.length := by
  have := cl_ext (Q := fun _ => True) d1 d2 (fun x _ => h x)
  rw [cl_all (fun _ _ => trivial), cl_all (fun _ _ => trivial)] at this
  exact this
/-! the words on from u (u reversed) -/
noncomputable def en_b (T : Nat → Nat) (n : Nat) (f : List Nat → List (List Nat)) (u : List Nat) (c : Nat) : List (List Nat) :=
  @ite _ (sa_oc T n (c :: u)) (Classical.propDecidable _) ([c] :: (f (c :: u)).map (List.cons c)) []
noncomputable def en (T : Nat → Nat) (n : Nat) : Nat → List Nat → List (List Nat)
  | 0 => fun _ => []
  | k + 1 => fun u => en_b T n (en T n k) u 0 ++ (en_b T n (en T n k) u 1 ++ (en_b T n (en T n k) u 2 ++ en_b T n (en T n k) u 3))
noncomputable def EN (T : Nat → Nat) (n : Nat) (u : List Nat) : List (List Nat) := en T n n u
section
variable {T : Nat → Nat} {n : Nat}
theorem en_bt {f : List Nat → List (List Nat)} {u : List Nat} {c : Nat} (h : sa_oc T n (c :: u)) : en_b T n f u c = [c] :: (f (c :: u)).map (List.cons c) := by unfold en_b; rw [if_pos h]
theorem en_bf {f : List Nat → List (List Nat)} {u : List Nat} {c : Nat} (h : ¬ sa_oc T n (c :: u)) : en_b T n f u c = [] := by unfold en_b; rw [if_neg h]
theorem en_bc {f f' : List Nat → List (List Nat)} {u : List Nat} {c : Nat} (h : sa_oc T n (c :: u) → f (c :: u) = f' (c :: u)) : en_b T n f u c = en_b T n f' u c := by
  rcases Classical.em (sa_oc T n (c :: u)) with o | o
  · rw [en_bt o, en_bt o, h o]
  · rw [en_bf o, en_bf o]
theorem en_stab : ∀ k u, n ≤ u.length + k → en T n (k + 1) u = en T n k u := by
  intro k
  induction k with
  | zero =>
    intro u h
    have z : ∀ c, en_b T n (en T n 0) u c = [] := fun c => en_bf (fun o => by have := sa_oc_len o; simp at this; omega)
    show en_b T n (en T n 0) u 0 ++ (en_b T n (en T n 0) u 1 ++ (en_b T n (en T n 0) u 2 ++ en_b T n (en T n 0) u 3)) = []
    simp only [z]; rfl
  | succ k ih =>
    intro u h
    have z : ∀ c, en_b T n (en T n (k + 1)) u c = en_b T n (en T n k) u c := fun c => en_bc (fun _ => ih (c :: u) (by simp; omega))
    show en_b T n (en T n (k + 1)) u 0 ++ _ = en_b T n (en T n k) u 0 ++ _
    rw [z, z, z, z]
theorem EN_eq (u : List Nat) : EN T n u = en_b T n (EN T n) u 0 ++ (en_b T n (EN T n) u 1 ++ (en_b T n (EN T n) u 2 ++ en_b T n (EN T n) u 3)) :=
  (en_stab n u (by omega)).symm
theorem en_ex : ∀ k u v, sa_ex T n u v → en T n k u = en T n k v := by
  intro k
  induction k with
  | zero => intro u v _; rfl
  | succ k ih =>
    intro u v h
    have z : ∀ c, en_b T n (en T n k) u c = en_b T n (en T n k) v c := by
      intro c
      rcases Classical.em (sa_oc T n (c :: u)) with o | o
      · rw [en_bt o, en_bt (sa_oc_ex (sa_ex_cons h) o), ih _ _ (sa_ex_cons h)]
      · rw [en_bf o, en_bf (fun q => o (sa_oc_pre (sa_ex_cons h).1 q))]
    simp only [en, z]
theorem EN_ex {u v : List Nat} (h : sa_ex T n u v) : EN T n u = EN T n v := en_ex n u v h
/-- letters of an occurring word -/
theorem sa_oc_let (hT : ∀ i, i < n → T i < 4) : ∀ {w : List Nat}, sa_oc T n w → ∀ c, c ∈ w → c < 4
  | [], _, c, h => absurd h List.not_mem_nil
  | d :: w, o, c, h => by
    rcases List.mem_cons.mp h with e | e
    · obtain ⟨q, hq, a⟩ := o
      obtain ⟨q', rfl, e1, a⟩ := sa_at_cons' a
      rw [e, e1]; exact hT q' (by omega)
    · exact sa_oc_let hT (sa_oc_tail o) c e
theorem en_bmem {f : List Nat → List (List Nat)} {u : List Nat} {c : Nat} {w : List Nat} : w ∈ en_b T n f u c ↔ sa_oc T n (c :: u) ∧ (w = [c] ∨ ∃ x, x ∈ f (c :: u) ∧ w = c :: x) := by
  rcases Classical.em (sa_oc T n (c :: u)) with o | o
  · rw [en_bt o]
    simp only [List.mem_cons, List.mem_map, o, true_and]
    constructor
    · intro h
      rcases h with h | ⟨x, h1, h2⟩
      · exact Or.inl h
      · exact Or.inr ⟨x, h1, h2.symm⟩
    · intro h
      rcases h with h | ⟨x, h1, h2⟩
      · exact Or.inl h
      · exact Or.inr ⟨x, h1, h2.symm⟩
  · rw [en_bf o]
    exact ⟨fun h => absurd h List.not_mem_nil, fun h => absurd h.1 o⟩
theorem EN_bmem {u w : List Nat} : w ∈ EN T n u ↔ ∃ c, c < 4 ∧ w ∈ en_b T n (EN T n) u c := by
  rw [EN_eq]
  simp only [List.mem_append]
  constructor
  · intro h
    rcases h with h | h | h | h
    · exact ⟨0, by decide, h⟩
    · exact ⟨1, by decide, h⟩
    · exact ⟨2, by decide, h⟩
    · exact ⟨3, by decide, h⟩
  · intro ⟨c, hc, h⟩
    have : c = 0 ∨ c = 1 ∨ c = 2 ∨ c = 3 := by omega
    rcases this with e | e | e | e <;> subst e
    · exact Or.inl h
    · exact Or.inr (Or.inl h)
    · exact Or.inr (Or.inr (Or.inl h))
    · exact Or.inr (Or.inr (Or.inr h))
theorem EN_mem (hT : ∀ i, i < n → T i < 4) : ∀ (w u : List Nat), w ∈ EN T n u ↔ w ≠ [] ∧ sa_oc T n (w.reverse ++ u) := by
  intro w
  induction w with
  | nil =>
    intro u
    rw [EN_bmem]
    constructor
    · intro ⟨c, hc, h⟩
      obtain ⟨_, h⟩ := en_bmem.mp h
      rcases h with h | ⟨x, _, h⟩ <;> simp at h
    · intro h; exact absurd rfl h.1
  | cons d w ih =>
    intro u
    rw [EN_bmem]
    have e : (d :: w).reverse ++ u = w.reverse ++ (d :: u) := by simp
    rw [e]
    constructor
    · intro ⟨c, hc, h⟩
      obtain ⟨o, h⟩ := en_bmem.mp h
      refine ⟨by simp, ?_⟩
      rcases h with h | ⟨x, hx, h⟩
      · simp at h; obtain ⟨rfl, rfl⟩ := h; exact o
      · simp at h; obtain ⟨rfl, rfl⟩ := h
        exact ((ih (d :: u)).mp hx).2
    · intro ⟨_, o⟩
      have o1 : sa_oc T n (d :: u) := by
        have : ∀ (x v : List Nat), sa_oc T n (x ++ v) → sa_oc T n v := by
          intro x
          induction x with
          | nil => exact fun v h => h
          | cons a x ih2 => exact fun v h => ih2 v (sa_oc_tail h)
        exact this _ _ o
      refine ⟨d, sa_oc_let hT o1 d (List.mem_cons_self ..), en_bmem.mpr ⟨o1, ?_⟩⟩
      rcases Classical.em (w = []) with z | z
      · exact Or.inl (by rw [z])
      · exact Or.inr ⟨w, (ih (d :: u)).mpr ⟨z, o⟩, rfl⟩
theorem en_bsort {f : List Nat → List (List Nat)} {u : List Nat} {c : Nat} (h1 : (f (c :: u)).Pairwise lx) (h2 : ∀ x, x ∈ f (c :: u) → x ≠ []) : (en_b T n f u c).Pairwise lx := by
  rcases Classical.em (sa_oc T n (c :: u)) with o | o
  · rw [en_bt o, List.pairwise_cons]
    refine ⟨fun x hx => ?_, ?_⟩
    · obtain ⟨y, hy, rfl⟩ := List.mem_map.mp hx
      refine lx_cc.mpr ?_
      have := h2 y hy
      cases y with
      | nil => exact absurd rfl this
      | cons a y => exact trivial
    · rw [List.pairwise_map]
      exact List.Pairwise.imp (fun h => lx_cc.mpr h) h1
  · rw [en_bf o]; exact List.Pairwise.nil
theorem en_bhead {f : List Nat → List (List Nat)} {u : List Nat} {c : Nat} {w : List Nat} (h : w ∈ en_b T n f u c) : ∃ x, w = c :: x := by
  obtain ⟨_, h⟩ := en_bmem.mp h
  rcases h with h | ⟨x, _, h⟩
  · exact ⟨[], h⟩
  · exact ⟨x, h⟩
theorem en_blt {f : List Nat → List (List Nat)} {u : List Nat} {c d : Nat} {w x : List Nat} (hw : w ∈ en_b T n f u c) (hx : x ∈ en_b T n f u d) (h : c < d) : lx w x := by
  obtain ⟨y, rfl⟩ := en_bhead hw
  obtain ⟨z, rfl⟩ := en_bhead hx
  exact Or.inl h
theorem en_ne : ∀ k u w, w ∈ en T n k u → w ≠ [] := by
  intro k u w h
  cases k with
  | zero => exact absurd h List.not_mem_nil
  | succ k =>
    simp only [en, List.mem_append] at h
    have key : ∀ c, w ∈ en_b T n (en T n k) u c → w ≠ [] := fun c h => by
      obtain ⟨x, rfl⟩ := en_bhead h
      simp
    rcases h with h | h | h | h <;> exact key _ h
theorem en_sort : ∀ k u, (en T n k u).Pairwise lx := by
  intro k
  induction k with
  | zero => intro u; exact List.Pairwise.nil
  | succ k ih =>
    intro u
    have s : ∀ c, (en_b T n (en T n k) u c).Pairwise lx := fun c => en_bsort (ih _) (fun x hx => en_ne k _ x hx)
    simp only [en, List.pairwise_append, List.mem_append]
    refine ⟨s 0, ⟨s 1, ⟨s 2, s 3, fun a ha b hb => en_blt ha hb (by decide)⟩, fun a ha b hb => ?_⟩, fun a ha b hb => ?_⟩
    · rcases hb with hb | hb
      · exact en_blt ha hb (by decide)
      · exact en_blt ha hb (by decide)
    · rcases hb with hb | hb | hb
      · exact en_blt ha hb (by decide)
      · exact en_blt ha hb (by decide)
      · exact en_blt ha hb (by decide)
theorem EN_sort (u : List Nat) : (EN T n u).Pairwise lx := en_sort n u
theorem EN_nodup (u : List Nat) : (EN T n u).Nodup := List.Pairwise.imp (fun h => lx_ne h) (EN_sort u)
/-- all words, with repetitions -/
def AW (T : Nat → Nat) (n : Nat) : List (List Nat) := (List.range (n + 1)).flatMap fun e => (List.range (n + 1)).map fun l => ((sa_rv T e).take l).reverse
theorem AW_len : (AW T n).length = (n + 1) * (n + 1) := by
  unfold AW
  rw [List.length_flatMap]
  have : ∀ e, ((List.range (n + 1)).map fun l => ((sa_rv T e).take l).reverse).length = n + 1 := fun e => by simp
  simp only [this, List.map_const', List.sum_replicate_nat, List.length_range]
theorem EN_le (hT : ∀ i, i < n → T i < 4) (u : List Nat) : (EN T n u).length ≤ (n + 1) * (n + 1) := by
  rw [← AW_len (T := T)]
  refine List.Nodup.length_le_of_subset (EN_nodup u) (fun w hw => ?_)
  have o := sa_oc_pre (List.prefix_append _ _) ((EN_mem hT w u).mp hw).2
  obtain ⟨e, he, a⟩ := o
  have le := sa_at_len a
  have := List.prefix_iff_eq_take.mp a
  unfold AW
  refine List.mem_flatMap.mpr ⟨e, by simp; omega, List.mem_map.mpr ⟨w.reverse.length, by simp at le ⊢; omega, ?_⟩⟩
  rw [← this]; simp
end
end
section
/-! countWords and build -/
noncomputable def es (T : Nat → Nat) (n : Nat) (u : List Nat) : Nat → Nat
  | 0 => 0
  | d + 1 => es T n u d + (en_b T n (EN T n) u d).length
def bt_B (T : Nat → Nat) (n m : Nat) (W : Nat → List Nat) (aN aS aL aT aF aW : Nat → Int32) : Prop :=
  sa_W T n m W ∧ sa_N T n m W aN ∧ sa_S T n m W aS ∧ sa_L m W aL ∧ sa_F T m W aF ∧ (∀ t, t < m → aT t = nI (ct T n (W t))) ∧ (∀ t, t < m → aW t = nI (EN T n (W t)).length) ∧ m < 50
section
variable {T : Nat → Nat} {n m : Nat} {W : Nat → List Nat} {g : Nat → Nat} {fT fP fB fM fL fR : Int32} {aX aP aN aS aL aT aF aW aB : Nat → Int32}
theorem es_4 (u : List Nat) : es T n u 4 = (EN T n u).length := by
  rw [EN_eq]
  simp only [es, List.length_append]; omega
theorem es_mono (u : List Nat) : ∀ {k d : Nat}, d ≤ k → es T n u d ≤ es T n u k
  | 0, d, h => by have : d = 0 := by omega
                  subst this; exact Nat.le_refl _
  | k + 1, d, h => by
    rcases Nat.lt_or_ge k d with l | l
    · have : d = k + 1 := by omega
      subst this; exact Nat.le_refl _
    · have := es_mono u (k := k) (d := d) l
      simp only [es]; omega
theorem es_le (hT : ∀ i, i < n → T i < 4) (hn : n ≤ 24) (u : List Nat) {d : Nat} (hd : d ≤ 4) : es T n u d ≤ 625 := by
  have a := es_mono (T := T) (n := n) u hd
  rw [es_4] at a
  have b := EN_le hT u
  have c : (n + 1) * (n + 1) ≤ 25 * 25 := Nat.mul_le_mul (by omega) (by omega)
  omega
theorem EN_625 (hT : ∀ i, i < n → T i < 4) (hn : n ≤ 24) (u : List Nat) : (EN T n u).length ≤ 625 := by
  rw [← es_4]; exact es_le hT hn u (Nat.le_refl _)
theorem sa_N_or (h : sa_W T n m W) (hN : sa_N T n m W aN) {s c : Nat} (hs : s < m) (hc : c < 4) :
    (sa_oc T n (c :: W s) ∧ ∃ t, 0 < t ∧ t < m ∧ aN (4 * s + c) = nI t ∧ sa_ex T n (c :: W s) (W t)) ∨ (¬ sa_oc T n (c :: W s) ∧ aN (4 * s + c) = 0) := by
  rcases Classical.em (sa_oc T n (c :: W s)) with o | o
  · obtain ⟨t, ht, e, x⟩ := (hN s c hs hc).1 o
    exact Or.inl ⟨o, t, sa_ex_t0 h x, ht, e, x⟩
  · exact Or.inr ⟨o, (hN s c hs hc).2 o⟩
theorem xw_23 {post : SX → Prop} {J : Int32 → (Nat → Int32) → (Nat → Int32) → (Nat → Int32) → (Nat → Int32) → (Nat → Int32) → (Nat → Int32) → (Nat → Int32) → (Nat → Int32) → (Nat → Int32) → Prop}
    {x1 : Int32} {s : Nat} (hT : ∀ i, i < n → T i < 4) (hn : n ≤ 24) (h : sa_W T n m W) (hN : sa_N T n m W aN) (hm : m < 50) (hs : s < m)
    (hW : ∀ t, t < m → (W s).length < (W t).length → aW t = nI (EN T n (W t)).length)
    (K : J (x1 + (-1)) aX aP aN aS aL aT aF (upd aW s (nI (EN T n (W s)).length)) aB) :
    ∀ k d, d + k = 4 → wX_countWords_23 post J x1 (nI s) fT fP fB fM fL fR aX aP aN aS aL aT aF aW aB (k + 1) (nI (es T n (W s) d)) (nI d) := by
  intro k
  induction k with
  | zero =>
    intro d hd
    have : d = 4 := by omega
    subst this
    have := EN_625 hT hn (W s)
    exact br_t bs_4le ⟨vp_in_nI (by omega) (by decide), nm_r (e' := upd aW s (nI (EN T n (W s)).length)) (by rw [bs_cl (by omega), es_4, bs_nss (by omega)]) (nm_e K)⟩
  | succ k ih =>
    intro d hd
    have e := bs_ixc (s := s) (c := d) (by omega)
    have hes : es T n (W s) (d + 1) = es T n (W s) d + (en_b T n (EN T n) (W s) d).length := rfl
    refine br_f (bs_4nl (by omega)) ⟨bs_ixi (by omega) (by omega), ?_⟩
    rcases sa_N_or h hN hs (c := d) (by omega) with ⟨o, t, t0, ht, et, xt⟩ | ⟨o, et⟩
    · have lt : (W s).length < (W t).length := by
        have := List.IsPrefix.length_le xt.1
        simp at this; omega
      rw [en_bt o, EN_ex xt] at hes
      simp only [List.length_cons, List.length_map] at hes
      refine nm_r (e' := nI t) (by rw [e]; exact et) (br_f (nI_ne0 t0 (by omega)) ⟨vp_in_nI (by omega) (by decide), nm_r (e' := nI (es T n (W s) (d + 1))) ?_ (nm_r (nI_1 d) (ih (d + 1) (by omega)))⟩)
      rw [bs_cl (by omega), hW t ht lt, hes, show (1 : Int32) = nI 1 from rfl, nI_add, nI_add]
      exact congrArg nI (by omega)
    · rw [en_bf o] at hes
      have := ih (d + 1) (by omega)
      rw [hes] at this
      exact nm_r (e' := 0) (by rw [e]; exact et) (br_t rfl (nm_r (nI_1 d) this))
theorem xw_7 {post : SX → Prop} (hT : ∀ i, i < n → T i < 4) (hn : n ≤ 24) (h : sa_W T n m W) (hN : sa_N T n m W aN) (hm : m < 50) (G : or_P W m g aB)
    (K : ∀ bW, (∀ t, t < m → bW t = nI (EN T n (W t)).length) → post (fT, fP, fB, fM, fL, fR, aX, aP, aN, aS, aL, aT, aF, bW, aB)) :
    ∀ i bW, i ≤ m → (∀ j, i ≤ j → j < m → bW (g j) = nI (EN T n (W (g j))).length) → wX_countWords_7 post fT fP fB fM fL fR (i + 1) (nI i + (-1)) aX aP aN aS aL aT aF bW aB := by
  intro i
  induction i with
  | zero =>
    intro bW hi hb
    refine br_t (by decide) (K bW fun t ht => ?_)
    obtain ⟨j, hj, e⟩ := G.2.1 t ht
    rw [← e]; exact hb j (by omega) hj
  | succ i ih =>
    intro bW hi hb
    rw [pk_m1]
    have gi := G.1 i (by omega)
    refine br_f (nI_pos (by omega)) ⟨vp_in_nI (by omega) (by decide), nm_r (e' := nI (g i)) (by rw [bs_cl (by omega)]; exact gi.2) ⟨4 + 1, xw_23 hT hn h hN hm gi.1 ?_ ?_ 4 0 rfl⟩⟩
    · intro t ht l
      obtain ⟨j, hj, e⟩ := G.2.1 t ht
      rw [← e]
      refine hb j ?_ hj
      rcases Nat.lt_trichotomy i j with q | q | q
      · omega
      · subst q; rw [e] at l; omega
      · have := G.2.2.1 j i q (by omega)
        rw [e] at this; omega
    · refine ih _ (by omega) (fun j h1 h2 => ?_)
      rcases Nat.lt_or_ge i j with q | q
      · rw [pk_un (fun z => by have := G.2.2.2 j i h2 (by omega) z; omega)]
        exact hb j q h2
      · have : j = i := by omega
        subst this; exact pk_us
theorem xw_words {post : SX → Prop} (hT : ∀ i, i < n → T i < 4) (hn : n ≤ 24) (h : sa_W T n m W) (hN : sa_N T n m W aN) (hm : m < 50) (G : or_P W m g aB)
    (K : ∀ bW, (∀ t, t < m → bW t = nI (EN T n (W t)).length) → post (fT, fP, fB, nI m, fL, fR, aX, aP, aN, aS, aL, aT, aF, bW, aB)) :
    wpX_countWords post (fT, fP, fB, nI m, fL, fR, aX, aP, aN, aS, aL, aT, aF, aW, aB) := by
  unfold wpX_countWords
  refine nm_r (e' := nI m + (-1)) ?_ ⟨m + 1, xw_7 hT hn h hN hm G K m aW (Nat.le_refl _) (fun j h1 h2 => by omega)⟩
  have m0 := h.1
  obtain ⟨k, rfl⟩ : ∃ k, m = k + 1 := ⟨m - 1, by omega⟩
  rw [nI_pred, pk_m1]
theorem sa_I_0 {bN bS bL bT bF : Nat → Int32} (z : ∀ d, d < 4 → bN (4 * 0 + d) = 0) (hS : bS 0 = -1) (hL : bL 0 = 0) (hT : bT 0 = 0) : sa_I T 0 1 (fun _ => []) 0 bN bS bL bT bF := by
  refine ⟨⟨by omega, rfl, fun s hs => sa_lm_nil, fun w hw => ⟨0, by omega, ?_⟩, fun s t hs ht _ => by omega⟩, fun s d hs hd => ?_, ⟨hS, fun s h0 hs => by omega⟩, fun s hs => ?_, fun s h0 hs => by omega, fun s hs => ?_, by omega, rfl, by omega⟩
  · have := sa_oc_len hw.1
    exact (List.eq_nil_of_length_eq_zero (by omega)).symm
  · have : s = 0 := by omega
    subst this
    exact ⟨fun o => absurd o (sa_rv_noc _ (by simp)), fun _ => z d hd⟩
  · have : s = 0 := by omega
    subst this; rw [hL]; rfl
  · have : s = 0 := by omega
    subst this; rw [hT, b01_f]
    · rfl
    · intro ⟨e, e1, e2, _⟩; omega
theorem xb_30 {post : SX → Prop} (hT : ∀ i, i < n → T i < 4) (hn : n ≤ 24) (hX : ∀ i, i < n → aX i = nI (T i))
    (K : ∀ m W fL' bN bS bL bT bF bW bB, bt_B T n m W bN bS bL bT bF bW → post (nI n, fP, fB, nI m, fL', fR, aX, aP, bN, bS, bL, bT, bF, bW, bB)) :
    ∀ k p m W la aN aS aL aT aF, p + k = n → sa_I T p m W la aN aS aL aT aF →
      wX_build_30 post (k + 1) (nI p) (nI n) fP fB (nI m) (nI la) fR aX aP aN aS aL aT aF aW aB := by
  intro k
  induction k with
  | zero =>
    intro p m W la aN aS aL aT aF hp I
    have : p = n := by omega
    subst this
    obtain ⟨h, hN, hS, hL, hF, hTi, hla, wla, hm⟩ := I
    refine br_t (nI_le (Nat.le_refl _) (by omega)) ?_
    refine xo_order (W := W) (by omega) (fun s hs => by have := sa_W_len h hs; omega) hL fun g bB G => ?_
    refine xt_times h hS (by omega) hn G hTi fun bT hbT => ?_
    refine xw_words hT hn h hN (by omega) G fun bW hbW => ?_
    exact K m W _ _ _ _ _ _ _ _ ⟨h, hN, hS, hL, hF, hbT, hbW, by omega⟩
  | succ k ih =>
    intro p m W la aN aS aL aT aF hp I
    refine br_f (nI_ge (by omega) (by omega)) ⟨vp_in_nI (by omega) (by decide), ?_⟩
    rw [bs_cl (by omega), hX p (by omega)]
    refine xe_extend (by omega) (hT p (by omega)) I fun m' W' la' bN bS bL bT bF I' => ?_
    exact nm_r (nI_1 p) (ih (p + 1) m' W' la' bN bS bL bT bF (by omega) I')
theorem xb_build {post : SX → Prop} (hT : ∀ i, i < n → T i < 4) (hn : n ≤ 24) (hX : ∀ i, i < n → aX i = nI (T i)) (H : fB ≠ 0 → ∃ m W, fM = nI m ∧ bt_B T n m W aN aS aL aT aF aW)
    (K : ∀ m W fB' fL' bN bS bL bT bF bW bB, fB' ≠ 0 → bt_B T n m W bN bS bL bT bF bW → post (nI n, fP, fB', nI m, fL', fR, aX, aP, bN, bS, bL, bT, bF, bW, bB)) :
    wpX_build post (nI n, fP, fB, fM, fL, fR, aX, aP, aN, aS, aL, aT, aF, aW, aB) := by
  unfold wpX_build
  refine br_c (fun hb => ?_) (fun hb => ?_)
  · refine xn_new (m := 0) (by decide) _ _ fun bN o z => ?_
    exact ⟨n + 1, xb_30 hT hn hX (fun m W fL' bN bS bL bT bF bW bB B => K m W 1 fL' bN bS bL bT bF bW bB (by decide) B) n 0 1 (fun _ => []) 0 _ _ _ _ _ (by omega) (sa_I_0 z pk_us (by rw [pk_us]; decide) pk_us)⟩
  · obtain ⟨m, W, rfl, B⟩ := H hb
    exact K m W fB fL _ _ _ _ _ _ _ hb B
end
end
section
/-! the component's side of the relation; stateOfProbe, count, place, words -/
def XR (T P : Nat → Nat) (n q : Nat) (u : SX) : Prop := match u with
  | (fT, fP, fB, fM, _, _, aX, aP, aN, aS, aL, aT, aF, aW, _) => fT = nI n ∧ fP = nI q ∧ n ≤ 24 ∧ q ≤ 12 ∧ (∀ i, i < 24 → T i < 4 ∧ aX i = nI (T i)) ∧ (∀ i, i < 12 → P i < 4 ∧ aP i = nI (P i))
    ∧ (fB ≠ 0 → ∃ m W, fM = nI m ∧ bt_B T n m W aN aS aL aT aF aW)
/-- answers of count and place -/
def sp_place (T P : Nat → Nat) (n q : Nat) (r : Int32) : Prop :=
  (¬ sa_oc T n (sa_rv P q) ∧ r = -3) ∨ (∃ e, e ≤ n ∧ sa_at T (sa_rv P q) e ∧ (∀ e', e' < e → ¬ sa_at T (sa_rv P q) e') ∧ r = nI (e - q))
theorem sp_place_u {T P : Nat → Nat} {n q : Nat} {r r' : Int32} (h : sp_place T P n q r) (k : sp_place T P n q r') : r = r' := by
  rcases h with ⟨h1, h2⟩ | ⟨e, he, h1, h2, h3⟩ <;> rcases k with ⟨k1, k2⟩ | ⟨f, hf, k1, k2, k3⟩
  · rw [h2, k2]
  · exact absurd ⟨f, hf, k1⟩ h1
  · exact absurd ⟨e, he, h1⟩ k1
  · rcases Nat.lt_trichotomy e f with l | l | l
    · exact absurd h1 (k2 e l)
    · subst l; rw [h3, k3]
    · exact absurd k1 (h2 f l)
section
variable {T P : Nat → Nat} {n q m : Nat} {W : Nat → List Nat} {fT fP fB fM fL fR : Int32} {aX aP aN aS aL aT aF aW aB : Nat → Int32}
theorem xq_build {post : SX → Prop} (R : XR T P n q (fT, fP, fB, fM, fL, fR, aX, aP, aN, aS, aL, aT, aF, aW, aB))
    (K : ∀ m W fB' fL' bN bS bL bT bF bW bB, XR T P n q (nI n, nI q, fB', nI m, fL', fR, aX, aP, bN, bS, bL, bT, bF, bW, bB) → bt_B T n m W bN bS bL bT bF bW →
      post (nI n, nI q, fB', nI m, fL', fR, aX, aP, bN, bS, bL, bT, bF, bW, bB)) :
    wpX_build post (fT, fP, fB, fM, fL, fR, aX, aP, aN, aS, aL, aT, aF, aW, aB) := by
  obtain ⟨rfl, rfl, hn, hq, hX, hP, hB⟩ := R
  refine xb_build (fun i hi => (hX i (by omega)).1) hn (fun i hi => (hX i (by omega)).2) hB ?_
  intro m W fB' fL' bN bS bL bT bF bW bB h1 h2
  exact K m W fB' fL' bN bS bL bT bF bW bB ⟨rfl, rfl, hn, hq, hX, hP, fun _ => ⟨m, W, rfl, h2⟩⟩ h2
/-- one step of the automaton from the state of u -/
theorem st_step (h : sa_W T n m W) (hN : sa_N T n m W aN) {s c : Nat} {u : List Nat} (hs : s < m) (hc : c < 4) (x : sa_ex T n u (W s)) :
    (sa_oc T n (c :: u) ∧ ∃ t, 0 < t ∧ t < m ∧ aN (4 * s + c) = nI t ∧ sa_ex T n (c :: u) (W t)) ∨ (¬ sa_oc T n (c :: u) ∧ aN (4 * s + c) = 0) := by
  rcases sa_N_or h hN hs hc with ⟨o, t, t0, ht, e, y⟩ | ⟨o, e⟩
  · exact Or.inl ⟨sa_oc_pre (sa_ex_cons x).1 o, t, t0, ht, e, sa_ex_trans (sa_ex_cons x) y⟩
  · exact Or.inr ⟨fun z => o (sa_oc_ex (sa_ex_cons x) z), e⟩
theorem xq_8 {post : Int32 → SX → Prop} (hq : q ≤ 12) (hP : ∀ i, i < 12 → P i < 4 ∧ aP i = nI (P i)) (B : bt_B T n m W aN aS aL aT aF aW)
    (K : ∀ s, s < m → sa_ex T n (sa_rv P q) (W s) → sa_oc T n (sa_rv P q) → post (nI s) (fT, nI q, fB, fM, fL, fR, aX, aP, aN, aS, aL, aT, aF, aW, aB))
    (K0 : ¬ sa_oc T n (sa_rv P q) → post 0 (fT, nI q, fB, fM, fL, fR, aX, aP, aN, aS, aL, aT, aF, aW, aB)) :
    ∀ k i s, i + k = q → s < m → sa_ex T n (sa_rv P i) (W s) → sa_oc T n (sa_rv P i) → wX_stateOfProbe_8 post fT (nI q) fB fM fL fR aX aP aN aS aL aT aF aW aB (k + 1) (nI s) (nI i) := by
  intro k
  obtain ⟨h, hN, hS, hL, hF, hT, hW, hm⟩ := B
  induction k with
  | zero =>
    intro i s hi hs x o
    have : i = q := by omega
    subst this
    exact br_t (nI_le (Nat.le_refl _) (by omega)) (K s hs x o)
  | succ k ih =>
    intro i s hi hs x o
    have p := hP i (by omega)
    have ei : aP (nI i).toNatClampNeg = nI (P i) := by rw [bs_cl (by omega)]; exact p.2
    have ix := bs_ixc (s := s) (c := P i) (by omega)
    refine br_f (nI_ge (by omega) (by omega)) ⟨vp_in_nI (by omega) (by decide), ?_⟩
    rw [ei, ix]
    refine ⟨bs_ixi (by omega) p.1, ?_⟩
    rcases st_step h hN hs p.1 x with ⟨o', t, t0, ht, e, y⟩ | ⟨o', e⟩
    · exact nm_r e (br_f (nI_ne0 t0 (by omega)) (nm_r (nI_1 i) (ih (i + 1) t (by omega) ht y o')))
    · refine nm_r e (br_t rfl (K0 fun z => o' ?_))
      -- a longer word occurs only if its beginning does
      have : ∀ d, sa_oc T n (sa_rv P (i + 1 + d)) → sa_oc T n (sa_rv P (i + 1)) := by
        intro d
        induction d with
        | zero => exact fun z => z
        | succ d ih2 => exact fun z => ih2 (sa_oc_tail z)
      exact this k (by rw [show i + 1 + k = q by omega]; exact z)
theorem sa_ex_nil (h : sa_W T n m W) : sa_ex T n [] (W 0) := by rw [h.2.1]; exact sa_ex_refl
theorem xq_state {post : Int32 → SX → Prop} (R : XR T P n q (fT, fP, fB, fM, fL, fR, aX, aP, aN, aS, aL, aT, aF, aW, aB))
    (K : ∀ m W s fB' fL' bN bS bL bT bF bW bB, XR T P n q (nI n, nI q, fB', nI m, fL', fR, aX, aP, bN, bS, bL, bT, bF, bW, bB) → bt_B T n m W bN bS bL bT bF bW →
      s < m → sa_ex T n (sa_rv P q) (W s) → sa_oc T n (sa_rv P q) → post (nI s) (nI n, nI q, fB', nI m, fL', fR, aX, aP, bN, bS, bL, bT, bF, bW, bB))
    (K0 : ∀ m fB' fL' bN bS bL bT bF bW bB, XR T P n q (nI n, nI q, fB', nI m, fL', fR, aX, aP, bN, bS, bL, bT, bF, bW, bB) →
      ¬ sa_oc T n (sa_rv P q) → post 0 (nI n, nI q, fB', nI m, fL', fR, aX, aP, bN, bS, bL, bT, bF, bW, bB)) :
    wpX_stateOfProbe post (fT, fP, fB, fM, fL, fR, aX, aP, aN, aS, aL, aT, aF, aW, aB) := by
  unfold wpX_stateOfProbe
  have hq := R.2.2.2.1
  have hP := R.2.2.2.2.2.1
  refine xq_build R fun m W fB' fL' bN bS bL bT bF bW bB R' B => ?_
  exact ⟨q + 1, xq_8 hq hP B (fun s hs x o => K m W s fB' fL' bN bS bL bT bF bW bB R' B hs x o) (K0 m fB' fL' bN bS bL bT bF bW bB R') q 0 0 (by omega) B.1.1 (sa_ex_nil B.1) sa_oc_nil⟩
theorem ct_ex {u v : List Nat} (x : sa_ex T n u v) : ct T n u = ct T n v :=
  cn_c fun e he => ⟨fun a => x.2 (e + 1) (by omega) a, fun a => sa_at_pre x.1 a⟩
theorem ct_noc {u : List Nat} (o : ¬ sa_oc T n u) : ct T n u = 0 := cn_0 fun e he a => o ⟨e + 1, by omega, a⟩
theorem st_pos (h : sa_W T n m W) {s : Nat} {u : List Nat} (x : sa_ex T n u (W s)) (hu : 0 < u.length) : 0 < s := by
  have := List.IsPrefix.length_le x.1
  exact sa_W_pos h (by omega)
theorem x_count {post : Int32 → SX → Prop} (R : XR T P n q (fT, fP, fB, fM, fL, fR, aX, aP, aN, aS, aL, aT, aF, aW, aB))
    (K0 : q = 0 → post (-3) (fT, fP, fB, fM, fL, fR, aX, aP, aN, aS, aL, aT, aF, aW, aB)) (K : ∀ u', XR T P n q u' → 0 < q → post (nI (ct T n (sa_rv P q))) u') :
    wpX_count post (fT, fP, fB, fM, fL, fR, aX, aP, aN, aS, aL, aT, aF, aW, aB) := by
  unfold wpX_count
  have e := R.2.1
  have hq := R.2.2.2.1
  refine br_c (fun z => K0 ?_) (fun z => ?_)
  · rw [e, ← nI_0, nI_eq (by omega) (by omega)] at z; exact z
  · have q0 : 0 < q := by
      rcases Nat.eq_zero_or_pos q with c | c
      · subst c; exact absurd e z
      · exact c
    refine xq_state R ?_ ?_
    · intro m W s fB' fL' bN bS bL bT bF bW bB R' B hs x o
      have s0 := st_pos B.1 x (by rw [sa_rv_len]; exact q0)
      have hm := B.2.2.2.2.2.2.2
      refine br_f (nI_ne0 s0 (by omega)) ⟨vp_in_nI (by omega) (by decide), ?_⟩
      rw [bs_cl (by omega), B.2.2.2.2.2.1 s hs, ← ct_ex x]
      exact K _ R' q0
    · intro m fB' fL' bN bS bL bT bF bW bB R' o
      have := K _ R' q0
      rw [ct_noc o] at this
      exact br_t rfl this
theorem x_place {post : Int32 → SX → Prop} (R : XR T P n q (fT, fP, fB, fM, fL, fR, aX, aP, aN, aS, aL, aT, aF, aW, aB))
    (K0 : q = 0 → post (-3) (fT, fP, fB, fM, fL, fR, aX, aP, aN, aS, aL, aT, aF, aW, aB)) (K : ∀ r u', XR T P n q u' → 0 < q → sp_place T P n q r → post r u') :
    wpX_place post (fT, fP, fB, fM, fL, fR, aX, aP, aN, aS, aL, aT, aF, aW, aB) := by
  unfold wpX_place
  have e := R.2.1
  have hq := R.2.2.2.1
  refine br_c (fun z => K0 ?_) (fun z => ?_)
  · rw [e, ← nI_0, nI_eq (by omega) (by omega)] at z; exact z
  · have q0 : 0 < q := by
      rcases Nat.eq_zero_or_pos q with c | c
      · subst c; exact absurd e z
      · exact c
    refine xq_state R ?_ ?_
    · intro m W s fB' fL' bN bS bL bT bF bW bB R' B hs x o
      have s0 := st_pos B.1 x (by rw [sa_rv_len]; exact q0)
      have hm := B.2.2.2.2.2.2.2
      refine br_f (nI_ne0 s0 (by omega)) ⟨vp_in_nI (by omega) (by decide), ?_⟩
      obtain ⟨f, f1, f2, f3⟩ := B.2.2.2.2.1 s s0 hs
      obtain ⟨e0, he0, a0⟩ := o
      have fn : f + 1 ≤ n := by
        have a1 := x.2 e0 he0 a0
        have : ¬ e0 ≤ f := fun c => f3 e0 c a1
        omega
      have fq : q ≤ f + 1 := by
        have := sa_at_len (sa_at_pre x.1 f2)
        rw [sa_rv_len] at this; exact this
      refine K _ _ R' q0 (Or.inr ⟨f + 1, fn, sa_at_pre x.1 f2, fun e' he' a => f3 e' (by omega) (x.2 e' (by omega) a), ?_⟩)
      rw [bs_cl (by omega), f1, ← pk_sub fq, ← nI_1 f]
      grind
    · intro m fB' fL' bN bS bL bT bF bW bB R' o
      exact br_t rfl (K _ _ R' q0 (Or.inl ⟨o, rfl⟩))
theorem x_words {post : Int32 → SX → Prop} (R : XR T P n q (fT, fP, fB, fM, fL, fR, aX, aP, aN, aS, aL, aT, aF, aW, aB))
    (K : ∀ u', XR T P n q u' → post (nI (EN T n []).length) u') : wpX_words post (fT, fP, fB, fM, fL, fR, aX, aP, aN, aS, aL, aT, aF, aW, aB) := by
  unfold wpX_words
  refine xq_build R fun m W fB' fL' bN bS bL bT bF bW bB R' B => ?_
  have := K _ R'
  rw [← B.1.2.1, ← B.2.2.2.2.2.2.1 0 B.1.1] at this
  exact this
end
end
section
/-! longest, repeats, unique of the component -/
def sp_long (T : Nat → Nat) (n t L : Nat) : Prop :=
  (L = 0 ∨ ∃ w, w.length = L ∧ sa_oc T n w ∧ t ≤ ct T n w) ∧ ∀ w, 0 < w.length → sa_oc T n w → t ≤ ct T n w → w.length ≤ L
theorem sp_long_u {T : Nat → Nat} {n t L M : Nat} (h : sp_long T n t L) (k : sp_long T n t M) : L = M := by
  have a : ∀ L M, sp_long T n t L → sp_long T n t M → L ≤ M := by
    intro L M h k
    rcases h.1 with e | ⟨w, e1, e2, e3⟩
    · omega
    · rcases Nat.eq_zero_or_pos w.length with z | z
      · omega
      · have := k.2 w z e2 e3; omega
  have := a L M h k
  have := a M L k h
  omega
/-- a repeat that no letter in front or behind keeps -/
def mx (T : Nat → Nat) (n : Nat) (w : List Nat) : Prop := 2 ≤ ct T n w ∧ ∀ a, a < 4 → ct T n (w ++ [a]) ≠ ct T n w ∧ ct T n (a :: w) ≠ ct T n w
/-- the part of the text from p, reversed -/
def sa_pt (T : Nat → Nat) (p l : Nat) : List Nat := sa_rv (fun k => T (p + k)) l
def sp_uniq (T : Nat → Nat) (n p : Nat) (r : Int32) : Prop :=
  (∃ l, 0 < l ∧ p + l ≤ n ∧ ct T n (sa_pt T p l) = 1 ∧ (∀ l', 0 < l' → l' < l → ct T n (sa_pt T p l') ≠ 1) ∧ r = nI l) ∨ ((∀ l, 0 < l → p + l ≤ n → ct T n (sa_pt T p l) ≠ 1) ∧ r = -3)
theorem sp_uniq_u {T : Nat → Nat} {n p : Nat} {r r' : Int32} (h : sp_uniq T n p r) (k : sp_uniq T n p r') : r = r' := by
  rcases h with ⟨e, h0, he, h1, h2, h3⟩ | ⟨h1, h2⟩ <;> rcases k with ⟨f, k0, hf, k1, k2, k3⟩ | ⟨k1, k2⟩
  · rcases Nat.lt_trichotomy e f with l | l | l
    · exact absurd h1 (k2 e h0 l)
    · subst l; rw [h3, k3]
    · exact absurd k1 (h2 f k0 l)
  · exact absurd h1 (k1 e h0 he)
  · exact absurd k1 (h1 f k0 hf)
  · rw [h2, k2]
section
variable {T P : Nat → Nat} {n q m : Nat} {W : Nat → List Nat} {fT fP fB fM fL fR : Int32} {aX aP aN aS aL aT aF aW aB : Nat → Int32}
theorem sa_pt_at (p l : Nat) : sa_at T (sa_pt T p l) (p + l) := by
  induction l with
  | zero => exact sa_at_nil
  | succ l ih => exact sa_at_cons.mpr ⟨rfl, ih⟩
theorem st_all (hT : ∀ i, i < n → T i < 4) (h : sa_W T n m W) (hN : sa_N T n m W aN) : ∀ {w : List Nat}, sa_oc T n w → ∃ s, s < m ∧ sa_ex T n w (W s)
  | [], _ => ⟨0, h.1, sa_ex_nil h⟩
  | c :: w, o => by
    obtain ⟨s, hs, x⟩ := st_all hT h hN (sa_oc_tail o)
    rcases st_step h hN hs (sa_oc_let hT o c (List.mem_cons_self ..)) x with ⟨_, t, _, ht, _, y⟩ | ⟨o', _⟩
    · exact ⟨t, ht, y⟩
    · exact absurd o o'
theorem xl_22 {post : Int32 → SX → Prop} {t : Nat} (ht : t ≤ 24) (hn : n ≤ 24) (hT : ∀ i, i < n → T i < 4) (B : bt_B T n m W aN aS aL aT aF aW)
    (K : ∀ L, sp_long T n t L → post (nI L) (fT, fP, fB, nI m, fL, fR, aX, aP, aN, aS, aL, aT, aF, aW, aB)) :
    ∀ k s L, s + k = m → L ≤ 24 → (L = 0 ∨ ∃ w, w.length = L ∧ sa_oc T n w ∧ t ≤ ct T n w) → (∀ r, 0 < r → r < s → t ≤ ct T n (W r) → (W r).length ≤ L) →
      wX_longest_22 post (nI t) fT fP fB (nI m) fL fR aX aP aN aS aL aT aF aW aB (k + 1) (nI L) (nI s) := by
  intro k
  obtain ⟨h, hN, hS, hL, hF, hTt, hW, hm⟩ := B
  induction k with
  | zero =>
    intro s L hs hl i1 i2
    have : s = m := by omega
    subst this
    refine br_t (nI_le (Nat.le_refl _) (by omega)) (K L ⟨i1, fun w w0 o c => ?_⟩)
    obtain ⟨r, hr, x⟩ := st_all hT h hN o
    have r0 := st_pos h x w0
    have a := List.IsPrefix.length_le x.1
    have b := i2 r r0 hr (by rw [← ct_ex x]; exact c)
    omega
  | succ k ih =>
    intro s L hs hl i1 i2
    have c := bs_cl (s := s) (by omega)
    have is : vp_in (nI s) 50 := vp_in_nI (by omega) (by decide)
    have lc := ct_le T n (W s)
    have ll := sa_W_len h (s := s) (by omega)
    refine br_f (nI_ge (by omega) (by omega)) ⟨is, ?_⟩
    rw [c, hTt s (by omega), hL s (by omega)]
    have keep : (t ≤ ct T n (W s) → (W s).length ≤ L) → ∀ r, 0 < r → r < s + 1 → t ≤ ct T n (W r) → (W r).length ≤ L := fun a r h0 h1 h2 => by
      rcases Nat.lt_or_ge r s with l | l
      · exact i2 r h0 l h2
      · have : r = s := by omega
        subst this; exact a h2
    refine pk_lt (ct T n (W s)) t (fun a => nm_r (nI_1 s) (ih (s + 1) L (by omega) hl i1 (keep (fun z => by omega)))) (fun a => ⟨is, ?_⟩)
    refine pk_le (W s).length L (fun b => nm_r (nI_1 s) (ih (s + 1) L (by omega) hl i1 (keep (fun _ => b)))) (fun b => ⟨is, ?_⟩)
    refine nm_e (nm_r (nI_1 s) (ih (s + 1) (W s).length (by omega) (by omega) (Or.inr ⟨W s, rfl, (h.2.2.1 s (by omega)).1, a⟩) (fun r h0 h1 h2 => ?_)))
    rcases Nat.lt_or_ge r s with l | l
    · have := i2 r h0 l h2; omega
    · have : r = s := by omega
      subst this; exact Nat.le_refl _
theorem x_longest {post : Int32 → SX → Prop} {v1 : Int32} (R : XR T P n q (fT, fP, fB, fM, fL, fR, aX, aP, aN, aS, aL, aT, aF, aW, aB))
    (K0 : v1 < 1 ∨ ¬ v1 ≤ 24 → post (-2) (fT, fP, fB, fM, fL, fR, aX, aP, aN, aS, aL, aT, aF, aW, aB))
    (K : ∀ u' t L, XR T P n q u' → v1 = nI t → t ≤ 24 → ¬ v1 < 1 → v1 ≤ 24 → sp_long T n t L → post (nI L) u') :
    wpX_longest post (fT, fP, fB, fM, fL, fR, aX, aP, aN, aS, aL, aT, aF, aW, aB) v1 := by
  unfold wpX_longest
  have hn := R.2.2.1
  have hX := R.2.2.2.2.1
  refine br_c (fun z => K0 (Or.inl z)) (fun z => br_c (fun y => ?_) (fun y => K0 (Or.inr y)))
  have z0 : ¬ v1 < 0 := fun c => z (Int32.lt_trans c (by decide))
  obtain ⟨t, ht, rfl⟩ := nI_of2 (M := 24) (n := 24) (by decide) z0 y
  refine xq_build R fun m W fB' fL' bN bS bL bT bF bW bB R' B => ?_
  have m0 := B.1.1
  exact ⟨m - 1 + 1, xl_22 ht hn (fun i hi => (hX i (by omega)).1) B (fun L hL => K _ t L R' rfl ht z y hL) (m - 1) 1 0 (by omega) (by omega) (Or.inl rfl) (fun r h0 h1 => by omega)⟩
theorem xr_2 {post : Int32 → Prop} {s : Nat} (hn : n ≤ 24) (B : bt_B T n m W aN aS aL aT aF aW) (hs : s < m) (h2 : 2 ≤ ct T n (W s))
    (K1 : (∀ c, c < 4 → ct T n (c :: W s) ≠ ct T n (W s)) → post 1) (K0 : ¬ (∀ c, c < 4 → ct T n (c :: W s) ≠ ct T n (W s)) → post 0) :
    ∀ k d, d + k = 4 → (∀ c, c < d → ct T n (c :: W s) ≠ ct T n (W s)) → wX_losesByEveryLetter_2 post (nI s) fT fP fB fM fL fR aX aP aN aS aL aT aF aW aB (k + 1) (nI d) := by
  intro k
  obtain ⟨h, hN, hS, hL, hF, hTt, hW, hm⟩ := B
  induction k with
  | zero =>
    intro d hd i
    have : d = 4 := by omega
    subst this
    exact br_t bs_4le (K1 i)
  | succ k ih =>
    intro d hd i
    have e := bs_ixc (s := s) (c := d) (by omega)
    refine br_f (bs_4nl (by omega)) ⟨bs_ixi (by omega) (by omega), ?_⟩
    have go : ct T n (d :: W s) ≠ ct T n (W s) → wX_losesByEveryLetter_2 post (nI s) fT fP fB fM fL fR aX aP aN aS aL aT aF aW aB (k + 1) (nI (d + 1)) := fun z => by
      refine ih (d + 1) (by omega) (fun c hc => ?_)
      rcases Nat.lt_or_ge c d with l | l
      · exact i c l
      · have : c = d := by omega
        subst this; exact z
    rcases sa_N_or h hN hs (c := d) (by omega) with ⟨o, t, t0, ht, et, xt⟩ | ⟨o, et⟩
    · refine nm_r (e' := nI t) (by rw [e]; exact et) (br_f (nI_ne0 t0 (by omega)) ⟨vp_in_nI (by omega) (by decide), vp_in_nI (by omega) (by decide), ?_⟩)
      have l1 := ct_le T n (W t)
      have l2 := ct_le T n (W s)
      rw [bs_cl (by omega), bs_cl (by omega), hTt t ht, hTt s hs]
      refine pk_eq (ct T n (W t)) (ct T n (W s)) (fun z => K0 fun y => y d (by omega) ((ct_ex xt).trans z)) (fun z => nm_r (nI_1 d) (go (by rw [ct_ex xt]; exact z)))
    · refine nm_r (e' := 0) (by rw [e]; exact et) (br_t rfl (nm_r (nI_1 d) (go ?_)))
      rw [ct_noc o]; omega
/-- the words of the states 1 .. k -/
def sl (W : Nat → List Nat) : Nat → List (List Nat)
  | 0 => []
  | k + 1 => (W (k + 1)).reverse :: sl W k
theorem sl_mem {x : List Nat} : ∀ {k : Nat}, x ∈ sl W k ↔ ∃ s, 0 < s ∧ s ≤ k ∧ x = (W s).reverse
  | 0 => ⟨fun h => absurd h List.not_mem_nil, fun ⟨s, h1, h2, _⟩ => by omega⟩
  | k + 1 => by
    simp only [sl, List.mem_cons, sl_mem (k := k)]
    constructor
    · intro h
      rcases h with h | ⟨s, h1, h2, h3⟩
      · exact ⟨k + 1, by omega, Nat.le_refl _, h⟩
      · exact ⟨s, h1, by omega, h3⟩
    · intro ⟨s, h1, h2, h3⟩
      rcases Nat.lt_or_ge k s with l | l
      · have : s = k + 1 := by omega
        subst this; exact Or.inl h3
      · exact Or.inr ⟨s, h1, l, h3⟩
theorem sl_nodup (h : sa_W T n m W) : ∀ {k : Nat}, k < m → (sl W k).Nodup
  | 0, _ => List.nodup_nil
  | k + 1, hk => by
    refine List.nodup_cons.mpr ⟨fun z => ?_, sl_nodup h (by omega)⟩
    obtain ⟨s, h1, h2, h3⟩ := sl_mem.mp z
    have := h.2.2.2.2 (k + 1) s hk (by omega) (by rw [← List.reverse_reverse (W (k + 1)), h3, List.reverse_reverse])
    omega
/-- an lm word loses by every letter in front -/
theorem mx_lm {w : List Nat} (h : sa_lm T n w) (w0 : 0 < w.length) (a : Nat) : ct T n (w ++ [a]) < ct T n w := by
  obtain ⟨e, he, a1, a2⟩ := h.2 a
  have l := sa_at_len a1
  refine cn_lt (a := e - 1) ?_ ?_ (fun k hk z => sa_at_pre (List.prefix_append _ _) z) (by omega)
  · rw [show e - 1 + 1 = e by omega]; exact a2
  · show sa_at T w (e - 1 + 1)
    rw [show e - 1 + 1 = e by omega]; exact a1
theorem ct_oc {w : List Nat} (h : 0 < ct T n w) : sa_oc T n w := by
  obtain ⟨e, he, a⟩ := cn_ex h
  exact ⟨e + 1, by omega, a⟩
theorem mx_islm (hT : ∀ i, i < n → T i < 4) {w : List Nat} (h : mx T n w) : sa_lm T n w := by
  rcases Classical.em (sa_lm T n w) with k | k
  · exact k
  · have o : sa_oc T n w := ct_oc (by have := h.1; omega)
    obtain ⟨a, ha⟩ := sa_nlm o k
    have := (h.2 a (sa_oc_let hT (sa_oc_ex ha o) a (by simp))).1
    exact absurd (ct_ex ha).symm this
theorem xr_8 {post : Int32 → SX → Prop} (hn : n ≤ 24) (B : bt_B T n m W aN aS aL aT aF aW)
    (K : post (nI (cl (fun w => mx T n w.reverse) (sl W (m - 1)))) (fT, fP, fB, nI m, fL, fR, aX, aP, aN, aS, aL, aT, aF, aW, aB)) :
    ∀ k s, s + 1 + k = m → wX_repeats_8 post fT fP fB (nI m) fL fR aX aP aN aS aL aT aF aW aB (k + 1) (nI (cl (fun w => mx T n w.reverse) (sl W s))) (nI (s + 1)) := by
  intro k
  have hTt := B.2.2.2.2.2.1
  have h := B.1
  have hm := B.2.2.2.2.2.2.2
  induction k with
  | zero =>
    intro s hs
    have : s = m - 1 := by omega
    subst this
    exact br_t (nI_le (by omega) (by omega)) K
  | succ k ih =>
    intro s hs
    have c := bs_cl (s := s + 1) (by omega)
    have lc := ct_le T n (W (s + 1))
    have i := ih (s + 1) (by omega)
    have e : cl (fun w => mx T n w.reverse) (sl W (s + 1)) = b01 (mx T n (W (s + 1))) + cl (fun w => mx T n w.reverse) (sl W s) := by
      simp only [sl, cl, List.reverse_reverse]
    refine br_f (nI_ge (by omega) (by omega)) ⟨vp_in_nI (by omega) (by decide), ?_⟩
    rw [c, hTt (s + 1) (by omega)]
    refine pk_lt (ct T n (W (s + 1))) 2 (fun a => ?_) (fun a => ?_)
    · rw [b01_f (fun z => by have := z.1; omega), Nat.zero_add] at e
      rw [e] at i
      exact nm_r (nI_1 (s + 1)) i
    · refine ⟨4 + 1, xr_2 hn B (by omega) a (fun z => ?_) (fun z => ?_) 4 0 rfl (fun c hc => absurd hc (Nat.not_lt_zero _))⟩
      · have lm := h.2.2.1 (s + 1) (by omega)
        have x : mx T n (W (s + 1)) := ⟨a, fun b hb => ⟨Nat.ne_of_lt (mx_lm lm (sa_W_pos' h (by omega) (by omega)) b), z b hb⟩⟩
        rw [b01_t x, Nat.add_comm 1 (cl _ _)] at e
        rw [e] at i
        exact br_f (by decide) (nm_r (nI_1 _) (nm_r (nI_1 (s + 1)) i))
      · rw [b01_f (fun x => z fun b hb => (x.2 b hb).2), Nat.zero_add] at e
        rw [e] at i
        exact br_t rfl (nm_r (nI_1 (s + 1)) i)
theorem mx_sl (hT : ∀ i, i < n → T i < 4) (h : sa_W T n m W) : cl (fun w => mx T n w.reverse) (sl W (m - 1)) = cl (fun w => mx T n w.reverse) (EN T n []) := by
  have m0 := h.1
  refine cl_ext (sl_nodup h (by omega)) (EN_nodup []) (fun x hx => ?_)
  rw [EN_mem hT, sl_mem, List.append_nil]
  have lm := mx_islm hT hx
  constructor
  · intro ⟨s, s0, s1, e⟩
    refine ⟨fun z => ?_, lm.1⟩
    have := sa_W_pos' h s0 (by omega)
    rw [z] at e
    have e2 := congrArg List.length e
    simp at e2; rw [← e2] at this; simp at this
  · intro ⟨x0, _⟩
    obtain ⟨s, hs, e⟩ := h.2.2.2.1 _ lm
    refine ⟨s, sa_W_pos h ?_, by omega, ?_⟩
    · rw [e]
      rcases Nat.eq_zero_or_pos x.reverse.length with z | z
      · simp at z; exact absurd z x0
      · exact z
    · rw [e, List.reverse_reverse]
theorem x_repeats {post : Int32 → SX → Prop} (R : XR T P n q (fT, fP, fB, fM, fL, fR, aX, aP, aN, aS, aL, aT, aF, aW, aB))
    (K : ∀ u', XR T P n q u' → post (nI (cl (fun w => mx T n w.reverse) (EN T n []))) u') :
    wpX_repeats post (fT, fP, fB, fM, fL, fR, aX, aP, aN, aS, aL, aT, aF, aW, aB) := by
  unfold wpX_repeats
  have hn := R.2.2.1
  have hX := R.2.2.2.2.1
  refine xq_build R fun m W fB' fL' bN bS bL bT bF bW bB R' B => ?_
  have m0 := B.1.1
  have := K _ R'
  rw [← mx_sl (fun i hi => (hX i (by omega)).1) B.1] at this
  exact ⟨m - 1 + 1, xr_8 hn B this (m - 1) 0 (by omega)⟩
theorem xu_23 {post : Int32 → SX → Prop} {p : Nat} (hn : n ≤ 24) (hX : ∀ i, i < 24 → T i < 4 ∧ aX i = nI (T i)) (B : bt_B T n m W aN aS aL aT aF aW)
    (K : ∀ r, sp_uniq T n p r → post r (nI n, fP, fB, fM, fL, fR, aX, aP, aN, aS, aL, aT, aF, aW, aB)) :
    ∀ k l s, p + l + k = n → s < m → sa_ex T n (sa_pt T p l) (W s) → (∀ l', 0 < l' → l' ≤ l → ct T n (sa_pt T p l') ≠ 1) →
      wX_unique_23 post (nI p) (nI n) fP fB fM fL fR aX aP aN aS aL aT aF aW aB (k + 1) (nI s) (nI (p + l)) := by
  intro k
  obtain ⟨h, hN, hS, hL, hF, hTt, hW, hm⟩ := B
  induction k with
  | zero =>
    intro l s hl hs x i
    exact br_t (nI_le (by omega) (by omega)) (K _ (Or.inr ⟨fun l' h0 h1 => i l' h0 (by omega), rfl⟩))
  | succ k ih =>
    intro l s hl hs x i
    have p' := hX (p + l) (by omega)
    have ei : aX (nI (p + l)).toNatClampNeg = nI (T (p + l)) := by rw [bs_cl (by omega)]; exact p'.2
    have ix := bs_ixc (s := s) (c := T (p + l)) (by omega)
    refine br_f (nI_ge (by omega) (by omega)) ⟨vp_in_nI (by omega) (by decide), ?_⟩
    rw [ei, ix]
    refine ⟨bs_ixi (by omega) p'.1, ?_⟩
    have o : sa_oc T n (T (p + l) :: sa_pt T p l) := ⟨p + (l + 1), by omega, sa_pt_at p (l + 1)⟩
    rcases st_step h hN hs p'.1 x with ⟨_, t, t0, ht, e, y⟩ | ⟨o', _⟩
    · refine nm_r e ⟨vp_in_nI (by omega) (by decide), ?_⟩
      have lc := ct_le T n (W t)
      have y2 : ct T n (sa_pt T p (l + 1)) = ct T n (W t) := ct_ex y
      rw [bs_cl (by omega), hTt t ht, ← y2]
      rw [← y2] at lc
      refine pk_eq (ct T n (sa_pt T p (l + 1))) 1 (fun z => K _ (Or.inl ⟨l + 1, by omega, by omega, z, fun l' h0 h1 => i l' h0 (by omega), ?_⟩)) (fun z => nm_r (nI_1 (p + l)) (ih (l + 1) t (by omega) ht y (fun l' h0 h1 => ?_)))
      · rw [pk_sub (by omega), nI_1]
        exact congrArg nI (by omega)
      · rcases Nat.lt_or_ge l l' with a | a
        · have : l' = l + 1 := by omega
          subst this; exact z
        · exact i l' h0 a
    · exact absurd o o'
theorem x_unique {post : Int32 → SX → Prop} {v1 : Int32} (R : XR T P n q (fT, fP, fB, fM, fL, fR, aX, aP, aN, aS, aL, aT, aF, aW, aB))
    (K0 : v1 < 0 ∨ ¬ v1 < nI n → post (-2) (fT, fP, fB, fM, fL, fR, aX, aP, aN, aS, aL, aT, aF, aW, aB))
    (K : ∀ u' p r, XR T P n q u' → v1 = nI p → p < n → sp_uniq T n p r → post r u') :
    wpX_unique post (fT, fP, fB, fM, fL, fR, aX, aP, aN, aS, aL, aT, aF, aW, aB) v1 := by
  unfold wpX_unique
  have hn := R.2.2.1
  have hX := R.2.2.2.2.1
  have eT := R.1
  refine br_c (fun z => K0 (Or.inl z)) (fun z => br_c (fun y => ?_) (fun y => K0 (Or.inr (by rw [← eT]; exact y))))
  obtain ⟨p, hp, rfl⟩ := nI_of z
  rw [eT, nI_ltI hp (by omega)] at y
  refine xq_build R fun m W fB' fL' bN bS bL bT bF bW bB R' B => ?_
  exact ⟨n - p + 1, xu_23 hn hX B (fun r hr => K _ p r R' rfl y hr) (n - p) 0 0 (by omega) B.1.1 (sa_ex_nil B.1) (fun l' h0 h1 => by omega)⟩
end
end
section
/-! common of the component -/
def sp_com (T P : Nat → Nat) (n q M : Nat) : Prop :=
  (∃ i, i ≤ q ∧ M ≤ i ∧ sa_oc T n ((sa_rv P i).take M)) ∧ ∀ i l, i ≤ q → l ≤ i → sa_oc T n ((sa_rv P i).take l) → l ≤ M
theorem sp_com_u {T P : Nat → Nat} {n q L M : Nat} (h : sp_com T P n q L) (k : sp_com T P n q M) : L = M := by
  obtain ⟨i, i1, i2, i3⟩ := h.1
  obtain ⟨j, j1, j2, j3⟩ := k.1
  have := k.2 i L i1 i2 i3
  have := h.2 j M j1 j2 j3
  omega
section
variable {T P : Nat → Nat} {n q m : Nat} {W : Nat → List Nat} {fT fP fB fM fL fR : Int32} {aX aP aN aS aL aT aF aW aB : Nat → Int32}
theorem tk_take {u : List Nat} {a b : Nat} (h : a ≤ b) : u.take a <+: u.take b := List.prefix_of_prefix_length_le (List.take_prefix _ _) (List.take_prefix _ _) (by simp; omega)
/-- the kind of a state -/
theorem st_class (hT : ∀ i, i < n → T i < 4) (h : sa_W T n m W) (hN : sa_N T n m W aN) {s : Nat} (hs : s < m) {u : List Nat} (p : u <+: W s) {r : Nat}
    (l : (W r).length < u.length) (x3 : ∀ v, sa_lm T n v → v <+: W s → v.length < (W s).length → v.length ≤ (W r).length) : sa_ex T n u (W s) := by
  obtain ⟨e, he, a⟩ := (h.2.2.1 s hs).1
  obtain ⟨t, ht, y⟩ := st_all hT h hN (w := u) ⟨e, he, sa_at_pre p a⟩
  have b := y.2 e he (sa_at_pre p a)
  have lu := List.IsPrefix.length_le y.1
  rcases Nat.lt_or_ge (W t).length (W s).length with k | k
  · have := x3 (W t) (h.2.2.1 t ht) (sa_at_cmp b a (by omega)) k
    omega
  · have := sa_lm_max (h.2.2.1 s hs) (sa_ex_mid y p (sa_at_cmp a b k))
    rw [← this]; exact y
/-- where the probe stands: l letters before place i are the longest part that occurs -/
def cm_I (T P : Nat → Nat) (n m : Nat) (W : Nat → List Nat) (i s l : Nat) : Prop := s < m ∧ l ≤ i ∧ sa_ex T n ((sa_rv P i).take l) (W s) ∧ sa_oc T n ((sa_rv P i).take l)
theorem cm_0 (h : sa_W T n m W) {i l : Nat} (I : cm_I T P n m W i 0 l) : l = 0 := by
  have := List.IsPrefix.length_le I.2.2.1.1
  rw [h.2.1, List.length_take, sa_rv_len] at this
  have := I.2.1
  simp at *; omega
theorem cm_take {i l : Nat} : (sa_rv P (i + 1)).take (l + 1) = P i :: (sa_rv P i).take l := rfl
/-- one step to a shorter ending -/
theorem cm_s (hT : ∀ i, i < n → T i < 4) (h : sa_W T n m W) (hN : sa_N T n m W aN) {i s l r c : Nat} (I : cm_I T P n m W i s l) (hr : r < m) (hc : c < 4)
    (x1 : W r <+: W s) (x2 : (W r).length < (W s).length) (x3 : ∀ v, sa_lm T n v → v <+: W s → v.length < (W s).length → v.length ≤ (W r).length)
    (no : ¬ sa_oc T n (c :: W s)) (H : ∀ l', l < l' → l' ≤ i → ¬ sa_oc T n (c :: (sa_rv P i).take l')) :
    cm_I T P n m W i r (W r).length ∧ ∀ l', (W r).length < l' → l' ≤ i → ¬ sa_oc T n (c :: (sa_rv P i).take l') := by
  obtain ⟨hs, hl, x, o⟩ := I
  have ll : ((sa_rv P i).take l).length = l := by rw [List.length_take, sa_rv_len]; omega
  have lr : (W r).length < l := by
    rcases Nat.lt_or_ge (W r).length l with k | k
    · exact k
    · have := sa_lm_max (h.2.2.1 r hr) (sa_ex_mid x (List.prefix_of_prefix_length_le x.1 x1 (by omega)) x1)
      rw [this] at x2; omega
  have pr : W r <+: (sa_rv P i).take l := List.prefix_of_prefix_length_le x1 x.1 (by omega)
  have er : (sa_rv P i).take (W r).length = W r := by
    have a := List.IsPrefix.trans pr (List.take_prefix _ _)
    exact (List.prefix_iff_eq_take.mp a).symm
  refine ⟨⟨hr, by omega, by rw [er]; exact sa_ex_refl, by rw [er]; exact (h.2.2.1 r hr).1⟩, fun l' h1 h2 z => ?_⟩
  rcases Nat.lt_or_ge l l' with k | k
  · exact H l' k h2 z
  · have p' : (sa_rv P i).take l' <+: W s := List.IsPrefix.trans (tk_take k) x.1
    have y := st_class hT h hN hs p' (r := r) (by rw [List.length_take, sa_rv_len]; omega) x3
    exact no (sa_oc_ex (sa_ex_cons y) z)
def cm_M (T P : Nat → Nat) (n i M : Nat) : Prop := (∃ j, j ≤ i ∧ M ≤ j ∧ sa_oc T n ((sa_rv P j).take M)) ∧ ∀ j l, j ≤ i → l ≤ j → sa_oc T n ((sa_rv P j).take l) → l ≤ M
def cm_X (T P : Nat → Nat) (n i l : Nat) : Prop := ∀ l', l < l' → l' ≤ i → ¬ sa_oc T n ((sa_rv P i).take l')
theorem cm_Ms {i M M' l : Nat} (h : cm_M T P n i M) (X : cm_X T P n (i + 1) l) (hl : l ≤ M') (hM : M ≤ M') (e : M' = M ∨ (M' ≤ i + 1 ∧ sa_oc T n ((sa_rv P (i + 1)).take M'))) : cm_M T P n (i + 1) M' := by
  refine ⟨?_, fun j l' h1 h2 h3 => ?_⟩
  · rcases e with e | e
    · subst e
      obtain ⟨j, j1, j2, j3⟩ := h.1
      exact ⟨j, by omega, j2, j3⟩
    · exact ⟨i + 1, Nat.le_refl _, e.1, e.2⟩
  · rcases Nat.lt_or_ge i j with k | k
    · have : j = i + 1 := by omega
      subst this
      rcases Nat.lt_or_ge l l' with a | a
      · exact absurd h3 (X l' a h2)
      · omega
    · have := h.2 j l' k h2 h3; omega
theorem xc_62 {post : Int32 → SX → Prop} {J : Int32 → Int32 → Int32 → Int32 → Prop} {i M s l : Nat} (hi : i < 12) (hP : ∀ i, i < 12 → P i < 4 ∧ aP i = nI (P i)) (B : bt_B T n m W aN aS aL aT aF aW)
    (I : cm_I T P n m W i s l) (hM : M ≤ i) (C : cm_M T P n i M) (H : ∀ l', l < l' → l' ≤ i → ¬ sa_oc T n (P i :: (sa_rv P i).take l')) (Z : s = 0 ∨ sa_oc T n (P i :: W s))
    (K : ∀ s' l' M', cm_I T P n m W (i + 1) s' l' → cm_X T P n (i + 1) l' → M' ≤ i + 1 → cm_M T P n (i + 1) M' → J (nI M') (nI s') (nI l') (nI (i + 1))) :
    wX_common_62 post J (nI M) (nI s) (nI l) (nI i) fT fP fB fM fL fR aX aP aN aS aL aT aF aW aB := by
  unfold wX_common_62
  obtain ⟨h, hN, hS, hL, hF, hTt, hW, hm⟩ := B
  obtain ⟨hs, hl, x, o⟩ := I
  have p := hP i hi
  have ei : aP (nI i).toNatClampNeg = nI (P i) := by rw [bs_cl (by omega)]; exact p.2
  have ix := bs_ixc (s := s) (c := P i) (by omega)
  rw [ei, ix]
  refine ⟨vp_in_nI (by omega) (by decide), bs_ixi (by omega) p.1, ?_⟩
  rcases st_step h hN hs p.1 x with ⟨o', t, t0, ht, e, y⟩ | ⟨o', e⟩
  · have X : cm_X T P n (i + 1) (l + 1) := fun l' h1 h2 => by
      obtain ⟨k, rfl⟩ : ∃ k, l' = k + 1 := ⟨l' - 1, by omega⟩
      rw [cm_take]
      exact H k (by omega) (by omega)
    have I' : cm_I T P n m W (i + 1) t (l + 1) := ⟨ht, by omega, by rw [cm_take]; exact y, by rw [cm_take]; exact o'⟩
    refine nm_r e (br_f (nI_ne0 t0 (by omega)) (nm_r (nI_1 l) ?_))
    refine pk_le (l + 1) M (fun a => nm_r (nI_1 i) (K t (l + 1) M I' X (by omega) (cm_Ms C X a (Nat.le_refl _) (Or.inl rfl)))) (fun a => nm_r (nI_1 i) (K t (l + 1) (l + 1) I' X (by omega) (cm_Ms C X (Nat.le_refl _) (by omega) (Or.inr ⟨by omega, ?_⟩))))
    rw [cm_take]; exact o'
  · have s0 : s = 0 := by
      rcases Z with z | z
      · exact z
      · exact absurd (sa_oc_pre (sa_ex_cons x).1 z) o'
    subst s0
    have l0 := cm_0 h ⟨hs, hl, x, o⟩
    subst l0
    have X : cm_X T P n (i + 1) 0 := fun l' h1 h2 => by
      obtain ⟨k, rfl⟩ : ∃ k, l' = k + 1 := ⟨l' - 1, by omega⟩
      rw [cm_take]
      rcases Nat.eq_zero_or_pos k with k0 | k0
      · subst k0; exact o'
      · exact H k k0 (by omega)
    exact nm_r e (br_t rfl (nm_r (nI_1 i) (K 0 0 M ⟨hs, by omega, sa_ex_nil h, sa_oc_nil⟩ X (by omega) (cm_Ms C X (by omega) (Nat.le_refl _) (Or.inl rfl)))))
theorem xc_22 {post : Int32 → SX → Prop} {J : Int32 → Int32 → Int32 → Int32 → Prop} {i M : Nat} (hT : ∀ i, i < n → T i < 4) (hi : i < 12) (hP : ∀ i, i < 12 → P i < 4 ∧ aP i = nI (P i)) (B : bt_B T n m W aN aS aL aT aF aW)
    (hM : M ≤ i) (C : cm_M T P n i M)
    (K : ∀ s' l' M', cm_I T P n m W (i + 1) s' l' → cm_X T P n (i + 1) l' → M' ≤ i + 1 → cm_M T P n (i + 1) M' → J (nI M') (nI s') (nI l') (nI (i + 1))) :
    ∀ k s l, (W s).length < k → cm_I T P n m W i s l → (∀ l', l < l' → l' ≤ i → ¬ sa_oc T n (P i :: (sa_rv P i).take l')) →
      wX_common_22 post J (nI M) (nI i) fT fP fB fM fL fR aX aP aN aS aL aT aF aW aB k (nI s) (nI l) := by
  intro k
  have B' := B
  obtain ⟨h, hN, hS, hL, hF, hTt, hW, hm⟩ := B
  have p := hP i hi
  have ei : aP (nI i).toNatClampNeg = nI (P i) := by rw [bs_cl (by omega)]; exact p.2
  induction k with
  | zero => intro s l hk; omega
  | succ k ih =>
    intro s l hk I H
    have hs := I.1
    have ix := bs_ixc (s := s) (c := P i) (by omega)
    rcases Nat.eq_zero_or_pos s with s0 | s0
    · subst s0
      exact br_t rfl (xc_62 hi hP B' I hM C H (Or.inl rfl) K)
    · refine br_f (nI_ne0 s0 (by omega)) ⟨vp_in_nI (by omega) (by decide), ?_⟩
      rw [ei, ix]
      refine ⟨bs_ixi (by omega) p.1, ?_⟩
      rcases sa_N_or h hN hs p.1 with ⟨o, t, t0, ht, e, y⟩ | ⟨o, e⟩
      · exact br_f (by rw [e]; exact nI_ne0 t0 (by omega)) (xc_62 hi hP B' I hM C H (Or.inr o) K)
      · obtain ⟨r, hr, er, x1, x2, x3⟩ := hS.2 s s0 hs
        obtain ⟨I', H'⟩ := cm_s hT h hN I hr p.1 x1 x2 x3 o H
        refine br_t e ⟨vp_in_nI (by omega) (by decide), nm_r (e' := nI r) (by rw [bs_cl (by omega)]; exact er) ⟨vp_in_nI (by omega) (by decide), nm_r (e' := nI (W r).length) (by rw [bs_cl (by omega)]; exact hL r hr) ?_⟩⟩
        exact ih r _ (by omega) I' H'
theorem xc_13 {post : Int32 → SX → Prop} (hT : ∀ i, i < n → T i < 4) (hq : q ≤ 12) (hP : ∀ i, i < 12 → P i < 4 ∧ aP i = nI (P i)) (B : bt_B T n m W aN aS aL aT aF aW)
    (K : ∀ M, M ≤ 12 → sp_com T P n q M → post (nI M) (fT, nI q, fB, fM, fL, fR, aX, aP, aN, aS, aL, aT, aF, aW, aB)) :
    ∀ k i s l M, i + k = q → cm_I T P n m W i s l → cm_X T P n i l → M ≤ i → cm_M T P n i M →
      wX_common_13 post fT (nI q) fB fM fL fR aX aP aN aS aL aT aF aW aB (k + 1) (nI M) (nI s) (nI l) (nI i) := by
  intro k
  induction k with
  | zero =>
    intro i s l M hi I X hM C
    have : i = q := by omega
    subst this
    exact br_t (nI_le (Nat.le_refl _) (by omega)) (K M (by omega) C)
  | succ k ih =>
    intro i s l M hi I X hM C
    refine br_f (nI_ge (by omega) (by omega)) ⟨(W s).length + 1, xc_22 hT (by omega) hP B hM C (fun s' l' M' a b c d => ih (i + 1) s' l' M' (by omega) a b c d) _ s l (Nat.lt_succ_self _) I ?_⟩
    intro l' h1 h2 z
    exact X l' h1 h2 (sa_oc_tail z)
theorem x_common {post : Int32 → SX → Prop} (R : XR T P n q (fT, fP, fB, fM, fL, fR, aX, aP, aN, aS, aL, aT, aF, aW, aB))
    (K : ∀ u' M, XR T P n q u' → sp_com T P n q M → post (nI M) u') : wpX_common post (fT, fP, fB, fM, fL, fR, aX, aP, aN, aS, aL, aT, aF, aW, aB) := by
  unfold wpX_common
  have hn := R.2.2.1
  have hX := R.2.2.2.2.1
  have hq := R.2.2.2.1
  have hP := R.2.2.2.2.2.1
  refine xq_build R fun m W fB' fL' bN bS bL bT bF bW bB R' B => ?_
  refine ⟨q + 1, xc_13 (fun i hi => (hX i (by omega)).1) hq hP B (fun M _ h => K _ M R' h) q 0 0 0 0 (by omega) ⟨B.1.1, by omega, sa_ex_nil B.1, sa_oc_nil⟩ (fun l' h1 h2 => by omega) (by omega) ⟨⟨0, by omega, by omega, sa_oc_nil⟩, fun j l h1 h2 _ => by omega⟩⟩
end
end
section
/-! rank and word of the component -/
/-- the part of f from a, forward -/
def fw (f : Nat → Nat) (a : Nat) : Nat → List Nat
  | 0 => []
  | k + 1 => f a :: fw f (a + 1) k
theorem fw_len (f : Nat → Nat) : ∀ (k a : Nat), (fw f a k).length = k
  | 0, _ => rfl
  | k + 1, a => by simp [fw, fw_len f k (a + 1)]
theorem fw_nil {f : Nat → Nat} {a k : Nat} : fw f a k = [] ↔ k = 0 := by
  constructor
  · intro h
    have := congrArg List.length h
    rw [fw_len] at this; exact this
  · intro h; subst h; rfl
section
variable {T P : Nat → Nat} {n q m : Nat} {W : Nat → List Nat} {fT fP fB fM fL fR : Int32} {aX aP aN aS aL aT aF aW aB : Nat → Int32}
theorem rk_lt {u P' : List Nat} {d c : Nat} (h : d < c) : cl (fun w => lx w (c :: P')) (en_b T n (EN T n) u d) = (en_b T n (EN T n) u d).length :=
  cl_all fun x hx => by
    obtain ⟨y, rfl⟩ := en_bhead hx
    exact Or.inl h
theorem rk_gt {u P' : List Nat} {d c : Nat} (h : c < d) : cl (fun w => lx w (c :: P')) (en_b T n (EN T n) u d) = 0 :=
  cl_none fun x hx z => by
    obtain ⟨y, rfl⟩ := en_bhead hx
    rcases z with z | z <;> omega
/-- how many words of the block of c come before c :: P' -/
noncomputable def rk_e (T : Nat → Nat) (n : Nat) (u : List Nat) (c : Nat) (P' : List Nat) : Nat := cl (fun w => lx w (c :: P')) (en_b T n (EN T n) u c)
theorem rk_eq {u P' : List Nat} {c : Nat} (o : sa_oc T n (c :: u)) : rk_e T n u c P' = b01 (P' ≠ []) + cl (fun w => lx w P') (EN T n (c :: u)) := by
  unfold rk_e
  rw [en_bt o]
  simp only [cl]
  rw [cl_map (R := fun w => lx w P') (fun x _ => lx_cc)]
  refine congrArg (· + _) (b01_c ?_)
  cases P' with
  | nil => exact ⟨fun h => absurd (lx_cc.mp h) lx_nil, fun h => absurd rfl h⟩
  | cons b v => exact ⟨fun _ => by simp, fun _ => lx_cc.mpr trivial⟩
theorem rk_ne {u P' : List Nat} {c : Nat} (o : ¬ sa_oc T n (c :: u)) : rk_e T n u c P' = 0 := by unfold rk_e; rw [en_bf o]; rfl
theorem rk_sum {u P' : List Nat} {c : Nat} (hc : c < 4) : cl (fun w => lx w (c :: P')) (EN T n u) = es T n u c + rk_e T n u c P' := by
  unfold rk_e
  rw [EN_eq, cl_app, cl_app, cl_app]
  have : c = 0 ∨ c = 1 ∨ c = 2 ∨ c = 3 := by omega
  rcases this with e | e | e | e <;> subst e
  · rw [rk_gt (d := 1) (by omega), rk_gt (d := 2) (by omega), rk_gt (d := 3) (by omega)]
    simp only [es]; omega
  · rw [rk_lt (d := 0) (by omega), rk_gt (d := 2) (by omega), rk_gt (d := 3) (by omega)]
    simp only [es]; omega
  · rw [rk_lt (d := 0) (by omega), rk_lt (d := 1) (by omega), rk_gt (d := 3) (by omega)]
    simp only [es]; omega
  · rw [rk_lt (d := 0) (by omega), rk_lt (d := 1) (by omega), rk_lt (d := 2) (by omega)]
    simp only [es]; omega
theorem es_s (h : sa_W T n m W) (hN : sa_N T n m W aN) (hW : ∀ t, t < m → aW t = nI (EN T n (W t)).length) {s d : Nat} {u : List Nat} (x : sa_ex T n u (W s)) (hs : s < m) (hd : d < 4) :
    (∃ t, 0 < t ∧ t < m ∧ aN (4 * s + d) = nI t ∧ sa_oc T n (d :: u) ∧ sa_ex T n (d :: u) (W t) ∧ (en_b T n (EN T n) u d).length = 1 + (EN T n (W t)).length)
    ∨ (aN (4 * s + d) = 0 ∧ ¬ sa_oc T n (d :: u) ∧ (en_b T n (EN T n) u d).length = 0) := by
  rcases st_step h hN hs hd x with ⟨o, t, t0, ht, e, y⟩ | ⟨o, e⟩
  · refine Or.inl ⟨t, t0, ht, e, o, y, ?_⟩
    rw [en_bt o, EN_ex y]
    simp only [List.length_cons, List.length_map]; omega
  · exact Or.inr ⟨e, o, by rw [en_bf o]; rfl⟩
theorem xk_38 {post : Int32 → SX → Prop} {J : Int32 → Int32 → Int32 → Prop} {i s b : Nat} (hi : i < 12) (hP : ∀ i, i < 12 → P i < 4 ∧ aP i = nI (P i)) (B : bt_B T n m W aN aS aL aT aF aW)
    (hs : s < m) (x : sa_ex T n (sa_rv P i) (W s))
    (K0 : ¬ sa_oc T n (sa_rv P (i + 1)) → post (nI (b + es T n (sa_rv P i) (P i))) (fT, fP, fB, fM, fL, fR, aX, aP, aN, aS, aL, aT, aF, aW, aB))
    (K1 : ∀ t, t < m → sa_oc T n (sa_rv P (i + 1)) → sa_ex T n (sa_rv P (i + 1)) (W t) → J (nI (b + es T n (sa_rv P i) (P i))) (nI t) (nI (i + 1))) :
    ∀ k d, d + k = P i → wX_rank_38 post J (nI s) (nI i) fT fP fB fM fL fR aX aP aN aS aL aT aF aW aB (k + 1) (nI (b + es T n (sa_rv P i) d)) (nI d) := by
  intro k
  obtain ⟨h, hN, hS, hL, hF, hTt, hW, hm⟩ := B
  have p := hP i hi
  have ei : aP (nI i).toNatClampNeg = nI (P i) := by rw [bs_cl (by omega)]; exact p.2
  have ii : vp_in (nI i) 12 := vp_in_nI hi (by decide)
  induction k with
  | zero =>
    intro d hd
    have : d = P i := by omega
    subst this
    have ix := bs_ixc (s := s) (c := P i) (by omega)
    refine ⟨ii, ?_⟩
    rw [ei, ix]
    refine br_t (nI_le (Nat.le_refl _) (by omega)) ⟨ii, bs_ixi (by omega) p.1, ?_⟩
    rcases st_step h hN hs p.1 x with ⟨o', t, t0, ht, e, y⟩ | ⟨o', e⟩
    · exact nm_r e (br_f (nI_ne0 t0 (by omega)) (nm_r (nI_1 i) (K1 t ht o' y)))
    · exact nm_r e (br_t rfl (K0 o'))
  | succ k ih =>
    intro d hd
    have ix := bs_ixc (s := s) (c := d) (by omega)
    refine ⟨ii, ?_⟩
    rw [ei]
    refine br_f (nI_ge (by omega) (by omega)) ⟨bs_ixi (by omega) (by omega), ?_⟩
    rw [ix]
    have r := ih (d + 1) (by omega)
    simp only [es] at r
    rcases es_s h hN hW x hs (d := d) (by omega) with ⟨t, t0, ht, e, o, y, l⟩ | ⟨e, o, l⟩
    · refine nm_r e (br_f (nI_ne0 t0 (by omega)) ⟨vp_in_nI (by omega) (by decide), nm_r (e' := nI (b + (es T n (sa_rv P i) d + (en_b T n (EN T n) (sa_rv P i) d).length))) ?_ (nm_r (nI_1 d) r)⟩)
      rw [bs_cl (by omega), hW t ht, l, show (1 : Int32) = nI 1 from rfl, nI_add, nI_add]
      exact congrArg nI (by omega)
    · rw [l, Nat.add_zero] at r
      exact nm_r e (br_t rfl (nm_r (nI_1 d) r))
theorem xk_20 {post : Int32 → SX → Prop} {Rt : Nat} (hq : q ≤ 12) (hP : ∀ i, i < 12 → P i < 4 ∧ aP i = nI (P i)) (B : bt_B T n m W aN aS aL aT aF aW)
    (K : post (nI Rt) (fT, nI q, fB, fM, fL, fR, aX, aP, aN, aS, aL, aT, aF, aW, aB)) :
    ∀ k i s b, i + k = q → s < m → sa_ex T n (sa_rv P i) (W s) → Rt = b + b01 (0 < i ∧ i < q) + cl (fun w => lx w (fw P i (q - i))) (EN T n (sa_rv P i)) →
      wX_rank_20 post fT (nI q) fB fM fL fR aX aP aN aS aL aT aF aW aB (k + 1) (nI b) (nI s) (nI i) := by
  intro k
  induction k with
  | zero =>
    intro i s b hi hs x e
    have : i = q := by omega
    subst this
    have en0 : cl (fun w => lx w (fw P i 0)) (EN T n (sa_rv P i)) = 0 := cl_none (fun w _ => lx_nil)
    rw [b01_f (fun z => by omega), Nat.sub_self, en0] at e
    simp only [Nat.add_zero] at e
    subst e
    exact br_t (nI_le (Nat.le_refl _) (by omega)) K
  | succ k ih =>
    intro i s b hi hs x e
    have p := hP i (by omega)
    have ef : fw P i (q - i) = P i :: fw P (i + 1) (q - (i + 1)) := by
      rw [show q - i = (q - (i + 1)) + 1 by omega]; rfl
    rw [ef, rk_sum p.1] at e
    have go : ∀ b', b' = b + b01 (0 < i ∧ i < q) → ∃ n38, wX_rank_38 post (wX_rank_20 post fT (nI q) fB fM fL fR aX aP aN aS aL aT aF aW aB (k + 1)) (nI s) (nI i) fT (nI q) fB fM fL fR aX aP aN aS aL aT aF aW aB n38 (nI b') 0 := by
      intro b' eb
      rw [← eb] at e
      refine ⟨P i + 1, xk_38 (by omega) hP B hs x (fun o => ?_) (fun t ht o y => ?_) (P i) 0 (by omega)⟩
      · rw [rk_ne o] at e
        have : Rt = b' + es T n (sa_rv P i) (P i) := by omega
        rw [← this]; exact K
      · refine ih (i + 1) t _ (by omega) ht y ?_
        rw [rk_eq o] at e
        have : b01 (0 < i + 1 ∧ i + 1 < q) = b01 (fw P (i + 1) (q - (i + 1)) ≠ []) := by
          refine b01_c ⟨fun z y => ?_, fun z => ⟨by omega, ?_⟩⟩
          · rw [fw_nil] at y; omega
          · rcases Nat.lt_or_ge (i + 1) q with l | l
            · exact l
            · exact absurd (fw_nil.mpr (by omega)) z
        rw [this]
        have e2 : EN T n (P i :: sa_rv P i) = EN T n (sa_rv P (i + 1)) := rfl
        rw [e2] at e
        omega
    refine br_f (nI_ge (by omega) (by omega)) (br_c (fun z => ?_) (fun z => ?_))
    · have i0 : i = 0 := by
        rw [← nI_0, nI_leI (by omega) (by omega)] at z; omega
      exact go b (by rw [b01_f (fun c => by omega)]; omega)
    · have i0 : 0 < i := by
        rw [← nI_0, nI_leI (by omega) (by omega)] at z; omega
      exact nm_r (nI_1 b) (go (b + 1) (by rw [b01_t ⟨i0, by omega⟩]))
theorem x_rank {post : Int32 → SX → Prop} (R : XR T P n q (fT, fP, fB, fM, fL, fR, aX, aP, aN, aS, aL, aT, aF, aW, aB))
    (K0 : q = 0 → post (-3) (fT, fP, fB, fM, fL, fR, aX, aP, aN, aS, aL, aT, aF, aW, aB))
    (K : ∀ u', XR T P n q u' → 0 < q → post (nI (cl (fun w => lx w (fw P 0 q)) (EN T n []))) u') :
    wpX_rank post (fT, fP, fB, fM, fL, fR, aX, aP, aN, aS, aL, aT, aF, aW, aB) := by
  unfold wpX_rank
  have e := R.2.1
  have hq := R.2.2.2.1
  have hP := R.2.2.2.2.2.1
  refine br_c (fun z => K0 ?_) (fun z => ?_)
  · rw [e, ← nI_0, nI_eq (by omega) (by omega)] at z; exact z
  · have q0 : 0 < q := by
      rcases Nat.eq_zero_or_pos q with c | c
      · subst c; exact absurd e z
      · exact c
    refine xq_build R fun m W fB' fL' bN bS bL bT bF bW bB R' B => ?_
    refine ⟨q + 1, xk_20 hq hP B (K _ R' q0) q 0 0 0 (by omega) B.1.1 (sa_ex_nil B.1) ?_⟩
    rw [b01_f (fun c => by omega), Nat.sub_zero]
    simp [sa_rv]
/-! word -/
theorem EN_cut (u : List Nat) {d : Nat} (hd : d < 4) : ∃ A C, EN T n u = A ++ (en_b T n (EN T n) u d ++ C) ∧ A.length = es T n u d := by
  have : d = 0 ∨ d = 1 ∨ d = 2 ∨ d = 3 := by omega
  rw [EN_eq]
  rcases this with e | e | e | e <;> subst e
  · exact ⟨[], _, rfl, rfl⟩
  · exact ⟨en_b T n (EN T n) u 0, _, rfl, by simp [es]⟩
  · exact ⟨en_b T n (EN T n) u 0 ++ en_b T n (EN T n) u 1, en_b T n (EN T n) u 3, by simp, by simp [es]⟩
  · exact ⟨en_b T n (EN T n) u 0 ++ (en_b T n (EN T n) u 1 ++ en_b T n (EN T n) u 2), [], by simp, by simp [es]; omega⟩
/-- the word with number es u d + j among those on from u -/
theorem EN_get {u : List Nat} {d j : Nat} (hd : d < 4) (o : sa_oc T n (d :: u)) (hj : j < (en_b T n (EN T n) u d).length) {w : List Nat} (h : (EN T n u)[es T n u d + j]? = some w) :
    ∃ y, w = d :: y ∧ ((j = 0 ∧ y = []) ∨ (0 < j ∧ (EN T n (d :: u))[j - 1]? = some y)) := by
  obtain ⟨A, C, e, l⟩ := EN_cut (T := T) (n := n) u hd
  rw [e, ← l, List.getElem?_append_right (by omega), Nat.add_sub_cancel_left, List.getElem?_append_left hj, en_bt o] at h
  cases j with
  | zero =>
    simp at h
    exact ⟨[], h.symm, Or.inl ⟨rfl, rfl⟩⟩
  | succ j =>
    simp only [List.getElem?_cons_succ, List.getElem?_map, Option.map_eq_some_iff] at h
    obtain ⟨y, h1, h2⟩ := h
    exact ⟨y, h2.symm, Or.inr ⟨by omega, by simpa using h1⟩⟩
theorem xk_5 {post : Int32 → SX → Prop} {s c : Nat} {u w : List Nat} (hn : n ≤ 24) (hT : ∀ i, i < n → T i < 4) (B : bt_B T n m W aN aS aL aT aF aW) (hs : s < m) (x : sa_ex T n u (W s)) (hw : (EN T n u)[c]? = some w)
    (K : ∀ t d j y, t < m → d < 4 → sa_ex T n (d :: u) (W t) → sa_oc T n (d :: u) → w = d :: y → ((j = 0 ∧ y = []) ∨ (0 < j ∧ (EN T n (d :: u))[j - 1]? = some y)) →
      post (nI t) (fT, fP, fB, fM, fL, nI j - 1, aX, aP, aN, aS, aL, aT, aF, aW, aB)) :
    ∀ k d, d + k = 4 → es T n u d ≤ c → wX_stepTowards_5 post (nI s) fT fP fB fM fL fR aX aP aN aS aL aT aF aW aB (k + 1) (nI (c - es T n u d)) (nI d) := by
  intro k
  obtain ⟨h, hN, hS, hL, hF, hTt, hW, hm⟩ := B
  have cl : c < (EN T n u).length := (List.getElem?_eq_some_iff.mp hw).1
  have c6 := EN_625 hT hn u
  induction k with
  | zero =>
    intro d hd hc
    have : d = 4 := by omega
    subst this
    rw [es_4] at hc; omega
  | succ k ih =>
    intro d hd hc
    have ix := bs_ixc (s := s) (c := d) (by omega)
    refine br_f (bs_4nl (by omega)) ⟨bs_ixi (by omega) (by omega), ?_⟩
    rw [ix]
    have r := ih (d + 1) (by omega)
    simp only [es] at r
    rcases es_s h hN hW x hs (d := d) (by omega) with ⟨t, t0, ht, e, o, y, l⟩ | ⟨e, o, l⟩
    · refine nm_r e (br_f (nI_ne0 t0 (by omega)) ⟨vp_in_nI (by omega) (by decide), nm_r (e' := nI (en_b T n (EN T n) u d).length) ?_ ?_⟩)
      · rw [bs_cl (by omega), hW t ht, l, show (1 : Int32) = nI 1 from rfl, nI_add]
      · have t6 := EN_625 hT hn (W t)
        refine pk_le (en_b T n (EN T n) u d).length (c - es T n u d) (fun a => ?_) (fun a => ?_)
        · refine nm_r (e' := nI (c - (es T n u d + (en_b T n (EN T n) u d).length))) ?_ (nm_r (nI_1 d) (r (by omega)))
          rw [pk_sub a]
          exact congrArg nI (by omega)
        · obtain ⟨z, e1, e2⟩ := EN_get (j := c - es T n u d) (by omega) o a (w := w) (by rw [show es T n u d + (c - es T n u d) = c by omega]; exact hw)
          exact nm_e (K t d (c - es T n u d) z ht (by omega) y o e1 e2)
    · rw [l, Nat.add_zero] at r
      exact nm_r e (br_t rfl (nm_r (nI_1 d) (r hc)))
/-- the answer of word -/
def sp_word (T : Nat → Nat) (n k : Nat) (r : Int32) : Prop :=
  ∃ w e, (EN T n [])[k]? = some w ∧ e ≤ n ∧ sa_at T w.reverse e ∧ (∀ e', e' < e → ¬ sa_at T w.reverse e') ∧ r = nI (25 * (e - w.length) + w.length)
theorem sp_word_u {k : Nat} {r r' : Int32} (h : sp_word T n k r) (g : sp_word T n k r') : r = r' := by
  obtain ⟨w, e, h1, h2, h3, h4, h5⟩ := h
  obtain ⟨w', e', g1, g2, g3, g4, g5⟩ := g
  have : w = w' := Option.some.inj (h1.symm.trans g1)
  subst this
  have : e = e' := by
    rcases Nat.lt_trichotomy e e' with l | l | l
    · exact absurd h3 (g4 e l)
    · exact l
    · exact absurd g3 (h4 e' l)
  subst this
  rw [h5, g5]
theorem xk_28 {post : Int32 → SX → Prop} {w : List Nat} (w0 : w ≠ []) (hn : n ≤ 24) (hT : ∀ i, i < n → T i < 4) (B : bt_B T n m W aN aS aL aT aF aW)
    (K : ∀ fR r e, e ≤ n → sa_at T w.reverse e → (∀ e', e' < e → ¬ sa_at T w.reverse e') → r = nI (25 * (e - w.length) + w.length) → post r (fT, fP, fB, fM, fL, fR, aX, aP, aN, aS, aL, aT, aF, aW, aB)) :
    ∀ k x y s j fR, y.length < k → w = x ++ y → s < m → sa_ex T n x.reverse (W s) → sa_oc T n x.reverse → ((j = 0 ∧ y = []) ∨ (0 < j ∧ (EN T n x.reverse)[j - 1]? = some y)) →
      wX_word_28 post k (nI j - 1) (nI s) (nI x.length) fT fP fB fM fL fR aX aP aN aS aL aT aF aW aB := by
  intro k
  have hm := B.2.2.2.2.2.2.2
  induction k with
  | zero => intro x y s j fR hy; omega
  | succ k ih =>
    intro x y s j fR hy e hs ex o hj
    rcases hj with ⟨rfl, rfl⟩ | ⟨j0, hj⟩
    · rw [List.append_nil] at e
      subst e
      have s0 := st_pos B.1 ex (by rcases Nat.eq_zero_or_pos w.reverse.length with z | z; { simp at z; exact absurd z w0 }; exact z)
      refine br_t (by decide) ⟨vp_in_nI (by omega) (by decide), ?_⟩
      obtain ⟨f, f1, f2, f3⟩ := B.2.2.2.2.1 s s0 hs
      obtain ⟨e0, he0, a0⟩ := o
      have fn : f + 1 ≤ n := by
        have a1 := ex.2 e0 he0 a0
        have : ¬ e0 ≤ f := fun c => f3 e0 c a1
        omega
      have fl : w.length ≤ f + 1 := by
        have := sa_at_len (sa_at_pre ex.1 f2)
        simp at this; exact this
      rw [bs_cl (by omega), f1]
      refine K fR _ (f + 1) fn (sa_at_pre ex.1 f2) (fun e' he' a => f3 e' (by omega) (ex.2 e' (by omega) a)) ?_
      have e1 : nI f - nI w.length + 1 = nI (f + 1 - w.length) := by
        rw [← pk_sub fl, ← nI_1 f]; grind
      rw [e1, ← nI_add, ← pk_mul]; rfl
    · have jl : j - 1 < (EN T n x.reverse).length := (List.getElem?_eq_some_iff.mp hj).1
      have := EN_625 hT hn x.reverse
      have ej : nI j - 1 = nI (j - 1) := by
        obtain ⟨i, rfl⟩ : ∃ i, j = i + 1 := ⟨j - 1, by omega⟩
        exact nI_pred i
      rw [ej]
      refine br_f (nI_pos (by omega)) ?_
      refine ⟨4 + 1, xk_5 hn hT B hs ex hj ?_ 4 0 rfl (Nat.zero_le _)⟩
      intro t d j' z ht hd ex' o' e1 e2
      refine nm_r (e' := nI (x ++ [d]).length) (by rw [nI_1]; simp) (ih (x ++ [d]) z t j' _ ?_ ?_ ht ?_ ?_ ?_)
      · rw [e1] at hy; simp at hy; omega
      · rw [e, e1]; simp
      · simpa using ex'
      · simpa using o'
      · simpa using e2
theorem fR_any {fR' : Int32} (R : XR T P n q (fT, fP, fB, fM, fL, fR, aX, aP, aN, aS, aL, aT, aF, aW, aB)) : XR T P n q (fT, fP, fB, fM, fL, fR', aX, aP, aN, aS, aL, aT, aF, aW, aB) := R
theorem x_word {post : Int32 → SX → Prop} {v1 : Int32} (R : XR T P n q (fT, fP, fB, fM, fL, fR, aX, aP, aN, aS, aL, aT, aF, aW, aB))
    (K0 : ∀ u', XR T P n q u' → v1 < 0 ∨ ¬ v1 < nI (EN T n []).length → post (-3) u')
    (K : ∀ u' k r, XR T P n q u' → v1 = nI k → k < (EN T n []).length → sp_word T n k r → post r u') :
    wpX_word post (fT, fP, fB, fM, fL, fR, aX, aP, aN, aS, aL, aT, aF, aW, aB) v1 := by
  unfold wpX_word
  have hn := R.2.2.1
  have hX := R.2.2.2.2.1
  have hT : ∀ i, i < n → T i < 4 := fun i hi => (hX i (by omega)).1
  refine xq_build R fun m W fB' fL' bN bS bL bT bF bW bB R' B => ?_
  have eW : bW 0 = nI (EN T n []).length := by rw [B.2.2.2.2.2.2.1 0 B.1.1, B.1.2.1]
  have c6 := EN_625 hT hn []
  refine br_c (fun z => K0 _ R' (Or.inl z)) (fun z => ?_)
  rw [eW]
  refine br_c (fun y => ?_) (fun y => K0 _ R' (Or.inr y))
  obtain ⟨k, hk, rfl⟩ := nI_of z
  rw [nI_ltI hk (by omega)] at y
  have hw : (EN T n [])[k]? = some (EN T n [])[k] := List.getElem?_eq_getElem y
  have wne : (EN T n [])[k] ≠ [] := ((EN_mem hT _ []).mp (List.getElem_mem y)).1
  refine ⟨(EN T n [])[k].length + 1, ?_⟩
  have := xk_28 (fT := nI n) (fP := nI q) (fB := fB') (fM := nI m) (fL := fL') (aX := aX) (aP := aP) (aB := bB) (post := post) wne hn hT B
    (fun fR r e h1 h2 h3 h4 => K _ k r (fR_any R') rfl y ⟨_, e, hw, h1, h2, h3, h4⟩) ((EN T n [])[k].length + 1) [] _ 0 (k + 1) fR (Nat.lt_succ_self _) rfl B.1.1 (sa_ex_nil B.1) sa_oc_nil (Or.inr ⟨by omega, hw⟩)
  rw [nI_pred] at this
  exact this
end
end
section
/-! the reference: same, countOf, firstOf, order -/
theorem rv_snoc (g : Nat → Nat) : ∀ l, sa_rv g (l + 1) = sa_rv (fun k => g (k + 1)) l ++ [g 0]
  | 0 => rfl
  | l + 1 => by
    show g (l + 1) :: sa_rv g (l + 1) = _
    rw [rv_snoc g l]; rfl
theorem fw_rev (f : Nat → Nat) : ∀ (l a : Nat), (fw f a l).reverse = sa_pt f a l
  | 0, _ => rfl
  | l + 1, a => by
    have e : (fun k => f (a + 1 + k)) = fun k => f (a + (k + 1)) := funext fun k => congrArg f (by omega)
    unfold sa_pt
    rw [rv_snoc]
    show (f a :: fw f (a + 1) l).reverse = _
    rw [List.reverse_cons, fw_rev f l (a + 1)]
    unfold sa_pt
    rw [e]; rfl
theorem pt_rev (f : Nat → Nat) (l a : Nat) : (sa_pt f a l).reverse = fw f a l := by rw [← fw_rev, List.reverse_reverse]
theorem pt_len (f : Nat → Nat) (a l : Nat) : (sa_pt f a l).length = l := sa_rv_len _ _
theorem pt_c {f g : Nat → Nat} {a b : Nat} : ∀ {l : Nat}, (∀ k, k < l → f (a + k) = g (b + k)) → sa_pt f a l = sa_pt g b l
  | 0, _ => rfl
  | l + 1, h => by
    show f (a + l) :: sa_pt f a l = g (b + l) :: sa_pt g b l
    rw [h l (by omega), pt_c (fun k hk => h k (by omega))]
theorem fw_c {f g : Nat → Nat} {a b l : Nat} (h : ∀ k, k < l → f (a + k) = g (b + k)) : fw f a l = fw g b l := by
  rw [← pt_rev, ← pt_rev, pt_c h]
/-- an occurrence, letter by letter -/
theorem pt_at {T G : Nat → Nat} {a q : Nat} : ∀ {l : Nat}, sa_at T (sa_pt G a l) (q + l) ↔ ∀ k, k < l → G (a + k) = T (q + k)
  | 0 => ⟨fun _ k hk => absurd hk (Nat.not_lt_zero _), fun _ => sa_at_nil⟩
  | l + 1 => by
    have := pt_at (T := T) (G := G) (a := a) (q := q) (l := l)
    show sa_at T (G (a + l) :: sa_pt G a l) (q + l + 1) ↔ _
    rw [sa_at_cons, this]
    constructor
    · intro ⟨h1, h2⟩ k hk
      rcases Nat.lt_or_ge k l with c | c
      · exact h2 k c
      · have : k = l := by omega
        subst this; exact h1
    · intro h
      exact ⟨h l (by omega), fun k hk => h k (by omega)⟩
theorem pt_inj {T : Nat → Nat} {a q l : Nat} : sa_at T (sa_pt T a l) (q + l) ↔ fw T a l = fw T q l := by
  constructor
  · intro h; exact fw_c (pt_at.mp h)
  · intro h
    rw [← fw_rev, h, fw_rev]
    exact sa_pt_at q l
theorem pt_take (P : Nat → Nat) (p : Nat) : ∀ l, (sa_rv P (p + l)).take l = sa_pt P p l
  | 0 => by simp [sa_pt, sa_rv]
  | l + 1 => by
    show P (p + l) :: (sa_rv P (p + l)).take l = P (p + l) :: sa_pt P p l
    rw [pt_take P p l]
theorem pt_rv (P : Nat → Nat) (q : Nat) : sa_pt P 0 q = sa_rv P q := by
  unfold sa_pt
  have : (fun k => P (0 + k)) = P := funext fun k => congrArg P (by omega)
  rw [this]
section
variable {T G : Nat → Nat} {n q : Nat} {gT gP gl gk : Int32} {bL bP bQ : Nat → Int32}
theorem ys_3 {post : Int32 → Prop} {a b l : Nat} (hL : ∀ i, i < 36 → bL i = nI (G i)) (hG : ∀ i, i < 36 → G i < 4) (ha : a + l ≤ 36) (hb : b + l ≤ 36)
    (K1 : (∀ k, k < l → G (a + k) = G (b + k)) → post 1) (K0 : ¬ (∀ k, k < l → G (a + k) = G (b + k)) → post 0) :
    ∀ k i, i + k = l → (∀ k, k < i → G (a + k) = G (b + k)) → wY_same_3 post (nI a) (nI b) (nI l) gT gP gl gk bL bP bQ (k + 1) (nI i) := by
  intro k
  induction k with
  | zero =>
    intro i hi h
    have : i = l := by omega
    subst this
    exact br_t (nI_le (Nat.le_refl _) (by omega)) (K1 h)
  | succ k ih =>
    intro i hi h
    refine br_f (nI_ge (by omega) (by omega)) ?_
    rw [nI_add, nI_add]
    refine ⟨vp_in_nI (by omega) (by decide), vp_in_nI (by omega) (by decide), ?_⟩
    rw [bs_cl (by omega), bs_cl (by omega), hL _ (by omega), hL _ (by omega)]
    have g1 := hG (a + i) (by omega)
    have g2 := hG (b + i) (by omega)
    refine pk_eq (G (a + i)) (G (b + i)) (fun e => nm_r (nI_1 i) (ih (i + 1) (by omega) (fun k hk => ?_))) (fun e => K0 fun z => e (z i (by omega)))
    rcases Nat.lt_or_ge k i with c | c
    · exact h k c
    · have : k = i := by omega
      subst this; exact e
/-- the text's cells are the first 24 -/
theorem ys_same {post : Int32 → Prop} {a b l : Nat} (hL : ∀ i, i < 36 → bL i = nI (G i)) (hG : ∀ i, i < 36 → G i < 4) (hT : ∀ i, i < 24 → G i = T i) (ha : a + l ≤ 36) (hb : b + l ≤ 24)
    (K1 : sa_at T (sa_pt G a l) (b + l) → post 1) (K0 : ¬ sa_at T (sa_pt G a l) (b + l) → post 0) : wpY_same post (gT, gP, gl, gk, bL, bP, bQ) (nI a) (nI b) (nI l) := by
  unfold wpY_same
  have e : sa_at T (sa_pt G a l) (b + l) ↔ ∀ k, k < l → G (a + k) = G (b + k) := by
    rw [pt_at]
    exact ⟨fun h k hk => by rw [hT (b + k) (by omega)]; exact h k hk, fun h k hk => by rw [← hT (b + k) (by omega)]; exact h k hk⟩
  exact ⟨l + 1, ys_3 hL hG ha (by omega) (fun h => K1 (e.mpr h)) (fun h => K0 fun z => h (e.mp z)) l 0 (by omega) (fun k hk => absurd hk (Nat.not_lt_zero _))⟩
theorem ct_lo {w : List Nat} {k : Nat} (h : k < w.length) : cn (fun e => sa_at T w (e + 1)) k = 0 :=
  cn_0 fun e he a => by have := sa_at_len a; omega
theorem yc_5 {post : Int32 → Prop} {a l : Nat} (hL : ∀ i, i < 36 → bL i = nI (G i)) (hG : ∀ i, i < 36 → G i < 4) (hT : ∀ i, i < 24 → G i = T i) (hn : n ≤ 24) (ha : a + l ≤ 36) (l0 : 0 < l)
    (K : post (nI (ct T n (sa_pt G a l)))) :
    ∀ k p, p + l + k = n + 1 → wY_countOf_5 post (nI a) (nI l) (nI n) gP gl gk bL bP bQ (k + 1) (nI (cn (fun e => sa_at T (sa_pt G a l) (e + 1)) (p + l - 1))) (nI p) := by
  intro k
  induction k with
  | zero =>
    intro p hp
    refine br_t (by rw [nI_add]; exact nI_lt (by omega) (by omega)) ?_
    rw [show p + l - 1 = n by omega]; exact K
  | succ k ih =>
    intro p hp
    have r := ih (p + 1) (by omega)
    have e : cn (fun e => sa_at T (sa_pt G a l) (e + 1)) (p + 1 + l - 1) = cn (fun e => sa_at T (sa_pt G a l) (e + 1)) (p + l - 1) + b01 (sa_at T (sa_pt G a l) (p + l)) := by
      rw [show p + 1 + l - 1 = (p + l - 1) + 1 by omega]
      simp only [cn]
      rw [show p + l - 1 + 1 = p + l by omega]
    refine br_f (by rw [nI_add]; exact nI_nlt (by omega) (by omega)) (ys_same hL hG hT ha (by omega) (fun z => ?_) (fun z => ?_))
    · rw [e, b01_t z] at r
      exact br_f (by decide) (nm_r (nI_1 _) (nm_r (nI_1 p) r))
    · rw [e, b01_f z] at r
      exact br_t rfl (nm_r (nI_1 p) r)
theorem y_countOf {post : Int32 → Prop} {a l : Nat} (hL : ∀ i, i < 36 → bL i = nI (G i)) (hG : ∀ i, i < 36 → G i < 4) (hT : ∀ i, i < 24 → G i = T i) (hn : n ≤ 24) (ha : a + l ≤ 36) (l0 : 0 < l)
    (K : post (nI (ct T n (sa_pt G a l)))) : wpY_countOf post (nI n, gP, gl, gk, bL, bP, bQ) (nI a) (nI l) := by
  unfold wpY_countOf
  rcases Nat.lt_or_ge n l with c | c
  · refine ⟨1, br_t (by rw [show (0 : Int32) = nI 0 from rfl, nI_add]; exact nI_lt (by omega) (by omega)) ?_⟩
    have : ct T n (sa_pt G a l) = 0 := ct_lo (by rw [pt_len]; exact c)
    rw [this] at K; exact K
  · have := yc_5 (post := post) (gP := gP) (gl := gl) (gk := gk) (bP := bP) (bQ := bQ) hL hG hT hn ha l0 K (n + 1 - l) 0 (by omega)
    rw [ct_lo (by rw [pt_len]; omega)] at this
    exact ⟨_, this⟩
theorem yf_2 {post : Int32 → Prop} {a l : Nat} (hL : ∀ i, i < 36 → bL i = nI (G i)) (hG : ∀ i, i < 36 → G i < 4) (hT : ∀ i, i < 24 → G i = T i) (hn : n ≤ 24) (ha : a + l ≤ 36)
    (K1 : ∀ p, p + l ≤ n → sa_at T (sa_pt G a l) (p + l) → (∀ p', p' < p → ¬ sa_at T (sa_pt G a l) (p' + l)) → post (nI p)) (K0 : (∀ p, p + l ≤ n → ¬ sa_at T (sa_pt G a l) (p + l)) → post (-3)) :
    ∀ k p, n + 1 ≤ p + l + k → p ≤ n + 1 → (∀ p', p' < p → ¬ sa_at T (sa_pt G a l) (p' + l)) → wY_firstOf_2 post (nI a) (nI l) (nI n) gP gl gk bL bP bQ (k + 1) (nI p) := by
  intro k
  induction k with
  | zero =>
    intro p hp _ h
    exact br_t (by rw [nI_add]; exact nI_lt (by omega) (by omega)) (K0 fun p' h' => h p' (by omega))
  | succ k ih =>
    intro p hp hp2 h
    rcases Nat.lt_or_ge n (p + l) with c | c
    · exact br_t (by rw [nI_add]; exact nI_lt (by omega) (by omega)) (K0 fun p' h' => h p' (by omega))
    · refine br_f (by rw [nI_add]; exact nI_nlt (by omega) (by omega)) (ys_same hL hG hT ha (by omega) (fun z => ?_) (fun z => ?_))
      · exact br_f (by decide) (K1 p c z h)
      · refine br_t rfl (nm_r (nI_1 p) (ih (p + 1) (by omega) (by omega) (fun p' h' => ?_)))
        rcases Nat.lt_or_ge p' p with d | d
        · exact h p' d
        · have : p' = p := by omega
          subst this; exact z
theorem y_firstOf {post : Int32 → Prop} {a l : Nat} (hL : ∀ i, i < 36 → bL i = nI (G i)) (hG : ∀ i, i < 36 → G i < 4) (hT : ∀ i, i < 24 → G i = T i) (hn : n ≤ 24) (ha : a + l ≤ 36)
    (K1 : ∀ p, p + l ≤ n → sa_at T (sa_pt G a l) (p + l) → (∀ p', p' < p → ¬ sa_at T (sa_pt G a l) (p' + l)) → post (nI p)) (K0 : (∀ p, p + l ≤ n → ¬ sa_at T (sa_pt G a l) (p + l)) → post (-3)) :
    wpY_firstOf post (nI n, gP, gl, gk, bL, bP, bQ) (nI a) (nI l) := by
  unfold wpY_firstOf
  exact ⟨n + 1 + 1, yf_2 hL hG hT hn ha K1 K0 (n + 1) 0 (by omega) (by omega) (fun p' h' => absurd h' (Nat.not_lt_zero _))⟩
theorem yo_3 {post : Int32 → Prop} {a l b k : Nat} (hL : ∀ i, i < 36 → bL i = nI (G i)) (hG : ∀ i, i < 36 → G i < 4) (ha : a + l ≤ 36) (hb : b + k ≤ 36) :
    ∀ r i, l - i ≤ r → i ≤ l → i ≤ k → (lx (fw G (a + i) (l - i)) (fw G (b + i) (k - i)) → post (-1)) → (fw G (a + i) (l - i) = fw G (b + i) (k - i) → post 0) → (lx (fw G (b + i) (k - i)) (fw G (a + i) (l - i)) → post 1) →
      wY_order_3 post (nI a) (nI l) (nI b) (nI k) gT gP gl gk bL bP bQ (r + 1) (nI i) := by
  intro r
  have fin : ∀ i, i ≤ l → i ≤ k → (l = i ∨ k = i) → (lx (fw G (a + i) (l - i)) (fw G (b + i) (k - i)) → post (-1)) → (fw G (a + i) (l - i) = fw G (b + i) (k - i) → post 0) → (lx (fw G (b + i) (k - i)) (fw G (a + i) (l - i)) → post 1) →
      wY_order_70 post (nI l) (nI k) gT gP gl gk bL bP bQ := by
    intro i h1 h2 h3 Km K0 K1
    unfold wY_order_70
    refine pk_eq l k (fun e => K0 ?_) (fun e => pk_le k l (fun c => K1 ?_) (fun c => Km ?_))
    · rw [show l - i = 0 by omega, show k - i = 0 by omega]; rfl
    · have : k = i := by omega
      subst this
      rw [Nat.sub_self, show l - k = (l - k - 1) + 1 by omega]
      exact trivial
    · have : l = i := by omega
      subst this
      rw [Nat.sub_self, show k - l = (k - l - 1) + 1 by omega]
      exact trivial
  induction r with
  | zero =>
    intro i hi h1 h2 Km K0 K1
    exact br_t (nI_le (by omega) (by omega)) (fin i h1 h2 (Or.inl (by omega)) Km K0 K1)
  | succ r ih =>
    intro i hi h1 h2 Km K0 K1
    refine pk_le l i (fun c => fin i h1 h2 (Or.inl (by omega)) Km K0 K1) (fun c => pk_le k i (fun d => fin i h1 h2 (Or.inr (by omega)) Km K0 K1) (fun d => ?_))
    have e1 : fw G (a + i) (l - i) = G (a + i) :: fw G (a + (i + 1)) (l - (i + 1)) := by rw [show l - i = l - (i + 1) + 1 by omega]; rfl
    have e2 : fw G (b + i) (k - i) = G (b + i) :: fw G (b + (i + 1)) (k - (i + 1)) := by rw [show k - i = k - (i + 1) + 1 by omega]; rfl
    rw [e1, e2] at Km K0 K1
    have i1 : vp_in (nI a + nI i) 36 := by rw [nI_add]; exact vp_in_nI (by omega) (by decide)
    have i2 : vp_in (nI b + nI i) 36 := by rw [nI_add]; exact vp_in_nI (by omega) (by decide)
    refine ⟨i1, i2, ?_⟩
    rw [nI_add, nI_add, bs_cl (by omega), bs_cl (by omega), hL _ (by omega), hL _ (by omega)]
    have g1 := hG (a + i) (by omega)
    have g2 := hG (b + i) (by omega)
    refine pk_eq (G (a + i)) (G (b + i)) (fun e => nm_r (nI_1 i) (ih (i + 1) (by omega) (by omega) (by omega) (fun z => Km ?_) (fun z => K0 ?_) (fun z => K1 ?_))) (fun e => ?_)
    · rw [e]; exact lx_cc.mpr z
    · rw [e, z]
    · rw [e]; exact lx_cc.mpr z
    · rw [nI_add] at i1
      rw [nI_add] at i2
      refine ⟨i1, i2, pk_le (G (b + i)) (G (a + i)) (fun z => K1 (Or.inl (by omega))) (fun z => Km (Or.inl z))⟩
theorem y_order {post : Int32 → Prop} {a l b k : Nat} (hL : ∀ i, i < 36 → bL i = nI (G i)) (hG : ∀ i, i < 36 → G i < 4) (ha : a + l ≤ 36) (hb : b + k ≤ 36)
    (Km : lx (fw G a l) (fw G b k) → post (-1)) (K0 : fw G a l = fw G b k → post 0) (K1 : lx (fw G b k) (fw G a l) → post 1) :
    wpY_order post (gT, gP, gl, gk, bL, bP, bQ) (nI a) (nI l) (nI b) (nI k) := by
  unfold wpY_order
  exact ⟨l + 1, yo_3 hL hG ha hb l 0 (by omega) (by omega) (by omega) Km K0 K1⟩
end
end
section
/-! the reference's list of words; its side of the relation; count, place, words, unique, common -/
def un (f : Nat → Nat) (k v : Nat) : Nat → Nat := fun j => if j = k then v else f j
theorem un_s {f : Nat → Nat} {k v : Nat} : un f k v k = v := if_pos rfl
theorem un_n {f : Nat → Nat} {k v j : Nat} (h : j ≠ k) : un f k v j = f j := if_neg h
/-- the parts D are listed: number c, places A, lengths Ln -/
def kp (T : Nat → Nat) (n : Nat) (D : Nat → Nat → Prop) (c : Nat) (A Ln : Nat → Nat) (bP bQ : Nat → Int32) : Prop :=
  (∀ j, j < c → bP j = nI (A j) ∧ bQ j = nI (Ln j) ∧ 0 < Ln j ∧ A j + Ln j ≤ n ∧ D (A j) (Ln j) ∧ ∀ a, a < A j → fw T a (Ln j) ≠ fw T (A j) (Ln j))
  ∧ (∀ j k, j < c → k < c → fw T (A j) (Ln j) = fw T (A k) (Ln k) → j = k)
  ∧ (∀ a l, 0 < l → a + l ≤ n → D a l → ∃ j, j < c ∧ fw T (A j) (Ln j) = fw T a l)
def kn (T : Nat → Nat) (n : Nat) (gl : Int32) (bP bQ : Nat → Int32) : Prop := ∃ A Ln c, gl = nI c ∧ c ≤ 300 ∧ kp T n (fun _ _ => True) c A Ln bP bQ
def YR (T P : Nat → Nat) (n q : Nat) (v : SY) : Prop := match v with
  | (gT, gP, gl, gk, bL, bP, bQ) => gT = nI n ∧ gP = nI q ∧ n ≤ 24 ∧ q ≤ 12 ∧ (∀ i, i < 24 → T i < 4 ∧ bL i = nI (T i)) ∧ (∀ i, i < 12 → P i < 4 ∧ bL (24 + i) = nI (P i)) ∧ (gk ≠ 0 → kn T n gl bP bQ)
/-- the reference's cells -/
def yg (T P : Nat → Nat) : Nat → Nat := fun i => if i < 24 then T i else P (i - 24)
def tr (n : Nat) : Nat → Nat
  | 0 => 0
  | p + 1 => tr n p + (n - p)
theorem tr_mono {n : Nat} : ∀ {k p : Nat}, p ≤ k → tr n p ≤ tr n k
  | 0, p, h => by have : p = 0 := by omega
                  subst this; exact Nat.le_refl _
  | k + 1, p, h => by
    rcases Nat.lt_or_ge k p with l | l
    · have : p = k + 1 := by omega
      subst this; exact Nat.le_refl _
    · have := tr_mono (n := n) (k := k) (p := p) l
      simp only [tr]; omega
theorem tr_300 : ∀ n, n < 25 → tr n n ≤ 300 := by decide
def kD (p l : Nat) (a b : Nat) : Prop := a < p ∨ (a = p ∧ b < l)
section
variable {T P : Nat → Nat} {n q : Nat} {gT gP gl gk : Int32} {bL bP bQ : Nat → Int32} {A Ln : Nat → Nat} {c : Nat}
theorem yg_T : ∀ i, i < 24 → yg T P i = T i := fun _ h => if_pos h
theorem yg_P (i : Nat) : yg T P (24 + i) = P i := by
  unfold yg
  rw [if_neg (by omega), Nat.add_sub_cancel_left]
theorem yg_L (hT : ∀ i, i < 24 → T i < 4 ∧ bL i = nI (T i)) (hP : ∀ i, i < 12 → P i < 4 ∧ bL (24 + i) = nI (P i)) : ∀ i, i < 36 → bL i = nI (yg T P i) := by
  intro i hi
  rcases Nat.lt_or_ge i 24 with l | l
  · rw [yg_T i l]; exact (hT i l).2
  · obtain ⟨j, rfl⟩ : ∃ j, i = 24 + j := ⟨i - 24, by omega⟩
    rw [yg_P]; exact (hP j (by omega)).2
theorem yg_G (hT : ∀ i, i < 24 → T i < 4 ∧ bL i = nI (T i)) (hP : ∀ i, i < 12 → P i < 4 ∧ bL (24 + i) = nI (P i)) : ∀ i, i < 36 → yg T P i < 4 := by
  intro i hi
  rcases Nat.lt_or_ge i 24 with l | l
  · rw [yg_T i l]; exact (hT i l).1
  · obtain ⟨j, rfl⟩ : ∃ j, i = 24 + j := ⟨i - 24, by omega⟩
    rw [yg_P]; exact (hP j (by omega)).1
theorem yg_pt {a l : Nat} (h : a + l ≤ 24) : sa_pt (yg T P) a l = sa_pt T a l := pt_c fun k hk => yg_T _ (by omega)
theorem yg_fw {a l : Nat} (h : a + l ≤ 24) : fw (yg T P) a l = fw T a l := fw_c fun k hk => yg_T _ (by omega)
theorem yg_ptP {a l : Nat} : sa_pt (yg T P) (24 + a) l = sa_pt P a l := pt_c fun k hk => by rw [Nat.add_assoc]; exact yg_P _
theorem yg_fwP {a l : Nat} : fw (yg T P) (24 + a) l = fw P a l := fw_c fun k hk => by rw [Nat.add_assoc]; exact yg_P _
/-- the part is new: it goes to the list -/
theorem kp_new {p l : Nat} (h : kp T n (kD p l) c A Ln bP bQ) (l0 : 0 < l) (hp : p + l ≤ n) (hf : ∀ a, a < p → fw T a l ≠ fw T p l) :
    kp T n (kD p (l + 1)) (c + 1) (un A c p) (un Ln c l) (upd bP c (nI p)) (upd bQ c (nI l)) := by
  obtain ⟨h1, h2, h3⟩ := h
  have fl : ∀ a l a' l', fw T a l = fw T a' l' → l = l' := fun a l a' l' e => by
    have := congrArg List.length e
    rw [fw_len, fw_len] at this; exact this
  have nw : ∀ j, j < c → fw T (A j) (Ln j) ≠ fw T p l := fun j hj e => by
    have d := (h1 j hj).2.2.2.2.1
    have := fl _ _ _ _ e
    rw [this] at e d
    rcases d with d | d
    · exact hf _ d e
    · omega
  refine ⟨fun j hj => ?_, fun j k hj hk e => ?_, fun a b hb ha d => ?_⟩
  · rcases Nat.lt_or_ge j c with k | k
    · rw [un_n (by omega), un_n (by omega), pk_un (by omega), pk_un (by omega)]
      obtain ⟨a1, a2, a3, a4, a5, a6⟩ := h1 j k
      refine ⟨a1, a2, a3, a4, ?_, a6⟩
      rcases a5 with a5 | a5
      · exact Or.inl a5
      · exact Or.inr ⟨a5.1, by omega⟩
    · have : j = c := by omega
      subst this
      rw [un_s, un_s, pk_us, pk_us]
      exact ⟨rfl, rfl, l0, hp, Or.inr ⟨rfl, by omega⟩, hf⟩
  · rcases Nat.lt_or_ge j c with a | a <;> rcases Nat.lt_or_ge k c with b | b
    · rw [un_n (by omega), un_n (by omega), un_n (by omega), un_n (by omega)] at e
      exact h2 j k a b e
    · have : k = c := by omega
      subst this
      rw [un_n (by omega), un_n (by omega), un_s, un_s] at e
      exact absurd e (nw j a)
    · have : j = c := by omega
      subst this
      rw [un_s, un_s, un_n (by omega), un_n (by omega)] at e
      exact absurd e.symm (nw k b)
    · omega
  · rcases Classical.em (kD p l a b) with z | z
    · obtain ⟨j, hj, e⟩ := h3 a b hb ha z
      exact ⟨j, by omega, by rw [un_n (by omega), un_n (by omega)]; exact e⟩
    · have : a = p ∧ b = l := by
        rcases d with d | d
        · exact absurd (Or.inl d) z
        · refine ⟨d.1, ?_⟩
          have : ¬ b < l := fun y => z (Or.inr ⟨d.1, y⟩)
          omega
      exact ⟨c, by omega, by rw [un_s, un_s, this.1, this.2]⟩
theorem kp_old {p l a0 : Nat} (h : kp T n (kD p l) c A Ln bP bQ) (l0 : 0 < l) (hp : p + l ≤ n) (ha : a0 < p) (e : fw T a0 l = fw T p l) : kp T n (kD p (l + 1)) c A Ln bP bQ := by
  obtain ⟨h1, h2, h3⟩ := h
  refine ⟨fun j hj => ?_, h2, fun a b hb ha' d => ?_⟩
  · obtain ⟨a1, a2, a3, a4, a5, a6⟩ := h1 j hj
    refine ⟨a1, a2, a3, a4, ?_, a6⟩
    rcases a5 with a5 | a5
    · exact Or.inl a5
    · exact Or.inr ⟨a5.1, by omega⟩
  · rcases Classical.em (kD p l a b) with z | z
    · exact h3 a b hb ha' z
    · have : a = p ∧ b = l := by
        rcases d with d | d
        · exact absurd (Or.inl d) z
        · refine ⟨d.1, ?_⟩
          have : ¬ b < l := fun y => z (Or.inr ⟨d.1, y⟩)
          omega
      obtain ⟨j, hj, e'⟩ := h3 a0 l l0 (by omega) (Or.inl ha)
      exact ⟨j, hj, by rw [this.1, this.2, e', e]⟩
theorem kp_D {D D' : Nat → Nat → Prop} (h : kp T n D c A Ln bP bQ) (e : ∀ a l, 0 < l → a + l ≤ n → (D a l ↔ D' a l)) : kp T n D' c A Ln bP bQ := by
  obtain ⟨h1, h2, h3⟩ := h
  refine ⟨fun j hj => ?_, h2, fun a b hb ha' d => h3 a b hb ha' ((e a b hb ha').mpr d)⟩
  obtain ⟨a1, a2, a3, a4, a5, a6⟩ := h1 j hj
  exact ⟨a1, a2, a3, a4, (e _ _ a3 a4).mp a5, a6⟩
theorem yl_30 {post : SY → Prop} {J : Int32 → Int32 → (Nat → Int32) → (Nat → Int32) → (Nat → Int32) → Prop} {p : Nat} (hn : n ≤ 24) (hL : ∀ i, i < 36 → bL i = nI (yg T P i)) (hG : ∀ i, i < 36 → yg T P i < 4) (hp : p < n)
    (K : ∀ A Ln c bP bQ, kp T n (kD (p + 1) 1) c A Ln bP bQ → c ≤ tr n (p + 1) → J (nI (p + 1)) (nI c) bL bP bQ) :
    ∀ k l c A Ln bP bQ, p + l + k = n + 1 → 0 < l → kp T n (kD p l) c A Ln bP bQ → c ≤ tr n p + (l - 1) →
      wY_list_30 post J (nI p) (nI n) gP gk (k + 1) (nI l) (nI c) bL bP bQ := by
  intro k
  have t1 : tr n (p + 1) = tr n p + (n - p) := rfl
  have t2 := tr_mono (n := n) (p := p + 1) (k := n) (by omega)
  have t3 := tr_300 n (by omega)
  induction k with
  | zero =>
    intro l c A Ln bP bQ hl l0 h hc
    refine br_t (by rw [nI_add]; exact nI_lt (by omega) (by omega)) (nm_r (nI_1 p) (K A Ln c bP bQ (kp_D h (fun a b hb ha => ?_)) (by omega)))
    constructor
    · intro d
      rcases d with d | d
      · exact Or.inl (by omega)
      · exact Or.inl (by omega)
    · intro d
      rcases d with d | d
      · rcases Nat.lt_or_ge a p with y | y
        · exact Or.inl y
        · exact Or.inr ⟨by omega, by omega⟩
      · omega
  | succ k ih =>
    intro l c A Ln bP bQ hl l0 h hc
    refine br_f (by rw [nI_add]; exact nI_nlt (by omega) (by omega)) (y_firstOf (T := T) hL hG yg_T hn (by omega) (fun p' h1 h2 h3 => ?_) (fun z => ?_))
    · rw [yg_pt (by omega), pt_inj] at h2
      refine pk_eq p' p (fun e => ?_) (fun e => ?_)
      · subst e
        refine ⟨vp_in_nI (by omega) (by decide), nm_r (e' := upd bP c (nI p')) (by rw [bs_cl (by omega)]) ⟨vp_in_nI (by omega) (by decide), nm_r (e' := upd bQ c (nI l)) (by rw [bs_cl (by omega)]) (nm_r (nI_1 c) (nm_r (nI_1 l) ?_))⟩⟩
        refine ih (l + 1) (c + 1) _ _ _ _ (by omega) (by omega) (kp_new h l0 (by omega) (fun a ha e => ?_)) (by omega)
        have := h3 a ha
        rw [yg_pt (by omega), pt_inj] at this
        exact this e.symm
      · have lt : p' < p := by
          rcases Nat.lt_trichotomy p' p with y | y | y
          · exact y
          · exact absurd y e
          · have := h3 p y
            rw [yg_pt (by omega)] at this
            exact absurd (sa_pt_at p l) this
        exact nm_r (nI_1 l) (ih (l + 1) c A Ln bP bQ (by omega) (by omega) (kp_old h l0 (by omega) lt h2.symm) (by omega))
    · have := z p (by omega)
      rw [yg_pt (by omega)] at this
      exact absurd (sa_pt_at p l) this
theorem yl_20 {post : SY → Prop} (hn : n ≤ 24) (hL : ∀ i, i < 36 → bL i = nI (yg T P i)) (hG : ∀ i, i < 36 → yg T P i < 4)
    (K : ∀ A Ln c bP bQ, kp T n (fun _ _ => True) c A Ln bP bQ → c ≤ 300 → post (nI n, gP, nI c, gk, bL, bP, bQ)) :
    ∀ k p c A Ln bP bQ, p + k = n → kp T n (kD p 1) c A Ln bP bQ → c ≤ tr n p → wY_list_20 post (nI n) gP gk (k + 1) (nI p) (nI c) bL bP bQ := by
  intro k
  induction k with
  | zero =>
    intro p c A Ln bP bQ hp h hc
    have : p = n := by omega
    subst this
    have := tr_300 p (by omega)
    refine br_t (nI_le (Nat.le_refl _) (by omega)) (K A Ln c bP bQ (kp_D h (fun a l h1 h2 => ⟨fun _ => trivial, fun _ => Or.inl (by omega)⟩)) (by omega))
  | succ k ih =>
    intro p c A Ln bP bQ hp h hc
    refine br_f (nI_ge (by omega) (by omega)) ⟨n - p + 1, yl_30 hn hL hG (by omega) (fun A Ln c bP bQ h hc => ih (p + 1) c A Ln bP bQ (by omega) h hc) (n - p) 1 c A Ln bP bQ (by omega) (by omega) h (by omega)⟩
theorem y_list {post : SY → Prop} (R : YR T P n q (gT, gP, gl, gk, bL, bP, bQ))
    (K : ∀ A Ln c gk' bP bQ, YR T P n q (nI n, nI q, nI c, gk', bL, bP, bQ) → kp T n (fun _ _ => True) c A Ln bP bQ → c ≤ 300 → post (nI n, nI q, nI c, gk', bL, bP, bQ)) :
    wpY_list post (gT, gP, gl, gk, bL, bP, bQ) := by
  obtain ⟨rfl, rfl, hn, hq, hT, hP, hk⟩ := R
  unfold wpY_list
  refine br_c (fun z => ?_) (fun z => ?_)
  · refine ⟨n + 1, yl_20 hn (yg_L hT hP) (yg_G hT hP) (fun A Ln c bP bQ h hc => K A Ln c 1 bP bQ ⟨rfl, rfl, hn, hq, hT, hP, fun _ => ⟨A, Ln, c, rfl, hc, h⟩⟩ h hc) n 0 0 (fun _ => 0) (fun _ => 0) bP bQ (by omega) ?_ (by omega)⟩
    exact ⟨fun j hj => absurd hj (Nat.not_lt_zero _), fun j k hj => absurd hj (Nat.not_lt_zero _), fun a l l0 _ d => by rcases d with d | d <;> omega⟩
  · obtain ⟨A, Ln, c, rfl, hc, h⟩ := hk z
    exact K A Ln c gk bP bQ ⟨rfl, rfl, hn, hq, hT, hP, hk⟩ h hc
/-! the list against EN -/
def yl (f : Nat → List Nat) : Nat → List (List Nat)
  | 0 => []
  | k + 1 => f k :: yl f k
theorem yl_mem {f : Nat → List Nat} {x : List Nat} : ∀ {k : Nat}, x ∈ yl f k ↔ ∃ j, j < k ∧ f j = x
  | 0 => ⟨fun h => absurd h List.not_mem_nil, fun ⟨s, h1, _⟩ => absurd h1 (Nat.not_lt_zero _)⟩
  | k + 1 => by
    simp only [yl, List.mem_cons, yl_mem (k := k)]
    constructor
    · intro h
      rcases h with h | ⟨s, h1, h2⟩
      · exact ⟨k, by omega, h.symm⟩
      · exact ⟨s, by omega, h2⟩
    · intro ⟨s, h1, h2⟩
      rcases Nat.lt_or_ge s k with l | l
      · exact Or.inr ⟨s, l, h2⟩
      · have : s = k := by omega
        subst this; exact Or.inl h2.symm
theorem yl_nodup {f : Nat → List Nat} : ∀ {k : Nat}, (∀ i j, i < k → j < k → f i = f j → i = j) → (yl f k).Nodup
  | 0, _ => List.nodup_nil
  | k + 1, h => by
    refine List.nodup_cons.mpr ⟨fun z => ?_, yl_nodup fun i j hi hj => h i j (by omega) (by omega)⟩
    obtain ⟨j, hj, e⟩ := yl_mem.mp z
    have := h j k (by omega) (by omega) e
    omega
theorem yl_cl {f : Nat → List Nat} {Q : List Nat → Prop} : ∀ {k : Nat}, cl Q (yl f k) = cn (fun j => Q (f j)) k
  | 0 => rfl
  | k + 1 => by simp only [yl, cl, cn, yl_cl (k := k)]; omega
theorem yl_len {f : Nat → List Nat} : ∀ {k : Nat}, (yl f k).length = k
  | 0 => rfl
  | k + 1 => by simp [yl, yl_len (k := k)]
theorem EN_fw (hT : ∀ i, i < n → T i < 4) {w : List Nat} : w ∈ EN T n [] ↔ ∃ a l, 0 < l ∧ a + l ≤ n ∧ fw T a l = w := by
  rw [EN_mem hT, List.append_nil]
  constructor
  · intro ⟨h1, e, he, h2⟩
    have l := sa_at_len h2
    simp at l
    refine ⟨e - w.length, w.length, ?_, by omega, ?_⟩
    · rcases Nat.eq_zero_or_pos w.length with z | z
      · exact absurd (List.eq_nil_of_length_eq_zero z) h1
      · exact z
    · have := List.prefix_iff_eq_take.mp h2
      rw [List.length_reverse] at this
      have e2 := pt_take T (e - w.length) w.length
      rw [show e - w.length + w.length = e by omega, ← this] at e2
      rw [← pt_rev, ← e2, List.reverse_reverse]
  · intro ⟨a, l, l0, h1, e⟩
    subst e
    refine ⟨fun z => by rw [fw_nil] at z; omega, ?_⟩
    rw [fw_rev]
    exact ⟨a + l, h1, sa_pt_at a l⟩
theorem kp_mem (hT : ∀ i, i < n → T i < 4) (h : kp T n (fun _ _ => True) c A Ln bP bQ) {w : List Nat} : w ∈ yl (fun j => fw T (A j) (Ln j)) c ↔ w ∈ EN T n [] := by
  rw [yl_mem, EN_fw hT]
  constructor
  · intro ⟨j, hj, e⟩
    obtain ⟨a1, a2, a3, a4, a5, a6⟩ := h.1 j hj
    exact ⟨A j, Ln j, a3, a4, e⟩
  · intro ⟨a, l, l0, h1, e⟩
    obtain ⟨j, hj, e'⟩ := h.2.2 a l l0 h1 trivial
    exact ⟨j, hj, e'.trans e⟩
theorem kp_len (hT : ∀ i, i < n → T i < 4) (h : kp T n (fun _ _ => True) c A Ln bP bQ) : c = (EN T n []).length := by
  have := cl_len (yl_nodup h.2.1) (EN_nodup []) (fun x => kp_mem hT h)
  rw [yl_len] at this; exact this
theorem kp_cl (hT : ∀ i, i < n → T i < 4) (h : kp T n (fun _ _ => True) c A Ln bP bQ) (Q : List Nat → Prop) : cn (fun j => Q (fw T (A j) (Ln j))) c = cl Q (EN T n []) := by
  rw [← cl_ext (yl_nodup h.2.1) (EN_nodup []) (fun x _ => kp_mem hT h), yl_cl]
end
end
section
/-! the reference: count, place, words, longest, unique, common, rank -/
section
variable {T P : Nat → Nat} {n q : Nat} {gT gP gl gk : Int32} {bL bP bQ : Nat → Int32} {A Ln : Nat → Nat} {c : Nat}
theorem y_count {post : Int32 → Prop} (R : YR T P n q (gT, gP, gl, gk, bL, bP, bQ)) (K0 : q = 0 → post (-3)) (K : 0 < q → post (nI (ct T n (sa_rv P q)))) :
    wpY_count post (gT, gP, gl, gk, bL, bP, bQ) := by
  obtain ⟨rfl, rfl, hn, hq, hT, hP, hk⟩ := R
  unfold wpY_count
  refine pk_eq q 0 (fun z => K0 z) (fun z => ?_)
  refine y_countOf (a := 24) (G := yg T P) (yg_L hT hP) (yg_G hT hP) yg_T hn (by omega) (by omega) ?_
  have := yg_ptP (T := T) (P := P) (a := 0) (l := q)
  rw [show 24 = 24 + 0 from rfl, this, pt_rv]
  exact K (by omega)
theorem y_place {post : Int32 → Prop} (R : YR T P n q (gT, gP, gl, gk, bL, bP, bQ)) (K0 : q = 0 → post (-3)) (K : ∀ r, 0 < q → sp_place T P n q r → post r) :
    wpY_place post (gT, gP, gl, gk, bL, bP, bQ) := by
  obtain ⟨rfl, rfl, hn, hq, hT, hP, hk⟩ := R
  unfold wpY_place
  refine pk_eq q 0 (fun z => K0 z) (fun z => ?_)
  have e : sa_pt (yg T P) 24 q = sa_rv P q := by
    have := yg_ptP (T := T) (P := P) (a := 0) (l := q)
    rw [show 24 = 24 + 0 from rfl, this, pt_rv]
  refine y_firstOf (a := 24) (G := yg T P) (yg_L hT hP) (yg_G hT hP) yg_T hn (by omega) (fun p h1 h2 h3 => ?_) (fun h => ?_)
  · rw [e] at h2
    refine K _ (by omega) (Or.inr ⟨p + q, h1, h2, fun e' he' a => ?_, by rw [Nat.add_sub_cancel]⟩)
    have := sa_at_len a
    rw [sa_rv_len] at this
    have := h3 (e' - q) (by omega)
    rw [e, show e' - q + q = e' by omega] at this
    exact this a
  · refine K _ (by omega) (Or.inl ⟨fun ⟨e', he, a⟩ => ?_, rfl⟩)
    have := sa_at_len a
    rw [sa_rv_len] at this
    have := h (e' - q) (by omega)
    rw [e, show e' - q + q = e' by omega] at this
    exact this a
theorem y_words {post : Int32 → SY → Prop} (R : YR T P n q (gT, gP, gl, gk, bL, bP, bQ)) (K : ∀ v', YR T P n q v' → post (nI (EN T n []).length) v') :
    wpY_words post (gT, gP, gl, gk, bL, bP, bQ) := by
  unfold wpY_words
  have hT := R.2.2.2.2.1
  have hn := R.2.2.1
  refine y_list R fun A Ln c gk' bP bQ R' h hc => ?_
  have := K _ R'
  rw [← kp_len (fun i hi => (hT i (by omega)).1) h] at this
  exact this
theorem yn_22 {post : Int32 → SY → Prop} {t : Nat} (ht : t ≤ 24) (hn : n ≤ 24) (hT : ∀ i, i < 24 → T i < 4 ∧ bL i = nI (T i)) (hP : ∀ i, i < 12 → P i < 4 ∧ bL (24 + i) = nI (P i))
    (h : kp T n (fun _ _ => True) c A Ln bP bQ) (hc : c ≤ 300)
    (K : ∀ L, sp_long T n t L → post (nI L) (nI n, gP, nI c, gk, bL, bP, bQ)) :
    ∀ k j L, j + k = c → L ≤ 24 → (L = 0 ∨ ∃ w, w.length = L ∧ sa_oc T n w ∧ t ≤ ct T n w) → (∀ i, i < j → t ≤ ct T n (sa_pt T (A i) (Ln i)) → Ln i ≤ L) →
      wY_longest_22 post (nI t) (nI n) gP (nI c) gk bL bP bQ (k + 1) (nI L) (nI j) := by
  intro k
  have hT' : ∀ i, i < n → T i < 4 := fun i hi => (hT i (by omega)).1
  induction k with
  | zero =>
    intro j L hj hl i1 i2
    have : j = c := by omega
    subst this
    refine br_t (nI_le (Nat.le_refl _) (by omega)) (K L ⟨i1, fun w w0 o z => ?_⟩)
    have m : w.reverse ∈ EN T n [] := by
      rw [EN_mem hT', List.append_nil, List.reverse_reverse]
      refine ⟨fun y => ?_, o⟩
      rw [List.reverse_eq_nil_iff] at y
      rw [y] at w0; simp at w0
    obtain ⟨i, hi, e⟩ := yl_mem.mp ((kp_mem hT' h).mpr m)
    have e' : sa_pt T (A i) (Ln i) = w := by
      rw [← fw_rev]
      show (fw T (A i) (Ln i)).reverse = w
      have e2 : fw T (A i) (Ln i) = w.reverse := e
      rw [e2, List.reverse_reverse]
    have := i2 i hi (by rw [e']; exact z)
    rw [← e', pt_len]; exact this
  | succ k ih =>
    intro j L hj hl i1 i2
    have cj := bs_cl (s := j) (by omega)
    obtain ⟨a1, a2, a3, a4, a5, a6⟩ := h.1 j (by omega)
    have ij : vp_in (nI j) 300 := vp_in_nI (by omega) (by decide)
    refine br_f (nI_ge (by omega) (by omega)) ⟨ij, ?_⟩
    rw [cj, a1, a2]
    have keep : (t ≤ ct T n (sa_pt T (A j) (Ln j)) → Ln j ≤ L) → ∀ i, i < j + 1 → t ≤ ct T n (sa_pt T (A i) (Ln i)) → Ln i ≤ L := fun a i h1 h2 => by
      rcases Nat.lt_or_ge i j with l | l
      · exact i2 i l h2
      · have : i = j := by omega
        subst this; exact a h2
    refine pk_le (Ln j) L (fun b => nm_r (nI_1 j) (ih (j + 1) L (by omega) hl i1 (keep (fun _ => b)))) (fun b => ⟨ij, ij, ?_⟩)
    refine y_countOf (G := yg T P) (T := T) (yg_L hT hP) (yg_G hT hP) yg_T hn (by omega) a3 ?_
    rw [yg_pt (by omega)]
    have lc := ct_le T n (sa_pt T (A j) (Ln j))
    refine pk_lt (ct T n (sa_pt T (A j) (Ln j))) t (fun z => nm_r (nI_1 j) (ih (j + 1) L (by omega) hl i1 (keep (fun y => by omega)))) (fun z => ⟨ij, ?_⟩)
    refine nm_e (nm_r (nI_1 j) (ih (j + 1) (Ln j) (by omega) (by omega) (Or.inr ⟨sa_pt T (A j) (Ln j), pt_len _ _ _, ⟨A j + Ln j, a4, sa_pt_at _ _⟩, z⟩) (fun i h1 h2 => ?_)))
    rcases Nat.lt_or_ge i j with l | l
    · have := i2 i l h2; omega
    · have : i = j := by omega
      subst this; exact Nat.le_refl _
theorem y_longest {post : Int32 → SY → Prop} {v1 : Int32} (R : YR T P n q (gT, gP, gl, gk, bL, bP, bQ))
    (K0 : v1 < 1 ∨ ¬ v1 ≤ 24 → post (-2) (gT, gP, gl, gk, bL, bP, bQ))
    (K : ∀ v' t L, YR T P n q v' → v1 = nI t → t ≤ 24 → ¬ v1 < 1 → v1 ≤ 24 → sp_long T n t L → post (nI L) v') : wpY_longest post (gT, gP, gl, gk, bL, bP, bQ) v1 := by
  unfold wpY_longest
  have hn := R.2.2.1
  have hT := R.2.2.2.2.1
  have hP := R.2.2.2.2.2.1
  refine br_c (fun z => K0 (Or.inl z)) (fun z => br_c (fun y => ?_) (fun y => K0 (Or.inr y)))
  have z0 : ¬ v1 < 0 := fun c => z (Int32.lt_trans c (by decide))
  obtain ⟨t, ht, rfl⟩ := nI_of2 (M := 24) (n := 24) (by decide) z0 y
  refine y_list R fun A Ln c gk' bP bQ R' h hc => ?_
  exact ⟨c + 1, yn_22 ht hn hT hP h hc (fun L hL => K _ t L R' rfl ht z y hL) c 0 0 (by omega) (by omega) (Or.inl rfl) (fun i hi => absurd hi (Nat.not_lt_zero _))⟩
theorem yu_17 {post : Int32 → Prop} {p : Nat} (hn : n ≤ 24) (hT : ∀ i, i < 24 → T i < 4 ∧ bL i = nI (T i)) (hP : ∀ i, i < 12 → P i < 4 ∧ bL (24 + i) = nI (P i))
    (K : ∀ r, sp_uniq T n p r → post r) :
    ∀ k l, p + l + k = n + 1 → 0 < l → (∀ l', 0 < l' → l' < l → ct T n (sa_pt T p l') ≠ 1) → wY_unique_17 post (nI p) (nI n) gP gl gk bL bP bQ (k + 1) (nI l) := by
  intro k
  induction k with
  | zero =>
    intro l hl l0 i
    exact br_t (by rw [nI_add]; exact nI_lt (by omega) (by omega)) (K _ (Or.inr ⟨fun l' h0 h1 => i l' h0 (by omega), rfl⟩))
  | succ k ih =>
    intro l hl l0 i
    refine br_f (by rw [nI_add]; exact nI_nlt (by omega) (by omega)) (y_countOf (G := yg T P) (T := T) (yg_L hT hP) (yg_G hT hP) yg_T hn (by omega) l0 ?_)
    rw [yg_pt (by omega)]
    have lc := ct_le T n (sa_pt T p l)
    refine pk_eq (ct T n (sa_pt T p l)) 1 (fun z => K _ (Or.inl ⟨l, l0, by omega, z, i, rfl⟩)) (fun z => nm_r (nI_1 l) (ih (l + 1) (by omega) (by omega) (fun l' h0 h1 => ?_)))
    rcases Nat.lt_or_ge l' l with a | a
    · exact i l' h0 a
    · have : l' = l := by omega
      subst this; exact z
theorem y_unique {post : Int32 → Prop} {v1 : Int32} (R : YR T P n q (gT, gP, gl, gk, bL, bP, bQ)) (K0 : v1 < 0 ∨ ¬ v1 < nI n → post (-2))
    (K : ∀ p r, v1 = nI p → p < n → sp_uniq T n p r → post r) : wpY_unique post (gT, gP, gl, gk, bL, bP, bQ) v1 := by
  obtain ⟨rfl, rfl, hn, hq, hT, hP, hk⟩ := R
  unfold wpY_unique
  refine br_c (fun z => K0 (Or.inl z)) (fun z => br_c (fun y => ?_) (fun y => K0 (Or.inr y)))
  obtain ⟨p, hp, rfl⟩ := nI_of z
  rw [nI_ltI hp (by omega)] at y
  exact ⟨n - p + 1, yu_17 hn hT hP (fun r hr => K p r rfl y hr) (n - p) 1 (by omega) (by omega) (fun l' h0 h1 => by omega)⟩
/-- what is known before place p of the probe -/
def yc_I (T P : Nat → Nat) (n q p M : Nat) : Prop := (∃ i, i ≤ q ∧ M ≤ i ∧ sa_oc T n ((sa_rv P i).take M)) ∧ ∀ p' l, p' < p → p' + l ≤ q → sa_oc T n (sa_pt P p' l) → l ≤ M
theorem yc_16 {post : Int32 → Prop} {J : Int32 → Int32 → Prop} {p : Nat} (hp : p < q) (hq : q ≤ 12) (hn : n ≤ 24) (hT : ∀ i, i < 24 → T i < 4 ∧ bL i = nI (T i)) (hP : ∀ i, i < 12 → P i < 4 ∧ bL (24 + i) = nI (P i))
    (K : ∀ M, M ≤ 12 → yc_I T P n q (p + 1) M → J (nI M) (nI (p + 1))) :
    ∀ k l M, q + 1 ≤ p + l + k → M < l → l ≤ 13 → M ≤ 12 → yc_I T P n q p M → (∀ l', l' < l → p + l' ≤ q → sa_oc T n (sa_pt P p l') → l' ≤ M) →
      wY_common_16 post J (nI p) (nI n) (nI q) gl gk bL bP bQ (k + 1) (nI M) (nI l) := by
  intro k
  have fin : ∀ l M, q < p + l → M ≤ 12 → yc_I T P n q p M → (∀ l', l' < l → p + l' ≤ q → sa_oc T n (sa_pt P p l') → l' ≤ M) → J (nI M) (nI (p + 1)) := by
    intro l M hl hM I i
    refine K M hM ⟨I.1, fun p' l' h1 h2 h3 => ?_⟩
    rcases Nat.lt_or_ge p' p with a | a
    · exact I.2 p' l' a h2 h3
    · have : p' = p := by omega
      subst this
      exact i l' (by omega) h2 h3
  induction k with
  | zero =>
    intro l M hl l0 l1 hM I i
    exact br_t (by rw [nI_add]; exact nI_lt (by omega) (by omega)) (nm_r (nI_1 p) (fin l M (by omega) hM I i))
  | succ k ih =>
    intro l M hl l0 l1 hM I i
    rcases Nat.lt_or_ge q (p + l) with z | z
    · exact br_t (by rw [nI_add]; exact nI_lt (by omega) (by omega)) (nm_r (nI_1 p) (fin l M z hM I i))
    · refine br_f (by rw [nI_add]; exact nI_nlt (by omega) (by omega)) ?_
      rw [show (24 : Int32) = nI 24 from rfl, nI_add]
      refine y_countOf (a := 24 + p) (G := yg T P) (T := T) (yg_L hT hP) (yg_G hT hP) yg_T hn (by omega) (by omega) ?_
      rw [yg_ptP]
      have lc := ct_le T n (sa_pt P p l)
      refine pk_le (ct T n (sa_pt P p l)) 0 (fun y => nm_r (nI_1 l) (ih (l + 1) M (by omega) (by omega) (by omega) hM I (fun l' h1 h2 h3 => ?_))) (fun y => nm_r (nI_1 l) (ih (l + 1) l (by omega) (by omega) (by omega) (by omega) ?_ (fun l' h1 h2 h3 => by omega)))
      · rcases Nat.lt_or_ge l' l with a | a
        · exact i l' a h2 h3
        · have : l' = l := by omega
          subst this
          obtain ⟨e, he, a⟩ := h3
          have le := sa_at_len a
          rw [pt_len] at le
          have := cn_pos (P := fun e => sa_at T (sa_pt P p l') (e + 1)) (a := e - 1) (N := n) (by show sa_at T (sa_pt P p l') (e - 1 + 1); rw [show e - 1 + 1 = e by omega]; exact a) (by omega)
          have t : ct T n (sa_pt P p l') = cn (fun e => sa_at T (sa_pt P p l') (e + 1)) n := rfl
          omega
      · refine ⟨⟨p + l, z, by omega, by rw [pt_take]; exact ct_oc y⟩, fun p' l' h1 h2 h3 => ?_⟩
        have := I.2 p' l' h1 h2 h3
        omega
theorem yc_4 {post : Int32 → Prop} (hq : q ≤ 12) (hn : n ≤ 24) (hT : ∀ i, i < 24 → T i < 4 ∧ bL i = nI (T i)) (hP : ∀ i, i < 12 → P i < 4 ∧ bL (24 + i) = nI (P i))
    (K : ∀ M, sp_com T P n q M → post (nI M)) :
    ∀ k p M, p + k = q → M ≤ 12 → yc_I T P n q p M → wY_common_4 post (nI n) (nI q) gl gk bL bP bQ (k + 1) (nI M) (nI p) := by
  intro k
  induction k with
  | zero =>
    intro p M hp hM I
    have : p = q := by omega
    subst this
    refine br_t (nI_le (Nat.le_refl _) (by omega)) (K M ⟨I.1, fun i l h1 h2 h3 => ?_⟩)
    rcases Nat.eq_zero_or_pos l with z | z
    · omega
    · refine I.2 (i - l) l (by omega) (by omega) ?_
      have := pt_take P (i - l) l
      rw [show i - l + l = i by omega] at this
      rw [← this]; exact h3
  | succ k ih =>
    intro p M hp hM I
    refine br_f (nI_ge (by omega) (by omega)) (nm_r (nI_1 M) ⟨q + 1, yc_16 (by omega) hq hn hT hP (fun M hM I => ih (p + 1) M (by omega) hM I) q (M + 1) M (by omega) (by omega) (by omega) hM I (fun l' h1 _ _ => by omega)⟩)
theorem y_common {post : Int32 → Prop} (R : YR T P n q (gT, gP, gl, gk, bL, bP, bQ)) (K : ∀ M, sp_com T P n q M → post (nI M)) : wpY_common post (gT, gP, gl, gk, bL, bP, bQ) := by
  obtain ⟨rfl, rfl, hn, hq, hT, hP, hk⟩ := R
  unfold wpY_common
  exact ⟨q + 1, yc_4 hq hn hT hP K q 0 0 (by omega) (by omega) ⟨⟨0, by omega, by omega, sa_oc_nil⟩, fun p' l h1 => absurd h1 (Nat.not_lt_zero _)⟩⟩
theorem yr_18 {post : Int32 → SY → Prop} (hq : q ≤ 12) (hn : n ≤ 24) (hT : ∀ i, i < 24 → T i < 4 ∧ bL i = nI (T i)) (hP : ∀ i, i < 12 → P i < 4 ∧ bL (24 + i) = nI (P i))
    (h : kp T n (fun _ _ => True) c A Ln bP bQ) (hc : c ≤ 300)
    (K : post (nI (cn (fun j => lx (fw T (A j) (Ln j)) (fw P 0 q)) c)) (gT, nI q, nI c, gk, bL, bP, bQ)) :
    ∀ k j, j + k = c → wY_rank_18 post gT (nI q) (nI c) gk bL bP bQ (k + 1) (nI (cn (fun j => lx (fw T (A j) (Ln j)) (fw P 0 q)) j)) (nI j) := by
  intro k
  induction k with
  | zero =>
    intro j hj
    have : j = c := by omega
    subst this
    exact br_t (nI_le (Nat.le_refl _) (by omega)) K
  | succ k ih =>
    intro j hj
    have r := ih (j + 1) (by omega)
    simp only [cn] at r
    have cj := bs_cl (s := j) (by omega)
    obtain ⟨a1, a2, a3, a4, a5, a6⟩ := h.1 j (by omega)
    have ij : vp_in (nI j) 300 := vp_in_nI (by omega) (by decide)
    have e1 : fw (yg T P) (A j) (Ln j) = fw T (A j) (Ln j) := yg_fw (by omega)
    have e2 : fw (yg T P) 24 q = fw P 0 q := yg_fwP (a := 0)
    refine br_f (nI_ge (by omega) (by omega)) ⟨ij, ij, ?_⟩
    rw [cj, a1, a2]
    refine y_order (b := 24) (G := yg T P) (yg_L hT hP) (yg_G hT hP) (by omega) (by omega) (fun z => ?_) (fun z => ?_) (fun z => ?_)
    · rw [e1, e2] at z
      rw [b01_t z] at r
      exact br_f (by decide) (nm_r (nI_1 _) (nm_r (nI_1 j) r))
    · rw [e1, e2] at z
      rw [b01_f (fun y => lx_ne y z), Nat.add_zero] at r
      exact br_t (by decide) (nm_r (nI_1 j) r)
    · rw [e1, e2] at z
      rw [b01_f (fun y => lx_asy y z), Nat.add_zero] at r
      exact br_t (by decide) (nm_r (nI_1 j) r)
theorem y_rank {post : Int32 → SY → Prop} (R : YR T P n q (gT, gP, gl, gk, bL, bP, bQ)) (K0 : q = 0 → post (-3) (gT, gP, gl, gk, bL, bP, bQ))
    (K : ∀ v', YR T P n q v' → 0 < q → post (nI (cl (fun w => lx w (fw P 0 q)) (EN T n []))) v') : wpY_rank post (gT, gP, gl, gk, bL, bP, bQ) := by
  unfold wpY_rank
  have e := R.2.1
  have hn := R.2.2.1
  have hq := R.2.2.2.1
  have hT := R.2.2.2.2.1
  have hP := R.2.2.2.2.2.1
  refine br_c (fun z => K0 ?_) (fun z => ?_)
  · rw [e, ← nI_0, nI_eq (by omega) (by omega)] at z; exact z
  · have q0 : 0 < q := by
      rcases Nat.eq_zero_or_pos q with c | c
      · subst c; exact absurd e z
      · exact c
    refine y_list R fun A Ln c gk' bP bQ R' h hc => ?_
    have := K _ R' q0
    rw [← kp_cl (fun i hi => (hT i (by omega)).1) h] at this
    exact ⟨c + 1, yr_18 hq hn hT hP h hc this c 0 (by omega)⟩
end
end
section
/-! the reference: repeats, word -/
section
variable {T P : Nat → Nat} {n q : Nat} {gT gP gl gk : Int32} {bL bP bQ : Nat → Int32} {A Ln : Nat → Nat} {c : Nat}
theorem at_snoc {d p : Nat} : ∀ {w : List Nat}, sa_at T (w ++ [d]) (p + 1 + w.length) ↔ (sa_at T w (p + 1 + w.length) ∧ T p = d)
  | [] => by
    show sa_at T [d] (p + 1) ↔ _
    rw [sa_at_cons]
    exact ⟨fun h => ⟨sa_at_nil, h.1.symm⟩, fun h => ⟨h.2.symm, sa_at_nil⟩⟩
  | x :: w => by
    show sa_at T (x :: (w ++ [d])) (p + 1 + w.length + 1) ↔ (sa_at T (x :: w) (p + 1 + w.length + 1) ∧ T p = d)
    rw [sa_at_cons, sa_at_cons, at_snoc (w := w)]
    exact ⟨fun ⟨a, b, e⟩ => ⟨⟨a, b⟩, e⟩, fun ⟨⟨a, b⟩, e⟩ => ⟨a, b, e⟩⟩
section
variable {post : Int32 → Prop} {J : Int32 → Int32 → Prop} {x3 : Int32} {j d p t : Nat}
theorem yb_0 {x7 : Int32} (hn : n ≤ 24) (hT : ∀ i, i < 24 → T i < 4 ∧ bL i = nI (T i)) (hP : ∀ i, i < 12 → P i < 4 ∧ bL (24 + i) = nI (P i))
    (h : kp T n (fun _ _ => True) c A Ln bP bQ) (hc : c ≤ 300) (hj : j < c) (hp : p + Ln j ≤ n) (K : J (nI t) (nI (p + 1))) :
    wY_withBeside_63 post J (nI j) (nI d) x3 (nI t) (nI (Ln j)) (nI p) x7 0 gT gP gl gk bL bP bQ := by
  unfold wY_withBeside_63
  obtain ⟨a1, a2, a3, a4, a5, a6⟩ := h.1 j hj
  refine ⟨vp_in_nI (by omega) (by decide), ?_⟩
  rw [bs_cl (by omega), a1]
  refine ys_same (G := yg T P) (T := T) (yg_L hT hP) (yg_G hT hP) yg_T (by omega) (by omega) (fun z => ?_) (fun z => ?_)
  · exact br_f (by decide) (br_t rfl (nm_r (nI_1 p) K))
  · exact br_t rfl (nm_r (nI_1 p) K)
theorem yb_1 {z : Nat} (hn : n ≤ 24) (hT : ∀ i, i < 24 → T i < 4 ∧ bL i = nI (T i)) (hP : ∀ i, i < 12 → P i < 4 ∧ bL (24 + i) = nI (P i))
    (h : kp T n (fun _ _ => True) c A Ln bP bQ) (hc : c ≤ 300) (hj : j < c) (hp : p + Ln j ≤ n) (hz : z < 24) (hd : d < 4)
    (K : J (nI (t + b01 (sa_at T (sa_pt T (A j) (Ln j)) (p + Ln j) ∧ T z = d))) (nI (p + 1))) :
    wY_withBeside_63 post J (nI j) (nI d) x3 (nI t) (nI (Ln j)) (nI p) (nI z) 1 gT gP gl gk bL bP bQ := by
  unfold wY_withBeside_63
  obtain ⟨a1, a2, a3, a4, a5, a6⟩ := h.1 j hj
  refine ⟨vp_in_nI (by omega) (by decide), ?_⟩
  rw [bs_cl (s := j) (by omega), a1]
  refine ys_same (G := yg T P) (T := T) (yg_L hT hP) (yg_G hT hP) yg_T (by omega) (by omega) (fun y => ?_) (fun y => ?_)
  · rw [yg_pt (by omega)] at y
    refine br_f (by decide) (br_f (by decide) ⟨vp_in_nI (by omega) (by decide), ?_⟩)
    rw [bs_cl (by omega), (hT z hz).2]
    have tz := (hT z hz).1
    refine pk_eq (T z) d (fun e => ?_) (fun e => ?_)
    · rw [b01_t ⟨y, e⟩] at K
      exact nm_r (nI_1 t) (nm_r (nI_1 p) K)
    · rw [b01_f (fun x => e x.2)] at K
      exact nm_r (nI_1 p) K
  · rw [yg_pt (by omega)] at y
    rw [b01_f (fun x => y x.1)] at K
    exact br_t rfl (nm_r (nI_1 p) K)
end
/-- the letter in front -/
theorem yb_L {post : Int32 → Prop} {j d : Nat} (hn : n ≤ 24) (hT : ∀ i, i < 24 → T i < 4 ∧ bL i = nI (T i)) (hP : ∀ i, i < 12 → P i < 4 ∧ bL (24 + i) = nI (P i))
    (h : kp T n (fun _ _ => True) c A Ln bP bQ) (hc : c ≤ 300) (hj : j < c) (hd : d < 4) (K : post (nI (ct T n (sa_pt T (A j) (Ln j) ++ [d])))) :
    ∀ k p, p + Ln j + k = n + 1 → wY_withBeside_14 post (nI j) (nI d) (-1) (nI (Ln j)) (nI n) gP gl gk bL bP bQ (k + 1) (nI (cn (fun e => sa_at T (sa_pt T (A j) (Ln j) ++ [d]) (e + 1)) (p + Ln j - 1))) (nI p) := by
  intro k
  obtain ⟨a1, a2, a3, a4, a5, a6⟩ := h.1 j hj
  induction k with
  | zero =>
    intro p hp
    refine br_t (by rw [nI_add]; exact nI_lt (by omega) (by omega)) ?_
    rw [show p + Ln j - 1 = n by omega]; exact K
  | succ k ih =>
    intro p hp
    have r := ih (p + 1) (by omega)
    have e : cn (fun e => sa_at T (sa_pt T (A j) (Ln j) ++ [d]) (e + 1)) (p + 1 + Ln j - 1) = cn (fun e => sa_at T (sa_pt T (A j) (Ln j) ++ [d]) (e + 1)) (p + Ln j - 1) + b01 (sa_at T (sa_pt T (A j) (Ln j) ++ [d]) (p + Ln j)) := by
      rw [show p + 1 + Ln j - 1 = (p + Ln j - 1) + 1 by omega]
      simp only [cn]
      rw [show p + Ln j - 1 + 1 = p + Ln j by omega]
    rw [e] at r
    refine br_f (by rw [nI_add]; exact nI_nlt (by omega) (by omega)) (br_f (by decide) ?_)
    rcases Nat.eq_zero_or_pos p with p0 | p0
    · subst p0
      rw [b01_f (fun a => by have := sa_at_len a; simp [pt_len] at this; omega), Nat.add_zero] at r
      exact br_t (by decide) (yb_0 hn hT hP h hc hj (by omega) r)
    · obtain ⟨z, rfl⟩ : ∃ z, p = z + 1 := ⟨p - 1, by omega⟩
      have s := at_snoc (T := T) (d := d) (p := z) (w := sa_pt T (A j) (Ln j))
      rw [pt_len] at s
      rw [b01_c s] at r
      show wY_withBeside_42 post _ (nI j) (nI d) (-1) _ (nI (Ln j)) (nI (z + 1)) (nI (z + 1) - 1) (nI n) gP gl gk bL bP bQ
      rw [nI_pred]
      exact br_f (nI_pos (by omega)) (br_f (nI_ge (by omega) (by omega)) (yb_1 hn hT hP h hc hj (by omega) (by omega) hd r))
/-- the letter behind -/
theorem yb_R {post : Int32 → Prop} {j d : Nat} (hn : n ≤ 24) (hT : ∀ i, i < 24 → T i < 4 ∧ bL i = nI (T i)) (hP : ∀ i, i < 12 → P i < 4 ∧ bL (24 + i) = nI (P i))
    (h : kp T n (fun _ _ => True) c A Ln bP bQ) (hc : c ≤ 300) (hj : j < c) (hd : d < 4) (K : post (nI (ct T n (d :: sa_pt T (A j) (Ln j))))) :
    ∀ k p t, p + Ln j + k = n + 1 → t = cn (fun e => sa_at T (d :: sa_pt T (A j) (Ln j)) (e + 1)) (min (p + Ln j) n) → wY_withBeside_14 post (nI j) (nI d) 1 (nI (Ln j)) (nI n) gP gl gk bL bP bQ (k + 1) (nI t) (nI p) := by
  intro k
  obtain ⟨a1, a2, a3, a4, a5, a6⟩ := h.1 j hj
  induction k with
  | zero =>
    intro p t hp ht
    refine br_t (by rw [nI_add]; exact nI_lt (by omega) (by omega)) ?_
    rw [ht, show min (p + Ln j) n = n by omega]; exact K
  | succ k ih =>
    intro p t hp ht
    refine br_f (by rw [nI_add]; exact nI_nlt (by omega) (by omega)) (br_t (by decide) ?_)
    show wY_withBeside_42 post _ (nI j) (nI d) 1 _ (nI (Ln j)) (nI p) (nI p + nI (Ln j)) (nI n) gP gl gk bL bP bQ
    rw [nI_add]
    rcases Nat.lt_or_ge (p + Ln j) n with l | l
    · refine br_f (nI_pos (by omega)) (br_f (nI_ge (by omega) (by omega)) (yb_1 hn hT hP h hc hj (by omega) (by omega) hd (ih (p + 1) _ (by omega) ?_)))
      rw [ht, show min (p + 1 + Ln j) n = p + Ln j + 1 by omega, show min (p + Ln j) n = p + Ln j by omega]
      simp only [cn]
      refine congrArg (_ + ·) (b01_c ?_)
      rw [sa_at_cons]
      exact ⟨fun x => ⟨x.2.symm, x.1⟩, fun x => ⟨x.2, x.1.symm⟩⟩
    · refine br_f (nI_pos (by omega)) (br_t (nI_le (by omega) (by omega)) (yb_0 hn hT hP h hc hj (by omega) (ih (p + 1) _ (by omega) ?_)))
      rw [ht, show min (p + 1 + Ln j) n = n by omega, show min (p + Ln j) n = n by omega]
theorem y_beL {post : Int32 → Prop} {j d : Nat} (hn : n ≤ 24) (hT : ∀ i, i < 24 → T i < 4 ∧ bL i = nI (T i)) (hP : ∀ i, i < 12 → P i < 4 ∧ bL (24 + i) = nI (P i))
    (h : kp T n (fun _ _ => True) c A Ln bP bQ) (hc : c ≤ 300) (hj : j < c) (hd : d < 4) (K : post (nI (ct T n (sa_pt T (A j) (Ln j) ++ [d])))) :
    wpY_withBeside post (nI n, gP, gl, gk, bL, bP, bQ) (nI j) (nI d) (-1) := by
  unfold wpY_withBeside
  obtain ⟨a1, a2, a3, a4, a5, a6⟩ := h.1 j hj
  have := yb_L (gP := gP) (gl := gl) (gk := gk) hn hT hP h hc hj hd K (n + 1 - Ln j) 0 (by omega)
  rw [ct_lo (by simp [pt_len]; omega)] at this
  exact ⟨vp_in_nI (by omega) (by decide), nm_r (e' := nI (Ln j)) (by rw [bs_cl (by omega)]; exact a2) ⟨_, this⟩⟩
theorem y_beR {post : Int32 → Prop} {j d : Nat} (hn : n ≤ 24) (hT : ∀ i, i < 24 → T i < 4 ∧ bL i = nI (T i)) (hP : ∀ i, i < 12 → P i < 4 ∧ bL (24 + i) = nI (P i))
    (h : kp T n (fun _ _ => True) c A Ln bP bQ) (hc : c ≤ 300) (hj : j < c) (hd : d < 4) (K : post (nI (ct T n (d :: sa_pt T (A j) (Ln j))))) :
    wpY_withBeside post (nI n, gP, gl, gk, bL, bP, bQ) (nI j) (nI d) 1 := by
  unfold wpY_withBeside
  obtain ⟨a1, a2, a3, a4, a5, a6⟩ := h.1 j hj
  exact ⟨vp_in_nI (by omega) (by decide), nm_r (e' := nI (Ln j)) (by rw [bs_cl (by omega)]; exact a2) ⟨_, yb_R hn hT hP h hc hj hd K (n + 1 - Ln j) 0 0 (by omega) (ct_lo (by simp [pt_len]; omega)).symm⟩⟩
theorem ym_26 {post : Int32 → Prop} {j : Nat} (hn : n ≤ 24) (hT : ∀ i, i < 24 → T i < 4 ∧ bL i = nI (T i)) (hP : ∀ i, i < 12 → P i < 4 ∧ bL (24 + i) = nI (P i))
    (h : kp T n (fun _ _ => True) c A Ln bP bQ) (hc : c ≤ 300) (hj : j < c) (h2 : 2 ≤ ct T n (sa_pt T (A j) (Ln j)))
    (K1 : mx T n (sa_pt T (A j) (Ln j)) → post 1) (K0 : ¬ mx T n (sa_pt T (A j) (Ln j)) → post 0) :
    ∀ k d, d + k = 4 → (∀ a, a < d → ct T n (sa_pt T (A j) (Ln j) ++ [a]) ≠ ct T n (sa_pt T (A j) (Ln j)) ∧ ct T n (a :: sa_pt T (A j) (Ln j)) ≠ ct T n (sa_pt T (A j) (Ln j))) →
      wY_maximal_26 post (nI j) (nI (ct T n (sa_pt T (A j) (Ln j)))) (nI n) gP gl gk bL bP bQ (k + 1) (nI d) := by
  intro k
  induction k with
  | zero =>
    intro d hd i
    have : d = 4 := by omega
    subst this
    exact br_t bs_4le (K1 ⟨h2, i⟩)
  | succ k ih =>
    intro d hd i
    have l1 := ct_le T n (sa_pt T (A j) (Ln j))
    have l2 := ct_le T n (sa_pt T (A j) (Ln j) ++ [d])
    have l3 := ct_le T n (d :: sa_pt T (A j) (Ln j))
    refine br_f (bs_4nl (by omega)) (y_beL hn hT hP h hc hj (by omega) ?_)
    refine pk_eq (ct T n (sa_pt T (A j) (Ln j) ++ [d])) (ct T n (sa_pt T (A j) (Ln j))) (fun e => K0 fun m => (m.2 d (by omega)).1 e) (fun e => y_beR hn hT hP h hc hj (by omega) ?_)
    refine pk_eq (ct T n (d :: sa_pt T (A j) (Ln j))) (ct T n (sa_pt T (A j) (Ln j))) (fun e => K0 fun m => (m.2 d (by omega)).2 e) (fun e2 => nm_r (nI_1 d) (ih (d + 1) (by omega) (fun a ha => ?_)))
    rcases Nat.lt_or_ge a d with l | l
    · exact i a l
    · have : a = d := by omega
      subst this; exact ⟨e, e2⟩
theorem y_maximal {post : Int32 → Prop} {j : Nat} (hn : n ≤ 24) (hT : ∀ i, i < 24 → T i < 4 ∧ bL i = nI (T i)) (hP : ∀ i, i < 12 → P i < 4 ∧ bL (24 + i) = nI (P i))
    (h : kp T n (fun _ _ => True) c A Ln bP bQ) (hc : c ≤ 300) (hj : j < c)
    (K1 : mx T n (sa_pt T (A j) (Ln j)) → post 1) (K0 : ¬ mx T n (sa_pt T (A j) (Ln j)) → post 0) : wpY_maximal post (nI n, gP, gl, gk, bL, bP, bQ) (nI j) := by
  unfold wpY_maximal
  obtain ⟨a1, a2, a3, a4, a5, a6⟩ := h.1 j hj
  have ij : vp_in (nI j) 300 := vp_in_nI (by omega) (by decide)
  refine ⟨ij, ij, ?_⟩
  rw [bs_cl (by omega), a1, a2]
  refine y_countOf (G := yg T P) (T := T) (yg_L hT hP) (yg_G hT hP) yg_T hn (by omega) a3 ?_
  rw [yg_pt (by omega)]
  have l1 := ct_le T n (sa_pt T (A j) (Ln j))
  refine pk_le 2 (ct T n (sa_pt T (A j) (Ln j))) (fun z => ⟨4 + 1, ym_26 hn hT hP h hc hj z K1 K0 4 0 rfl (fun a ha => absurd ha (Nat.not_lt_zero _))⟩) (fun z => K0 fun m => by have := m.1; omega)
theorem ye_8 {post : Int32 → SY → Prop} (hn : n ≤ 24) (hT : ∀ i, i < 24 → T i < 4 ∧ bL i = nI (T i)) (hP : ∀ i, i < 12 → P i < 4 ∧ bL (24 + i) = nI (P i))
    (h : kp T n (fun _ _ => True) c A Ln bP bQ) (hc : c ≤ 300) (K : post (nI (cn (fun j => mx T n (sa_pt T (A j) (Ln j))) c)) (nI n, gP, nI c, gk, bL, bP, bQ)) :
    ∀ k j, j + k = c → wY_repeats_8 post (nI n) gP (nI c) gk bL bP bQ (k + 1) (nI (cn (fun j => mx T n (sa_pt T (A j) (Ln j))) j)) (nI j) := by
  intro k
  induction k with
  | zero =>
    intro j hj
    have : j = c := by omega
    subst this
    exact br_t (nI_le (Nat.le_refl _) (by omega)) K
  | succ k ih =>
    intro j hj
    have r := ih (j + 1) (by omega)
    simp only [cn] at r
    refine br_f (nI_ge (by omega) (by omega)) (y_maximal hn hT hP h hc (by omega) (fun z => ?_) (fun z => ?_))
    · rw [b01_t z] at r
      exact br_f (by decide) (nm_r (nI_1 _) (nm_r (nI_1 j) r))
    · rw [b01_f z, Nat.add_zero] at r
      exact br_t rfl (nm_r (nI_1 j) r)
theorem y_repeats {post : Int32 → SY → Prop} (R : YR T P n q (gT, gP, gl, gk, bL, bP, bQ))
    (K : ∀ v', YR T P n q v' → post (nI (cl (fun w => mx T n w.reverse) (EN T n []))) v') : wpY_repeats post (gT, gP, gl, gk, bL, bP, bQ) := by
  unfold wpY_repeats
  have hn := R.2.2.1
  have hT := R.2.2.2.2.1
  have hP := R.2.2.2.2.2.1
  refine y_list R fun A Ln c gk' bP bQ R' h hc => ?_
  have := K _ R'
  rw [← kp_cl (fun i hi => (hT i (by omega)).1) h] at this
  simp only [fw_rev] at this
  exact ⟨c + 1, ye_8 hn hT hP h hc this c 0 (by omega)⟩
/-! word -/
/-- the best so far among the first j: the first of those with Lt -/
def fB (Lt : Nat → Prop) (f : Nat → List Nat) (j : Nat) (x : Int32) : Prop :=
  (x = -1 ∧ ∀ i, i < j → ¬ Lt i) ∨ ∃ b, x = nI b ∧ b < j ∧ Lt b ∧ ∀ i, i < j → Lt i → ¬ lx (f i) (f b)
theorem fB_no {Lt : Nat → Prop} {f : Nat → List Nat} {j : Nat} {x : Int32} (h : fB Lt f j x) (n' : ¬ Lt j) : fB Lt f (j + 1) x := by
  rcases h with ⟨e, h⟩ | ⟨b, e, h1, h2, h3⟩
  · refine Or.inl ⟨e, fun i hi => ?_⟩
    rcases Nat.lt_or_ge i j with l | l
    · exact h i l
    · have : i = j := by omega
      subst this; exact n'
  · refine Or.inr ⟨b, e, by omega, h2, fun i hi z => ?_⟩
    rcases Nat.lt_or_ge i j with l | l
    · exact h3 i l z
    · have : i = j := by omega
      subst this; exact absurd z n'
section
variable {post : Int32 → Prop} {J : Int32 → Int32 → Prop} {x1 x : Int32} {j : Nat} {Lt : Nat → Prop}
theorem yw_52 (hn : n ≤ 24) (hT : ∀ i, i < 24 → T i < 4 ∧ bL i = nI (T i)) (hP : ∀ i, i < 12 → P i < 4 ∧ bL (24 + i) = nI (P i))
    (h : kp T n (fun _ _ => True) c A Ln bP bQ) (hc : c ≤ 300) (hj : j < c) (B : fB Lt (fun j => fw T (A j) (Ln j)) j x) (y : Lt j)
    (K : ∀ x', fB Lt (fun j => fw T (A j) (Ln j)) (j + 1) x' → J x' (nI (j + 1))) : wY_following_52 post J x1 x (nI j) 1 gT gP gl gk bL bP bQ := by
  unfold wY_following_52
  refine br_f (by decide) ?_
  rcases B with ⟨e, B⟩ | ⟨b, e, h1, h2, h3⟩
  · subst e
    refine br_t (by decide) (nm_r (nI_1 j) (K _ (Or.inr ⟨j, rfl, by omega, y, fun i hi z => ?_⟩)))
    rcases Nat.lt_or_ge i j with l | l
    · exact absurd z (B i l)
    · have : i = j := by omega
      subst this; exact lx_irr _
  · subst e
    obtain ⟨a1, a2, a3, a4, a5, a6⟩ := h.1 j hj
    obtain ⟨b1, b2, b3, b4, b5, b6⟩ := h.1 b (by omega)
    have ij : vp_in (nI j) 300 := vp_in_nI (by omega) (by decide)
    have ib : vp_in (nI b) 300 := vp_in_nI (by omega) (by decide)
    refine br_f (nI_pos (by omega)) ⟨ij, ij, ib, ib, ?_⟩
    rw [bs_cl (by omega), bs_cl (by omega), a1, a2, b1, b2]
    have e1 : fw (yg T P) (A j) (Ln j) = fw T (A j) (Ln j) := yg_fw (by omega)
    have e2 : fw (yg T P) (A b) (Ln b) = fw T (A b) (Ln b) := yg_fw (by omega)
    have keep : ¬ lx (fw T (A j) (Ln j)) (fw T (A b) (Ln b)) → fB Lt (fun j => fw T (A j) (Ln j)) (j + 1) (nI b) := fun z => by
      refine Or.inr ⟨b, rfl, by omega, h2, fun i hi w => ?_⟩
      rcases Nat.lt_or_ge i j with l | l
      · exact h3 i l w
      · have : i = j := by omega
        subst this; exact z
    refine y_order (G := yg T P) (yg_L hT hP) (yg_G hT hP) (by omega) (by omega) (fun z => ?_) (fun z => ?_) (fun z => ?_)
    · rw [e1, e2] at z
      refine br_f (by decide) (nm_r (nI_1 j) (K _ (Or.inr ⟨j, rfl, by omega, y, fun i hi w s => ?_⟩)))
      rcases Nat.lt_or_ge i j with l | l
      · exact h3 i l w (lx_trans s z)
      · have : i = j := by omega
        subst this; exact lx_irr _ s
    · rw [e1, e2] at z
      exact br_t (by decide) (nm_r (nI_1 j) (K _ (keep (fun s => lx_ne s z))))
    · rw [e1, e2] at z
      exact br_t (by decide) (nm_r (nI_1 j) (K _ (keep (fun s => lx_asy s z))))
theorem yw_4n (hn : n ≤ 24) (hT : ∀ i, i < 24 → T i < 4 ∧ bL i = nI (T i)) (hP : ∀ i, i < 12 → P i < 4 ∧ bL (24 + i) = nI (P i))
    (h : kp T n (fun _ _ => True) c A Ln bP bQ) (hc : c ≤ 300) (K : ∀ x', fB (fun _ => True) (fun j => fw T (A j) (Ln j)) c x' → post x') :
    ∀ k j x, j + k = c → fB (fun _ => True) (fun j => fw T (A j) (Ln j)) j x → wY_following_4 post (-1) gT gP (nI c) gk bL bP bQ (k + 1) x (nI j) := by
  intro k
  induction k with
  | zero =>
    intro j x hj B
    have : j = c := by omega
    subst this
    exact br_t (nI_le (Nat.le_refl _) (by omega)) (K x B)
  | succ k ih =>
    intro j x hj B
    exact br_f (nI_ge (by omega) (by omega)) (br_t (by decide) (yw_52 hn hT hP h hc (by omega) B trivial (fun x' B' => ih (j + 1) x' (by omega) B')))
theorem yw_4 {i : Nat} (hn : n ≤ 24) (hT : ∀ i, i < 24 → T i < 4 ∧ bL i = nI (T i)) (hP : ∀ i, i < 12 → P i < 4 ∧ bL (24 + i) = nI (P i))
    (h : kp T n (fun _ _ => True) c A Ln bP bQ) (hc : c ≤ 300) (hi : i < c) (K : ∀ x', fB (fun j => lx (fw T (A i) (Ln i)) (fw T (A j) (Ln j))) (fun j => fw T (A j) (Ln j)) c x' → post x') :
    ∀ k j x, j + k = c → fB (fun j => lx (fw T (A i) (Ln i)) (fw T (A j) (Ln j))) (fun j => fw T (A j) (Ln j)) j x → wY_following_4 post (nI i) gT gP (nI c) gk bL bP bQ (k + 1) x (nI j) := by
  intro k
  induction k with
  | zero =>
    intro j x hj B
    have : j = c := by omega
    subst this
    exact br_t (nI_le (Nat.le_refl _) (by omega)) (K x B)
  | succ k ih =>
    intro j x hj B
    obtain ⟨a1, a2, a3, a4, a5, a6⟩ := h.1 j (by omega)
    obtain ⟨b1, b2, b3, b4, b5, b6⟩ := h.1 i hi
    have ij : vp_in (nI j) 300 := vp_in_nI (by omega) (by decide)
    have ii : vp_in (nI i) 300 := vp_in_nI (by omega) (by decide)
    refine br_f (nI_ge (by omega) (by omega)) (br_f (nI_pos (by omega)) ⟨ij, ij, ii, ii, ?_⟩)
    rw [bs_cl (by omega), bs_cl (by omega), a1, a2, b1, b2]
    have e1 : fw (yg T P) (A j) (Ln j) = fw T (A j) (Ln j) := yg_fw (by omega)
    have e2 : fw (yg T P) (A i) (Ln i) = fw T (A i) (Ln i) := yg_fw (by omega)
    have no : ¬ lx (fw T (A i) (Ln i)) (fw T (A j) (Ln j)) → wY_following_52 post (wY_following_4 post (nI i) gT gP (nI c) gk bL bP bQ (k + 1)) (nI i) x (nI j) 0 gT gP (nI c) gk bL bP bQ := fun z => by
      unfold wY_following_52
      exact br_t rfl (nm_r (nI_1 j) (ih (j + 1) x (by omega) (fB_no B z)))
    refine y_order (G := yg T P) (yg_L hT hP) (yg_G hT hP) (by omega) (by omega) (fun z => ?_) (fun z => ?_) (fun z => ?_)
    · rw [e1, e2] at z
      exact br_t (by decide) (no (fun s => lx_asy s z))
    · rw [e1, e2] at z
      exact br_t (by decide) (no (fun s => lx_ne s z.symm))
    · rw [e1, e2] at z
      exact br_f (by decide) (yw_52 (Lt := fun j => lx (fw T (A i) (Ln i)) (fw T (A j) (Ln j))) hn hT hP h hc (by omega) B z (fun x' B' => ih (j + 1) x' (by omega) B'))
end
/-- the first, and the next, of the sorted list -/
theorem yw_first (hT : ∀ i, i < n → T i < 4) (h : kp T n (fun _ _ => True) c A Ln bP bQ) {x : Int32} (h0 : 0 < c) (B : fB (fun _ => True) (fun j => fw T (A j) (Ln j)) c x) :
    ∃ b, x = nI b ∧ b < c ∧ (EN T n [])[0]? = some (fw T (A b) (Ln b)) := by
  have cl := kp_len hT h
  have S := List.pairwise_iff_getElem.mp (EN_sort (T := T) (n := n) [])
  rcases B with ⟨_, B⟩ | ⟨b, e, h1, _, h3⟩
  · exact absurd trivial (B 0 h0)
  · refine ⟨b, e, h1, ?_⟩
    have m : fw T (A b) (Ln b) ∈ EN T n [] := (kp_mem hT h).mp (yl_mem.mpr ⟨b, h1, rfl⟩)
    obtain ⟨j, hj, ej⟩ := List.getElem_of_mem m
    have l0 : 0 < (EN T n []).length := by omega
    obtain ⟨i, hi, ei⟩ := yl_mem.mp ((kp_mem hT h).mpr (List.getElem_mem l0))
    rcases Nat.eq_zero_or_pos j with z | z
    · subst z
      rw [List.getElem?_eq_getElem l0, ej]
    · have s := S 0 j l0 hj z
      have := h3 i hi trivial
      have ei' : fw T (A i) (Ln i) = (EN T n [])[0] := ei
      rw [ej, ← ei'] at s
      exact absurd s this
theorem yw_next (hT : ∀ i, i < n → T i < 4) (h : kp T n (fun _ _ => True) c A Ln bP bQ) {x : Int32} {i k : Nat} (hk : k + 1 < c) (hi : i < c) (ek : (EN T n [])[k]? = some (fw T (A i) (Ln i)))
    (B : fB (fun j => lx (fw T (A i) (Ln i)) (fw T (A j) (Ln j))) (fun j => fw T (A j) (Ln j)) c x) :
    ∃ b, x = nI b ∧ b < c ∧ (EN T n [])[k + 1]? = some (fw T (A b) (Ln b)) := by
  have cl := kp_len hT h
  have S := List.pairwise_iff_getElem.mp (EN_sort (T := T) (n := n) [])
  have lk : k < (EN T n []).length := by omega
  have l1 : k + 1 < (EN T n []).length := by omega
  rw [List.getElem?_eq_getElem lk] at ek
  have ek' : (EN T n [])[k] = fw T (A i) (Ln i) := Option.some.inj ek
  obtain ⟨i1, hi1, ei1⟩ := yl_mem.mp ((kp_mem hT h).mpr (List.getElem_mem l1))
  have ei' : fw T (A i1) (Ln i1) = (EN T n [])[k + 1] := ei1
  have s1 : lx (fw T (A i) (Ln i)) (fw T (A i1) (Ln i1)) := by
    rw [ei', ← ek']; exact S k (k + 1) lk l1 (by omega)
  rcases B with ⟨_, B⟩ | ⟨b, e, h1, h2, h3⟩
  · exact absurd s1 (B i1 hi1)
  · refine ⟨b, e, h1, ?_⟩
    have m : fw T (A b) (Ln b) ∈ EN T n [] := (kp_mem hT h).mp (yl_mem.mpr ⟨b, h1, rfl⟩)
    obtain ⟨j, hj, ej⟩ := List.getElem_of_mem m
    rw [List.getElem?_eq_getElem l1]
    rcases Nat.lt_trichotomy j (k + 1) with z | z | z
    · exfalso
      have h2' : lx (fw T (A i) (Ln i)) (fw T (A b) (Ln b)) := h2
      rcases Nat.lt_or_ge j k with y | y
      · have s := S j k hj lk y
        rw [ej, ek'] at s
        exact lx_asy s h2'
      · have : j = k := by omega
        subst this
        rw [← ej, ek'] at h2'
        exact lx_irr _ h2'
    · subst z; rw [ej]
    · have s := S (k + 1) j l1 hj z
      rw [ej, ← ei'] at s
      exact absurd s (h3 i1 hi1 s1)
theorem yw_27 {post : Int32 → SY → Prop} {k : Nat} (hn : n ≤ 24) (hT : ∀ i, i < 24 → T i < 4 ∧ bL i = nI (T i)) (hP : ∀ i, i < 12 → P i < 4 ∧ bL (24 + i) = nI (P i))
    (h : kp T n (fun _ _ => True) c A Ln bP bQ) (hc : c ≤ 300) (hk : k < c) (K : ∀ r, sp_word T n k r → post r (nI n, gP, nI c, gk, bL, bP, bQ)) :
    ∀ m s b, s + m = k → b < c → (EN T n [])[s]? = some (fw T (A b) (Ln b)) → wY_word_27 post (nI k) (nI n) gP (nI c) gk bL bP bQ (m + 1) (nI b) (nI s) := by
  intro m
  have hT' : ∀ i, i < n → T i < 4 := fun i hi => (hT i (by omega)).1
  induction m with
  | zero =>
    intro s b hs hb e
    have : s = k := by omega
    subst this
    have ib : vp_in (nI b) 300 := vp_in_nI (by omega) (by decide)
    obtain ⟨b1, b2, b3, b4, b5, b6⟩ := h.1 b hb
    refine br_t (nI_le (Nat.le_refl _) (by omega)) ⟨ib, ib, K _ ⟨_, A b + Ln b, e, b4, ?_, ?_, ?_⟩⟩
    · rw [fw_rev]; exact sa_pt_at _ _
    · intro e' he' a
      rw [fw_rev] at a
      have l := sa_at_len a
      rw [pt_len] at l
      rw [show e' = e' - Ln b + Ln b by omega, pt_inj] at a
      exact b6 (e' - Ln b) (by omega) a.symm
    · rw [bs_cl (by omega), b1, b2, fw_len, Nat.add_sub_cancel, ← nI_add, ← pk_mul]; rfl
  | succ m ih =>
    intro s b hs hb e
    refine br_f (nI_ge (by omega) (by omega)) ⟨c + 1, yw_4 hn hT hP h hc hb (fun x B => ?_) c 0 (-1) (by omega) (Or.inl ⟨rfl, fun i hi => absurd hi (Nat.not_lt_zero _)⟩)⟩
    obtain ⟨b', rfl, hb', e'⟩ := yw_next hT' h (k := s) (by omega) hb e B
    exact nm_r (nI_1 s) (ih (s + 1) b' (by omega) hb' e')
theorem y_word {post : Int32 → SY → Prop} {v1 : Int32} (R : YR T P n q (gT, gP, gl, gk, bL, bP, bQ))
    (K0 : ∀ v', YR T P n q v' → v1 < 0 ∨ ¬ v1 < nI (EN T n []).length → post (-3) v')
    (K : ∀ v' k r, YR T P n q v' → v1 = nI k → k < (EN T n []).length → sp_word T n k r → post r v') : wpY_word post (gT, gP, gl, gk, bL, bP, bQ) v1 := by
  unfold wpY_word
  have hn := R.2.2.1
  have hT := R.2.2.2.2.1
  have hP := R.2.2.2.2.2.1
  have hT' : ∀ i, i < n → T i < 4 := fun i hi => (hT i (by omega)).1
  refine y_list R fun A Ln c gk' bP bQ R' h hc => ?_
  have cl := kp_len hT' h
  refine br_c (fun z => K0 _ R' (Or.inl z)) (fun z => br_c (fun y => ?_) (fun y => K0 _ R' (Or.inr (by rw [← cl]; exact y))))
  obtain ⟨k, hk, rfl⟩ := nI_of z
  rw [nI_ltI hk (by omega)] at y
  refine ⟨c + 1, yw_4n hn hT hP h hc (fun x B => ?_) c 0 (-1) (by omega) (Or.inl ⟨rfl, fun i hi => absurd hi (Nat.not_lt_zero _)⟩)⟩
  obtain ⟨b, rfl, hb, e⟩ := yw_first hT' h (by omega) B
  exact ⟨k + 1, yw_27 hn hT hP h hc y (fun r hr => K _ k r R' rfl (by omega) hr) k 0 b (by omega) hb e⟩
end
end
section
/-! type, shift, ask, wipe of both -/
theorem ed_let {v1 : Int32} (a : ¬ v1 < 0) (b : v1 < 4) : ∃ d, d < 4 ∧ v1 = nI d := by
  obtain ⟨d, hd, rfl⟩ := nI_of a
  exact ⟨d, (nI_ltI (b := 4) hd (by decide)).mp b, rfl⟩
theorem ed_let3 {v1 : Int32} (a : ¬ v1 < 0) (b : v1 ≤ 3) : ∃ d, d < 4 ∧ v1 = nI d := by
  obtain ⟨d, hd, rfl⟩ := nI_of a
  have := (nI_leI (b := 3) hd (by decide)).mp b
  exact ⟨d, by omega, rfl⟩
theorem ed_no {v1 : Int32} (h : v1 < 0 ∨ ¬ v1 < 4) : ¬ ∃ d, d < 4 ∧ v1 = nI d := by
  intro ⟨d, hd, e⟩
  subst e
  rcases h with h | h
  · exact nI_pos (by omega) h
  · exact h (nI_lt (b := 4) hd (by decide))
theorem ed_no3 {v1 : Int32} (h : v1 < 0 ∨ ¬ v1 ≤ 3) : ¬ ∃ d, d < 4 ∧ v1 = nI d := by
  intro ⟨d, hd, e⟩
  subst e
  rcases h with h | h
  · exact nI_pos (by omega) h
  · exact h (nI_le (b := 3) (by omega) (by decide))
/-- the text while it is shifted: the first p letters have moved -/
def sh (T : Nat → Nat) (p : Nat) : Nat → Nat := fun i => if i < p then T (i + 1) else T i
theorem sh_lo {T : Nat → Nat} {p i : Nat} (h : i < p) : sh T p i = T (i + 1) := if_pos h
theorem sh_hi {T : Nat → Nat} {p i : Nat} (h : p ≤ i) : sh T p i = T i := if_neg (by omega)
theorem sh_4 {T : Nat → Nat} {p : Nat} (hp : p < 24) (h : ∀ i, i < 24 → T i < 4) : ∀ i, i < 24 → sh T p i < 4 := by
  intro i hi
  rcases Nat.lt_or_ge i p with l | l
  · rw [sh_lo l]; exact h _ (by omega)
  · rw [sh_hi l]; exact h _ hi
/-- one store of the shift -/
theorem sh_s {T : Nat → Nat} {p : Nat} {b : Nat → Int32} (h : ∀ i, i < 24 → b i = nI (sh T p i)) : ∀ i, i < 24 → upd b p (nI (T (p + 1))) i = nI (sh T (p + 1) i) := by
  intro i hi
  rcases Nat.lt_trichotomy i p with l | l | l
  · rw [pk_un (by omega), h i hi, sh_lo l, sh_lo (by omega)]
  · subst l
    rw [pk_us, sh_lo (by omega)]
  · rw [pk_un (by omega), h i hi, sh_hi (by omega), sh_hi (by omega)]
theorem sh_0 (T : Nat → Nat) : sh T 0 = T := funext fun i => sh_hi (Nat.zero_le _)
section
variable {T P : Nat → Nat} {n q : Nat} {fT fP fB fM fL fR : Int32} {aX aP aN aS aL aT aF aW aB : Nat → Int32} {gT gP gl gk : Int32} {bL bP bQ : Nat → Int32}
theorem un_4 {k d : Nat} {N : Nat} (hd : d < 4) {b : Nat → Int32} (h : ∀ i, i < N → T i < 4 ∧ b i = nI (T i)) : ∀ i, i < N → un T k d i < 4 ∧ upd b k (nI d) i = nI (un T k d i) := by
  intro i hi
  rcases Classical.em (i = k) with e | e
  · subst e; rw [un_s, pk_us]; exact ⟨hd, rfl⟩
  · rw [un_n e, pk_un e]; exact h i hi
theorem x_type {post : Int32 → SX → Prop} {v1 : Int32} (R : XR T P n q (fT, fP, fB, fM, fL, fR, aX, aP, aN, aS, aL, aT, aF, aW, aB))
    (K1 : n = 24 → post (-1) (fT, fP, fB, fM, fL, fR, aX, aP, aN, aS, aL, aT, aF, aW, aB))
    (K2 : n < 24 → (¬ ∃ d, d < 4 ∧ v1 = nI d) → post (-2) (fT, fP, fB, fM, fL, fR, aX, aP, aN, aS, aL, aT, aF, aW, aB))
    (K3 : ∀ d u', n < 24 → d < 4 → v1 = nI d → XR (un T n d) P (n + 1) q u' → post (nI (n + 1)) u') :
    wpX_type post (fT, fP, fB, fM, fL, fR, aX, aP, aN, aS, aL, aT, aF, aW, aB) v1 := by
  obtain ⟨rfl, rfl, hn, hq, hT, hP, hB⟩ := R
  unfold wpX_type
  refine pk_lt n 24 (fun h => br_c (fun z => K2 h (ed_no (Or.inl z))) (fun z => br_c (fun y => ?_) (fun y => K2 h (ed_no (Or.inr y))))) (fun h => K1 (by omega))
  obtain ⟨d, hd, rfl⟩ := ed_let z y
  refine ⟨vp_in_nI h (by decide), nm_r (e' := upd aX n (nI d)) (by rw [bs_cl (by omega), bs_nbb (by omega)]) (nm_r (nI_1 n) (K3 d _ h hd rfl ⟨rfl, rfl, by omega, hq, un_4 hd hT, hP, fun z => absurd rfl z⟩))⟩
theorem y_type {post : Int32 → SY → Prop} {v1 : Int32} (R : YR T P n q (gT, gP, gl, gk, bL, bP, bQ))
    (K1 : n = 24 → post (-1) (gT, gP, gl, gk, bL, bP, bQ))
    (K2 : n < 24 → (¬ ∃ d, d < 4 ∧ v1 = nI d) → post (-2) (gT, gP, gl, gk, bL, bP, bQ))
    (K3 : ∀ d v', n < 24 → d < 4 → v1 = nI d → YR (un T n d) P (n + 1) q v' → post (nI (n + 1)) v') : wpY_type post (gT, gP, gl, gk, bL, bP, bQ) v1 := by
  obtain ⟨rfl, rfl, hn, hq, hT, hP, hB⟩ := R
  unfold wpY_type
  refine pk_eq n 24 (fun h => K1 h) (fun h => br_c (fun z => K2 (by omega) (ed_no3 (Or.inl z))) (fun z => br_c (fun y => ?_) (fun y => K2 (by omega) (ed_no3 (Or.inr y)))))
  obtain ⟨d, hd, rfl⟩ := ed_let3 z y
  refine ⟨vp_in_nI (by omega) (by decide), nm_r (e' := upd bL n (nI d)) (by rw [bs_cl (by omega)]) (nm_r (nI_1 n) (K3 d _ (by omega) hd rfl ⟨rfl, rfl, by omega, hq, un_4 hd hT, fun i hi => ?_, fun z => absurd rfl z⟩))⟩
  rw [pk_un (by omega)]; exact hP i hi
theorem xh_22 {post : Int32 → SX → Prop} (hn : n < 24) (hT : ∀ i, i < 24 → T i < 4)
    (K : ∀ bX, (∀ i, i < 24 → bX i = nI (sh T n i)) → post (nI n) (nI n, fP, 0, fM, fL, fR, bX, aP, aN, aS, aL, aT, aF, aW, aB)) :
    ∀ k p bX, p + k = n → (∀ i, i < 24 → bX i = nI (sh T p i)) → wX_shift_22 post (nI n) fP fB fM fL fR (k + 1) (nI p) bX aP aN aS aL aT aF aW aB := by
  intro k
  induction k with
  | zero =>
    intro p bX hp h
    have : p = n := by omega
    subst this
    exact br_t (nI_le (Nat.le_refl _) (by omega)) (K bX h)
  | succ k ih =>
    intro p bX hp h
    have e : bX (nI p + 1).toNatClampNeg = nI (T (p + 1)) := by rw [nI_1, bs_cl (by omega), h _ (by omega), sh_hi (by omega)]
    have t := hT (p + 1) (by omega)
    refine br_f (nI_ge (by omega) (by omega)) ⟨by rw [nI_1]; exact vp_in_nI (by omega) (by decide), vp_in_nI (by omega) (by decide), nm_r (e' := upd bX p (nI (T (p + 1)))) (by rw [e, bs_cl (by omega), bs_nb (by omega)]) (nm_r (nI_1 p) (ih (p + 1) _ (by omega) (sh_s h)))⟩
theorem x_shift {post : Int32 → SX → Prop} (R : XR T P n q (fT, fP, fB, fM, fL, fR, aX, aP, aN, aS, aL, aT, aF, aW, aB))
    (K1 : n = 0 → post (-2) (fT, fP, fB, fM, fL, fR, aX, aP, aN, aS, aL, aT, aF, aW, aB))
    (K2 : ∀ k u', n = k + 1 → XR (sh T k) P k q u' → post (nI k) u') : wpX_shift post (fT, fP, fB, fM, fL, fR, aX, aP, aN, aS, aL, aT, aF, aW, aB) := by
  obtain ⟨rfl, rfl, hn, hq, hT, hP, hB⟩ := R
  unfold wpX_shift
  refine pk_eq n 0 (fun h => K1 h) (fun h => ?_)
  obtain ⟨k, rfl⟩ : ∃ k, n = k + 1 := ⟨n - 1, by omega⟩
  refine nm_r (nI_pred k) ⟨k + 1, xh_22 (by omega) (fun i hi => (hT i hi).1) (fun bX hb => K2 k _ rfl ⟨rfl, rfl, by omega, hq, fun i hi => ⟨sh_4 (by omega) (fun i hi => (hT i hi).1) i hi, hb i hi⟩, hP, fun z => absurd rfl z⟩) k 0 aX (by omega) (fun i hi => ?_)⟩
  rw [sh_0]; exact (hT i hi).2
theorem yh_22 {post : Int32 → SY → Prop} (hn : n < 24) (hT : ∀ i, i < 24 → T i < 4)
    (K : ∀ cL, (∀ i, i < 24 → cL i = nI (sh T n i)) → (∀ i, 24 ≤ i → cL i = bL i) → post (nI n) (nI n, gP, gl, 0, cL, bP, bQ)) :
    ∀ k p cL, p + k = n → (∀ i, i < 24 → cL i = nI (sh T p i)) → (∀ i, 24 ≤ i → cL i = bL i) → wY_shift_22 post (nI n) gP gl gk (k + 1) (nI p) cL bP bQ := by
  intro k
  induction k with
  | zero =>
    intro p cL hp h h2
    have : p = n := by omega
    subst this
    exact br_t (nI_le (Nat.le_refl _) (by omega)) (K cL h h2)
  | succ k ih =>
    intro p cL hp h h2
    have e : cL (nI p + 1).toNatClampNeg = nI (T (p + 1)) := by rw [nI_1, bs_cl (by omega), h _ (by omega), sh_hi (by omega)]
    refine br_f (nI_ge (by omega) (by omega)) ⟨by rw [nI_1]; exact vp_in_nI (by omega) (by decide), vp_in_nI (by omega) (by decide), nm_r (e' := upd cL p (nI (T (p + 1)))) (by rw [e, bs_cl (by omega)]) (nm_r (nI_1 p) (ih (p + 1) _ (by omega) (sh_s h) (fun i hi => ?_)))⟩
    rw [pk_un (by omega)]; exact h2 i hi
theorem y_shift {post : Int32 → SY → Prop} (R : YR T P n q (gT, gP, gl, gk, bL, bP, bQ))
    (K1 : n = 0 → post (-2) (gT, gP, gl, gk, bL, bP, bQ))
    (K2 : ∀ k v', n = k + 1 → YR (sh T k) P k q v' → post (nI k) v') : wpY_shift post (gT, gP, gl, gk, bL, bP, bQ) := by
  obtain ⟨rfl, rfl, hn, hq, hT, hP, hB⟩ := R
  unfold wpY_shift
  refine pk_eq n 0 (fun h => K1 h) (fun h => ?_)
  obtain ⟨k, rfl⟩ : ∃ k, n = k + 1 := ⟨n - 1, by omega⟩
  refine nm_r (nI_pred k) ⟨k + 1, yh_22 (bL := bL) (by omega) (fun i hi => (hT i hi).1) (fun cL hb h2 => K2 k _ rfl ⟨rfl, rfl, by omega, hq, fun i hi => ⟨sh_4 (by omega) (fun i hi => (hT i hi).1) i hi, hb i hi⟩, fun i hi => ⟨(hP i hi).1, by rw [h2 _ (by omega)]; exact (hP i hi).2⟩, fun z => absurd rfl z⟩) k 0 bL (by omega) (fun i hi => ?_) (fun _ _ => rfl)⟩
  rw [sh_0]; exact (hT i hi).2
theorem x_ask {post : Int32 → SX → Prop} {v1 : Int32} (R : XR T P n q (fT, fP, fB, fM, fL, fR, aX, aP, aN, aS, aL, aT, aF, aW, aB))
    (K1 : q = 12 → post (-1) (fT, fP, fB, fM, fL, fR, aX, aP, aN, aS, aL, aT, aF, aW, aB))
    (K2 : q < 12 → (¬ ∃ d, d < 4 ∧ v1 = nI d) → post (-2) (fT, fP, fB, fM, fL, fR, aX, aP, aN, aS, aL, aT, aF, aW, aB))
    (K3 : ∀ d u', q < 12 → d < 4 → v1 = nI d → XR T (un P q d) n (q + 1) u' → post (nI (q + 1)) u') :
    wpX_ask post (fT, fP, fB, fM, fL, fR, aX, aP, aN, aS, aL, aT, aF, aW, aB) v1 := by
  obtain ⟨rfl, rfl, hn, hq, hT, hP, hB⟩ := R
  unfold wpX_ask
  refine pk_lt q 12 (fun h => br_c (fun z => K2 h (ed_no (Or.inl z))) (fun z => br_c (fun y => ?_) (fun y => K2 h (ed_no (Or.inr y))))) (fun h => K1 (by omega))
  obtain ⟨d, hd, rfl⟩ := ed_let z y
  refine ⟨vp_in_nI h (by decide), nm_r (e' := upd aP q (nI d)) (by rw [bs_cl (by omega), bs_nbb (by omega)]) (nm_r (nI_1 q) (K3 d _ h hd rfl ⟨rfl, rfl, hn, by omega, hT, un_4 hd hP, hB⟩))⟩
theorem y_ask {post : Int32 → SY → Prop} {v1 : Int32} (R : YR T P n q (gT, gP, gl, gk, bL, bP, bQ))
    (K1 : q = 12 → post (-1) (gT, gP, gl, gk, bL, bP, bQ))
    (K2 : q < 12 → (¬ ∃ d, d < 4 ∧ v1 = nI d) → post (-2) (gT, gP, gl, gk, bL, bP, bQ))
    (K3 : ∀ d v', q < 12 → d < 4 → v1 = nI d → YR T (un P q d) n (q + 1) v' → post (nI (q + 1)) v') : wpY_ask post (gT, gP, gl, gk, bL, bP, bQ) v1 := by
  obtain ⟨rfl, rfl, hn, hq, hT, hP, hB⟩ := R
  unfold wpY_ask
  refine pk_eq q 12 (fun h => K1 h) (fun h => br_c (fun z => K2 (by omega) (ed_no3 (Or.inl z))) (fun z => br_c (fun y => ?_) (fun y => K2 (by omega) (ed_no3 (Or.inr y)))))
  obtain ⟨d, hd, rfl⟩ := ed_let3 z y
  rw [show (24 : Int32) = nI 24 from rfl, nI_add]
  refine ⟨vp_in_nI (by omega) (by decide), nm_r (e' := upd bL (24 + q) (nI d)) (by rw [bs_cl (by omega)]) (nm_r (nI_1 q) (K3 d _ (by omega) hd rfl ⟨rfl, rfl, hn, by omega, fun i hi => ?_, fun i hi => ?_, hB⟩))⟩
  · rw [pk_un (by omega)]; exact hT i hi
  · rcases Classical.em (i = q) with e | e
    · subst e; rw [un_s, pk_us]; exact ⟨hd, rfl⟩
    · rw [un_n e, pk_un (by omega)]; exact hP i hi
theorem x_wipe {post : Int32 → SX → Prop} (R : XR T P n q (fT, fP, fB, fM, fL, fR, aX, aP, aN, aS, aL, aT, aF, aW, aB)) (K : ∀ u', XR T P n 0 u' → post (nI q) u') :
    wpX_wipe post (fT, fP, fB, fM, fL, fR, aX, aP, aN, aS, aL, aT, aF, aW, aB) := by
  obtain ⟨rfl, rfl, hn, hq, hT, hP, hB⟩ := R
  unfold wpX_wipe
  exact K _ ⟨rfl, rfl, hn, by omega, hT, hP, hB⟩
theorem y_wipe {post : Int32 → SY → Prop} (R : YR T P n q (gT, gP, gl, gk, bL, bP, bQ)) (K : ∀ v', YR T P n 0 v' → post (nI q) v') : wpY_wipe post (gT, gP, gl, gk, bL, bP, bQ) := by
  obtain ⟨rfl, rfl, hn, hq, hT, hP, hB⟩ := R
  unfold wpY_wipe
  exact K _ ⟨rfl, rfl, hn, by omega, hT, hP, hB⟩
end
end
section
/-! what is owed -/
def i_Rel (k : Nat) (u : SX) (v : SY) : Prop := ∃ T P n q, XR T P n q u ∧ YR T P n q v
theorem i_up {k : Nat} {u : SX} {v : SY} (h : i_Rel k u v) : i_Rel (k + 2) u v := h
theorem i_vc0 : wpX_init (fun u => wpY_init (fun v => i_Rel 0 u v)) := by
  unfold wpX_init wpY_init
  exact ⟨fun _ => 0, fun _ => 0, 0, 0, ⟨rfl, rfl, by omega, by omega, fun i _ => ⟨Nat.zero_lt_succ 3, rfl⟩, fun i _ => ⟨Nat.zero_lt_succ 3, rfl⟩, fun z => absurd rfl z⟩,
    ⟨rfl, rfl, by omega, by omega, fun i _ => ⟨Nat.zero_lt_succ 3, rfl⟩, fun i _ => ⟨Nat.zero_lt_succ 3, rfl⟩, fun z => absurd rfl z⟩⟩
theorem i_vc_type {k : Nat} {u : SX} {v : SY} (I : i_Rel k u v) (hk : k + 2 ≤ 1024) (v1 : Int32) : wpX_type (fun r u' => wpY_type (fun r' v' => r' = r ∧ i_Rel (k + 2) u' v') v v1) u v1 := by
  obtain ⟨T, P, n, q, X, Y⟩ := I
  obtain ⟨fT, fP, fB, fM, fL, fR, aX, aP, aN, aS, aL, aT, aF, aW, aB⟩ := u
  obtain ⟨gT, gP, gl, gk, bL, bP, bQ⟩ := v
  refine x_type X (fun h => ?_) (fun h e => ?_) (fun d u' h hd e X' => ?_)
  · exact y_type Y (fun _ => ⟨rfl, T, P, n, q, X, Y⟩) (fun h' _ => by omega) (fun d v' h' _ _ _ => by omega)
  · exact y_type Y (fun h' => by omega) (fun _ _ => ⟨rfl, T, P, n, q, X, Y⟩) (fun d v' _ h1 h2 _ => absurd ⟨d, h1, h2⟩ e)
  · refine y_type Y (fun h' => by omega) (fun _ z => absurd ⟨d, hd, e⟩ z) (fun d' v' _ h1 h2 Y' => ?_)
    have : d = d' := (nI_eq (by omega) (by omega)).mp (e.symm.trans h2)
    subst this
    exact ⟨rfl, _, _, _, _, X', Y'⟩
theorem i_vc_shift {k : Nat} {u : SX} {v : SY} (I : i_Rel k u v) (hk : k + 2 ≤ 1024) : wpX_shift (fun r u' => wpY_shift (fun r' v' => r' = r ∧ i_Rel (k + 2) u' v') v) u := by
  obtain ⟨T, P, n, q, X, Y⟩ := I
  obtain ⟨fT, fP, fB, fM, fL, fR, aX, aP, aN, aS, aL, aT, aF, aW, aB⟩ := u
  obtain ⟨gT, gP, gl, gk, bL, bP, bQ⟩ := v
  refine x_shift X (fun h => ?_) (fun m u' h X' => ?_)
  · exact y_shift Y (fun _ => ⟨rfl, T, P, n, q, X, Y⟩) (fun m v' h' _ => by omega)
  · refine y_shift Y (fun h' => by omega) (fun m' v' h' Y' => ?_)
    have : m' = m := by omega
    subst this
    exact ⟨rfl, _, _, _, _, X', Y'⟩
theorem i_vc_ask {k : Nat} {u : SX} {v : SY} (I : i_Rel k u v) (hk : k + 2 ≤ 1024) (v1 : Int32) : wpX_ask (fun r u' => wpY_ask (fun r' v' => r' = r ∧ i_Rel (k + 2) u' v') v v1) u v1 := by
  obtain ⟨T, P, n, q, X, Y⟩ := I
  obtain ⟨fT, fP, fB, fM, fL, fR, aX, aP, aN, aS, aL, aT, aF, aW, aB⟩ := u
  obtain ⟨gT, gP, gl, gk, bL, bP, bQ⟩ := v
  refine x_ask X (fun h => ?_) (fun h e => ?_) (fun d u' h hd e X' => ?_)
  · exact y_ask Y (fun _ => ⟨rfl, T, P, n, q, X, Y⟩) (fun h' _ => by omega) (fun d v' h' _ _ _ => by omega)
  · exact y_ask Y (fun h' => by omega) (fun _ _ => ⟨rfl, T, P, n, q, X, Y⟩) (fun d v' _ h1 h2 _ => absurd ⟨d, h1, h2⟩ e)
  · refine y_ask Y (fun h' => by omega) (fun _ z => absurd ⟨d, hd, e⟩ z) (fun d' v' _ h1 h2 Y' => ?_)
    have : d = d' := (nI_eq (by omega) (by omega)).mp (e.symm.trans h2)
    subst this
    exact ⟨rfl, _, _, _, _, X', Y'⟩
theorem i_vc_wipe {k : Nat} {u : SX} {v : SY} (I : i_Rel k u v) (hk : k + 2 ≤ 1024) : wpX_wipe (fun r u' => wpY_wipe (fun r' v' => r' = r ∧ i_Rel (k + 2) u' v') v) u := by
  obtain ⟨T, P, n, q, X, Y⟩ := I
  obtain ⟨fT, fP, fB, fM, fL, fR, aX, aP, aN, aS, aL, aT, aF, aW, aB⟩ := u
  obtain ⟨gT, gP, gl, gk, bL, bP, bQ⟩ := v
  exact x_wipe X fun u' X' => y_wipe Y fun v' Y' => ⟨rfl, _, _, _, _, X', Y'⟩
theorem i_vc_count {k : Nat} {u : SX} {v : SY} (I : i_Rel k u v) (hk : k + 2 ≤ 1024) : wpX_count (fun r u' => wpY_count (fun r' => r' = r ∧ i_Rel (k + 2) u' v) v) u := by
  obtain ⟨T, P, n, q, X, Y⟩ := I
  obtain ⟨fT, fP, fB, fM, fL, fR, aX, aP, aN, aS, aL, aT, aF, aW, aB⟩ := u
  obtain ⟨gT, gP, gl, gk, bL, bP, bQ⟩ := v
  exact x_count X (fun h => y_count Y (fun _ => ⟨rfl, _, _, _, _, X, Y⟩) (fun h' => by omega)) (fun u' X' h => y_count Y (fun h' => by omega) (fun _ => ⟨rfl, _, _, _, _, X', Y⟩))
theorem i_vc_place {k : Nat} {u : SX} {v : SY} (I : i_Rel k u v) (hk : k + 2 ≤ 1024) : wpX_place (fun r u' => wpY_place (fun r' => r' = r ∧ i_Rel (k + 2) u' v) v) u := by
  obtain ⟨T, P, n, q, X, Y⟩ := I
  obtain ⟨fT, fP, fB, fM, fL, fR, aX, aP, aN, aS, aL, aT, aF, aW, aB⟩ := u
  obtain ⟨gT, gP, gl, gk, bL, bP, bQ⟩ := v
  exact x_place X (fun h => y_place Y (fun _ => ⟨rfl, _, _, _, _, X, Y⟩) (fun _ h' => by omega)) (fun r u' X' h s => y_place Y (fun h' => by omega) (fun r' _ s' => ⟨sp_place_u s' s, _, _, _, _, X', Y⟩))
theorem i_vc_words {k : Nat} {u : SX} {v : SY} (I : i_Rel k u v) (hk : k + 2 ≤ 1024) : wpX_words (fun r u' => wpY_words (fun r' v' => r' = r ∧ i_Rel (k + 2) u' v') v) u := by
  obtain ⟨T, P, n, q, X, Y⟩ := I
  obtain ⟨fT, fP, fB, fM, fL, fR, aX, aP, aN, aS, aL, aT, aF, aW, aB⟩ := u
  obtain ⟨gT, gP, gl, gk, bL, bP, bQ⟩ := v
  exact x_words X fun u' X' => y_words Y fun v' Y' => ⟨rfl, _, _, _, _, X', Y'⟩
theorem i_vc_longest {k : Nat} {u : SX} {v : SY} (I : i_Rel k u v) (hk : k + 2 ≤ 1024) (v1 : Int32) : wpX_longest (fun r u' => wpY_longest (fun r' v' => r' = r ∧ i_Rel (k + 2) u' v') v v1) u v1 := by
  obtain ⟨T, P, n, q, X, Y⟩ := I
  obtain ⟨fT, fP, fB, fM, fL, fR, aX, aP, aN, aS, aL, aT, aF, aW, aB⟩ := u
  obtain ⟨gT, gP, gl, gk, bL, bP, bQ⟩ := v
  refine x_longest X (fun h => ?_) (fun u' t L X' e ht h1 h2 s => ?_)
  · refine y_longest Y (fun _ => ⟨rfl, T, P, n, q, X, Y⟩) (fun v' t L Y' e ht h1 h2 s => ?_)
    rcases h with h | h
    · exact absurd h h1
    · exact absurd h2 h
  · refine y_longest Y (fun h => ?_) (fun v' t' L' Y' e' ht' _ _ s' => ?_)
    · rcases h with h | h
      · exact absurd h h1
      · exact absurd h2 h
    · have : t' = t := (nI_eq (by omega) (by omega)).mp (e'.symm.trans e)
      subst this
      exact ⟨by rw [sp_long_u s' s], _, _, _, _, X', Y'⟩
theorem i_vc_repeats {k : Nat} {u : SX} {v : SY} (I : i_Rel k u v) (hk : k + 2 ≤ 1024) : wpX_repeats (fun r u' => wpY_repeats (fun r' v' => r' = r ∧ i_Rel (k + 2) u' v') v) u := by
  obtain ⟨T, P, n, q, X, Y⟩ := I
  obtain ⟨fT, fP, fB, fM, fL, fR, aX, aP, aN, aS, aL, aT, aF, aW, aB⟩ := u
  obtain ⟨gT, gP, gl, gk, bL, bP, bQ⟩ := v
  exact x_repeats X fun u' X' => y_repeats Y fun v' Y' => ⟨rfl, _, _, _, _, X', Y'⟩
theorem i_vc_word {k : Nat} {u : SX} {v : SY} (I : i_Rel k u v) (hk : k + 2 ≤ 1024) (v1 : Int32) : wpX_word (fun r u' => wpY_word (fun r' v' => r' = r ∧ i_Rel (k + 2) u' v') v v1) u v1 := by
  obtain ⟨T, P, n, q, X, Y⟩ := I
  obtain ⟨fT, fP, fB, fM, fL, fR, aX, aP, aN, aS, aL, aT, aF, aW, aB⟩ := u
  obtain ⟨gT, gP, gl, gk, bL, bP, bQ⟩ := v
  have c6 : (EN T n []).length ≤ 625 := EN_625 (fun i hi => (X.2.2.2.2.1 i (by have := X.2.2.1; omega)).1) X.2.2.1 []
  refine x_word X (fun u' X' h => ?_) (fun u' m r X' e hm s => ?_)
  · refine y_word Y (fun v' Y' _ => ⟨rfl, _, _, _, _, X', Y'⟩) (fun v' m r Y' e hm s => ?_)
    exfalso
    subst e
    rcases h with h | h
    · exact nI_pos (by omega) h
    · exact h (nI_lt hm (by omega))
  · refine y_word Y (fun v' Y' h => ?_) (fun v' m' r' Y' e' hm' s' => ?_)
    · exfalso
      subst e
      rcases h with h | h
      · exact nI_pos (by omega) h
      · exact h (nI_lt hm (by omega))
    · have : m' = m := (nI_eq (by omega) (by omega)).mp (e'.symm.trans e)
      subst this
      exact ⟨sp_word_u s' s, _, _, _, _, X', Y'⟩
theorem i_vc_rank {k : Nat} {u : SX} {v : SY} (I : i_Rel k u v) (hk : k + 2 ≤ 1024) : wpX_rank (fun r u' => wpY_rank (fun r' v' => r' = r ∧ i_Rel (k + 2) u' v') v) u := by
  obtain ⟨T, P, n, q, X, Y⟩ := I
  obtain ⟨fT, fP, fB, fM, fL, fR, aX, aP, aN, aS, aL, aT, aF, aW, aB⟩ := u
  obtain ⟨gT, gP, gl, gk, bL, bP, bQ⟩ := v
  exact x_rank X (fun h => y_rank Y (fun _ => ⟨rfl, _, _, _, _, X, Y⟩) (fun _ _ h' => by omega)) (fun u' X' h => y_rank Y (fun h' => by omega) (fun v' Y' _ => ⟨rfl, _, _, _, _, X', Y'⟩))
theorem i_vc_common {k : Nat} {u : SX} {v : SY} (I : i_Rel k u v) (hk : k + 2 ≤ 1024) : wpX_common (fun r u' => wpY_common (fun r' => r' = r ∧ i_Rel (k + 2) u' v) v) u := by
  obtain ⟨T, P, n, q, X, Y⟩ := I
  obtain ⟨fT, fP, fB, fM, fL, fR, aX, aP, aN, aS, aL, aT, aF, aW, aB⟩ := u
  obtain ⟨gT, gP, gl, gk, bL, bP, bQ⟩ := v
  exact x_common X fun u' M X' s => y_common Y fun M' s' => ⟨by rw [sp_com_u s' s], _, _, _, _, X', Y⟩
theorem i_vc_unique {k : Nat} {u : SX} {v : SY} (I : i_Rel k u v) (hk : k + 2 ≤ 1024) (v1 : Int32) : wpX_unique (fun r u' => wpY_unique (fun r' => r' = r ∧ i_Rel (k + 2) u' v) v v1) u v1 := by
  obtain ⟨T, P, n, q, X, Y⟩ := I
  obtain ⟨fT, fP, fB, fM, fL, fR, aX, aP, aN, aS, aL, aT, aF, aW, aB⟩ := u
  obtain ⟨gT, gP, gl, gk, bL, bP, bQ⟩ := v
  have hn := X.2.2.1
  refine x_unique X (fun h => ?_) (fun u' p r X' e hp s => ?_)
  · refine y_unique Y (fun _ => ⟨rfl, _, _, _, _, X, Y⟩) (fun p r e hp s => ?_)
    exfalso
    subst e
    rcases h with h | h
    · exact nI_pos (by omega) h
    · exact h (nI_lt hp (by omega))
  · refine y_unique Y (fun h => ?_) (fun p' r' e' hp' s' => ?_)
    · exfalso
      subst e
      rcases h with h | h
      · exact nI_pos (by omega) h
      · exact h (nI_lt hp (by omega))
    · have : p' = p := (nI_eq (by omega) (by omega)).mp (e'.symm.trans e)
      subst this
      exact ⟨sp_uniq_u s' s, _, _, _, _, X', Y⟩
end
