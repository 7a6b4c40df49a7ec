section
theorem pk_us {f : Nat → Int32} {k : Nat} {x : Int32} : upd f k x k = x := if_pos rfl
theorem pk_un {f : Nat → Int32} {k j : Nat} {x : Int32} (h : j ≠ k) : upd f k x j = f j := if_neg h
theorem pk_sub {a b : Nat} (h : b ≤ a) : nI a - nI b = nI (a - b) := by
  obtain ⟨c, rfl⟩ : ∃ c, a = c + b := ⟨a - b, by omega⟩
  rw [← nI_add, Int32.add_sub_cancel, Nat.add_sub_cancel]
theorem pk_m1 (n : Nat) : nI (n + 1) + (-1) = nI n := by
  rw [← nI_1, Int32.add_assoc, show (1 : Int32) + (-1) = 0 from rfl, Int32.add_zero]
theorem pk_mul (a b : Nat) : nI a * nI b = nI (a * b) := (Int32.ofNat_mul a b).symm
theorem pk_div {a d : Nat} (ha : a < 2 ^ 31) (h0 : 0 < d) (hd : d < 2 ^ 31) : nI a / nI d = nI (a / d) := by
  apply Int32.toInt_inj.mp
  rw [lg_idiv_nonneg (by rw [nI_toInt ha]; omega) (by rw [nI_toInt hd]; omega), nI_toInt ha, nI_toInt hd, nI_toInt (Nat.lt_of_le_of_lt (Nat.div_le_self a d) ha)]
  first | rfl | exact (Int.natCast_ediv _ _).symm
theorem pk_rem {a d : Nat} (ha : a < 2 ^ 31) (h0 : 0 < d) (hd : d < 2 ^ 31) : nI a - nI a / nI d * nI d = nI (a % d) := by
  rw [pk_div ha h0 hd, pk_mul, pk_sub (Nat.div_mul_le_self a d)]
  exact congrArg nI (by have := Nat.div_add_mod' a d; omega)
theorem pk_sub_toInt {a b : Nat} (ha : a < 2 ^ 30) (hb : b < 2 ^ 30) : (nI a - nI b).toInt = (a : Int) - b := by
  rw [Int32.toInt_sub, nI_toInt (by omega), nI_toInt (by omega)]
  exact Int.bmod_eq_of_le (by omega) (by omega)
theorem pk_sneg {a b : Nat} (hb : b < 2 ^ 30) (h : a < b) : nI a - nI b < 0 := by
  rw [Int32.lt_iff_toInt_lt, pk_sub_toInt (by omega) hb, show (0 : Int32).toInt = 0 from by decide]
  omega
theorem pk_ix (x : Int32) {n : Nat} (hn : n < 2 ^ 31) : x < 0 ∨ nI n ≤ x ∨ ∃ j : Nat, j < n ∧ x = nI j := by
  by_cases h : x < 0
  · exact Or.inl h
  · obtain ⟨j, hj, rfl⟩ := nI_of h
    by_cases h2 : j < n
    · exact Or.inr (Or.inr ⟨j, h2, rfl⟩)
    · exact Or.inr (Or.inl (nI_le (by omega) hj))
theorem pk_le {x y : Int32} {A B : Prop} (a b : Nat) (f : a ≤ b → A) (g : b < a → B) (hx : x = nI a := by rfl) (hy : y = nI b := by rfl) (ha : a < 2 ^ 31 := by omega) (hb : b < 2 ^ 31 := by omega) : (x ≤ y → A) ∧ (¬ x ≤ y → B) := by
  subst hx hy
  rw [nI_leI ha hb]
  exact ⟨f, fun z => g (by omega)⟩
theorem pk_lt {x y : Int32} {A B : Prop} (a b : Nat) (f : a < b → A) (g : b ≤ a → B) (hx : x = nI a := by rfl) (hy : y = nI b := by rfl) (ha : a < 2 ^ 31 := by omega) (hb : b < 2 ^ 31 := by omega) : (x < y → A) ∧ (¬ x < y → B) := by
  subst hx hy
  rw [nI_ltI ha hb]
  exact ⟨f, fun z => g (by omega)⟩
theorem pk_eq {x y : Int32} {A B : Prop} (a b : Nat) (f : a = b → A) (g : a ≠ b → B) (hx : x = nI a := by rfl) (hy : y = nI b := by rfl) (ha : a < 2 ^ 31 := by omega) (hb : b < 2 ^ 31 := by omega) : (x = y → A) ∧ (¬ x = y → B) := by
  subst hx hy
  rw [nI_eq ha hb]
  exact ⟨f, g⟩
theorem pk_in {x : Int32} (n N : Nat) (h : n < N) (hx : x = nI n := by rfl) (hN : N < 2 ^ 31 := by omega) : vp_in x N := by
  subst hx
  exact vp_in_nI h hN
theorem pk_cl {x : Int32} (n : Nat) (hx : x = nI n := by rfl) (h : n < 2 ^ 31 := by omega) : x.toNatClampNeg = n := by
  subst hx
  exact nI_clamp h
end
section
/-! scans, counts, places in a list -/
def ss_ex (p : Nat → Bool) : Nat → Bool
  | 0 => false
  | m + 1 => ss_ex p m || p m
theorem ss_ex_iff {p : Nat → Bool} : ∀ {m : Nat}, ss_ex p m = true ↔ ∃ i, i < m ∧ p i = true
  | 0 => ⟨fun h => absurd h (by simp [ss_ex]), fun ⟨i, h, _⟩ => absurd h (Nat.not_lt_zero i)⟩
  | m + 1 => by
    rw [ss_ex, Bool.or_eq_true, ss_ex_iff (m := m)]
    constructor
    · rintro (⟨i, h, e⟩ | e)
      · exact ⟨i, by omega, e⟩
      · exact ⟨m, by omega, e⟩
    · rintro ⟨i, h, e⟩
      rcases Nat.lt_or_ge i m with z | z
      · exact Or.inl ⟨i, z, e⟩
      · have : i = m := by omega
        subst this; exact Or.inr e
theorem ss_ex_f {p : Nat → Bool} {m : Nat} : ss_ex p m = false ↔ ∀ i, i < m → p i = false := by
  constructor
  · intro h i hi
    cases hp : p i with
    | false => rfl
    | true => rw [ss_ex_iff.mpr ⟨i, hi, hp⟩] at h; cases h
  · intro h
    cases hp : ss_ex p m with
    | false => rfl
    | true =>
      obtain ⟨i, hi, e⟩ := ss_ex_iff.mp hp
      rw [h i hi] at e; cases e
theorem ss_ex_congr {p q : Nat → Bool} : ∀ {m : Nat}, (∀ i, i < m → p i = q i) → ss_ex p m = ss_ex q m
  | 0, _ => rfl
  | m + 1, h => by rw [ss_ex, ss_ex, ss_ex_congr (m := m) (fun i hi => h i (by omega)), h m (by omega)]
def ss_inL (lo : Nat → Nat) (e z : Nat) : Bool := ss_ex (fun i => lo i == z) e
theorem ss_inL_iff {lo : Nat → Nat} {e z : Nat} : ss_inL lo e z = true ↔ ∃ i, i < e ∧ lo i = z := by
  rw [ss_inL, ss_ex_iff]
  simp only [beq_iff_eq]
theorem ss_inL_s (lo : Nat → Nat) (e z : Nat) : ss_inL lo (e + 1) z = (ss_inL lo e z || lo e == z) := rfl
theorem ss_inL_mono {lo : Nat → Nat} {a b z : Nat} (h : a ≤ b) (hz : ss_inL lo a z = true) : ss_inL lo b z = true := by
  obtain ⟨i, hi, e⟩ := ss_inL_iff.mp hz
  exact ss_inL_iff.mpr ⟨i, by omega, e⟩
theorem ss_inL_congr {lo lo' : Nat → Nat} {e z : Nat} (h : ∀ i, i < e → lo i = lo' i) : ss_inL lo e z = ss_inL lo' e z :=
  ss_ex_congr (fun i hi => by simp only [h i hi])
def ss_cn (f : Nat → Nat) (c : Nat) : Nat → Nat
  | 0 => 0
  | m + 1 => ss_cn f c m + (if f m = c then 1 else 0)
theorem ss_cn_t {f : Nat → Nat} {c m : Nat} (h : f m = c) : ss_cn f c (m + 1) = ss_cn f c m + 1 := by rw [ss_cn, if_pos h]
theorem ss_cn_f {f : Nat → Nat} {c m : Nat} (h : f m ≠ c) : ss_cn f c (m + 1) = ss_cn f c m := by rw [ss_cn, if_neg h]; rfl
theorem ss_cn_mono {f : Nat → Nat} {c a : Nat} : ∀ {b : Nat}, a ≤ b → ss_cn f c a ≤ ss_cn f c b
  | 0, h => by
    have : a = 0 := by omega
    subst this; exact Nat.le_refl _
  | b + 1, h => by
    rcases Nat.lt_or_ge b a with z | z
    · have : a = b + 1 := by omega
      subst this; exact Nat.le_refl _
    · have := ss_cn_mono (f := f) (c := c) (b := b) z
      rw [ss_cn]; exact Nat.le_trans this (Nat.le_add_right _ _)
theorem ss_cn_lt {f : Nat → Nat} {c a b : Nat} (h : a < b) (e : f a = c) : ss_cn f c a < ss_cn f c b := by
  have h1 := ss_cn_mono (f := f) (c := c) (a := a + 1) (b := b) h
  rw [ss_cn_t e] at h1; exact h1
theorem ss_cn_lti {f : Nat → Nat} {c a b : Nat} (e : f a = c) : ss_cn f c a < ss_cn f c b ↔ a < b := by
  constructor
  · intro h
    rcases Nat.lt_or_ge a b with z | z
    · exact z
    · have := ss_cn_mono (f := f) (c := c) z; omega
  · exact fun h => ss_cn_lt h e
theorem ss_cn_inj {f : Nat → Nat} {c a b : Nat} (ea : f a = c) (eb : f b = c) (h : ss_cn f c a = ss_cn f c b) : a = b := by
  rcases Nat.lt_trichotomy a b with z | z | z
  · have := ss_cn_lt z ea; omega
  · exact z
  · have := ss_cn_lt z eb; omega
theorem ss_cn_ex {f : Nat → Nat} {c k : Nat} : ∀ {m : Nat}, k < ss_cn f c m → ∃ i, i < m ∧ f i = c ∧ ss_cn f c i = k
  | 0, h => by simp [ss_cn] at h
  | m + 1, h => by
    by_cases e : f m = c
    · rcases Nat.lt_or_ge k (ss_cn f c m) with z | z
      · obtain ⟨i, hi, x, y⟩ := ss_cn_ex z
        exact ⟨i, by omega, x, y⟩
      · rw [ss_cn_t e] at h
        exact ⟨m, by omega, e, by omega⟩
    · rw [ss_cn_f e] at h
      obtain ⟨i, hi, x, y⟩ := ss_cn_ex h
      exact ⟨i, by omega, x, y⟩
theorem ss_cn_congr {f g : Nat → Nat} {c : Nat} : ∀ {m : Nat}, (∀ i, i < m → f i = g i) → ss_cn f c m = ss_cn g c m
  | 0, _ => rfl
  | m + 1, h => by rw [ss_cn, ss_cn, ss_cn_congr (m := m) (fun i hi => h i (by omega)), h m (by omega)]
theorem ss_cn_le (f : Nat → Nat) (c : Nat) : ∀ m : Nat, ss_cn f c m ≤ m
  | 0 => Nat.le_refl _
  | m + 1 => by
    have := ss_cn_le f c m
    by_cases e : f m = c
    · rw [ss_cn_t e]; omega
    · rw [ss_cn_f e]; omega
theorem ss_cn_3 {f : Nat → Nat} (h : ∀ i, f i < 3) : ∀ m : Nat, ss_cn f 0 m + ss_cn f 1 m + ss_cn f 2 m = m
  | 0 => rfl
  | m + 1 => by
    have ih := ss_cn_3 h m
    have hm := h m
    have h3 : f m = 0 ∨ f m = 1 ∨ f m = 2 := by omega
    rcases h3 with e | e | e
    · rw [ss_cn_t e, ss_cn_f (c := 1) (by omega), ss_cn_f (c := 2) (by omega)]; omega
    · rw [ss_cn_t e, ss_cn_f (c := 0) (by omega), ss_cn_f (c := 2) (by omega)]; omega
    · rw [ss_cn_t e, ss_cn_f (c := 0) (by omega), ss_cn_f (c := 1) (by omega)]; omega
/-- how many of H stand before t -/
def ss_pos (H : Nat → Bool) (t : Nat) : List Nat → Nat
  | [] => 0
  | z :: l => if z = t then 0 else (if H z = true then 1 else 0) + ss_pos H t l
def ss_ix (t : Nat) (l : List Nat) : Nat := ss_pos (fun _ => true) t l
theorem ss_pos_h {H : Nat → Bool} {t : Nat} {l : List Nat} : ss_pos H t (t :: l) = 0 := if_pos rfl
theorem ss_pos_n {H : Nat → Bool} {z t : Nat} {l : List Nat} (h : z ≠ t) : ss_pos H t (z :: l) = (if H z = true then 1 else 0) + ss_pos H t l := if_neg h
theorem ss_ix_h {t : Nat} {l : List Nat} : ss_ix t (t :: l) = 0 := if_pos rfl
theorem ss_ix_n {z t : Nat} {l : List Nat} (h : z ≠ t) : ss_ix t (z :: l) = 1 + ss_ix t l := if_neg h
theorem ss_pos_congr {H H' : Nat → Bool} {t : Nat} : ∀ {l : List Nat}, (∀ y, y ∈ l → H y = H' y) → ss_pos H t l = ss_pos H' t l
  | [], _ => rfl
  | z :: l, h => by rw [ss_pos, ss_pos, h z List.mem_cons_self, ss_pos_congr (fun y hy => h y (List.mem_cons_of_mem z hy))]
theorem ss_pos_mono {H : Nat → Bool} {a b : Nat} : ∀ {l : List Nat}, ss_ix a l ≤ ss_ix b l → ss_pos H a l ≤ ss_pos H b l
  | [], _ => Nat.le_refl _
  | z :: l, h => by
    by_cases ea : z = a
    · subst ea; rw [ss_pos_h]; exact Nat.zero_le _
    · by_cases eb : z = b
      · subst eb; rw [ss_ix_h, ss_ix_n ea] at h; omega
      · rw [ss_ix_n ea, ss_ix_n eb] at h
        rw [ss_pos_n ea, ss_pos_n eb]
        exact Nat.add_le_add_left (ss_pos_mono (by omega)) _
theorem ss_pos_lt {H : Nat → Bool} {a b : Nat} (ha : H a = true) : ∀ {l : List Nat}, ss_ix a l < ss_ix b l → ss_pos H a l < ss_pos H b l
  | [], h => absurd h (Nat.lt_irrefl _)
  | z :: l, h => by
    by_cases eb : z = b
    · subst eb; rw [ss_ix_h] at h; omega
    · by_cases ea : z = a
      · subst ea; rw [ss_pos_h, ss_pos_n eb, if_pos ha]; omega
      · rw [ss_ix_n ea, ss_ix_n eb] at h; rw [ss_pos_n ea, ss_pos_n eb]
        exact Nat.add_lt_add_left (ss_pos_lt ha (by omega)) _
theorem ss_ix_inj {a b : Nat} : ∀ {l : List Nat}, a ∈ l → ss_ix a l = ss_ix b l → a = b
  | [], h, _ => by cases h
  | z :: l, h, e => by
    by_cases ea : z = a
    · by_cases eb : z = b
      · rw [← ea, ← eb]
      · subst ea; rw [ss_ix_h, ss_ix_n eb] at e; omega
    · by_cases eb : z = b
      · subst eb; rw [ss_ix_h, ss_ix_n ea] at e; omega
      · rw [ss_ix_n ea, ss_ix_n eb] at e
        refine ss_ix_inj (l := l) ?_ (by omega)
        rcases List.mem_cons.mp h with r | r
        · exact absurd r.symm ea
        · exact r
theorem ss_pos_add {H H' : Nat → Bool} {q t : Nat} (ht : q ≠ t) (hq : H q = false) : ∀ {l : List Nat}, l.Nodup → (∀ y, y ∈ l → H' y = (H y || y == q)) → ss_pos H' t l = ss_pos H t l + (if ss_ix q l < ss_ix t l then 1 else 0)
  | [], _, _ => rfl
  | z :: l, h, hH => by
    have hl := (List.nodup_cons.mp h)
    have hz := hH z List.mem_cons_self
    have hr : ∀ y, y ∈ l → H' y = (H y || y == q) := fun y hy => hH y (List.mem_cons_of_mem z hy)
    by_cases et : z = t
    · subst et; rw [ss_pos_h, ss_pos_h, ss_ix_h, if_neg (Nat.not_lt_zero _)]
    · by_cases eq : z = q
      · subst eq
        rw [hq, beq_self_eq_true, Bool.or_true] at hz
        have e : ss_pos H' t l = ss_pos H t l := ss_pos_congr (fun y hy => by
          have hne : y ≠ z := fun e => hl.1 (e ▸ hy)
          rw [hr y hy, beq_false_of_ne hne, Bool.or_false])
        rw [ss_pos_n et, ss_pos_n et, ss_ix_h, ss_ix_n et, hq, hz, if_pos rfl, if_neg (by decide), if_pos (by omega), e]; omega
      · rw [beq_false_of_ne eq, Bool.or_false] at hz
        rw [ss_pos_n et, ss_pos_n et, ss_ix_n eq, ss_ix_n et, ss_pos_add ht hq hl.2 hr, hz]
        have : (1 + ss_ix q l < 1 + ss_ix t l) ↔ (ss_ix q l < ss_ix t l) := by omega
        simp only [this]; omega
theorem ss_pos_ins {H : Nat → Bool} {x t : Nat} (ht : t ≠ x) (hx : H x = false) : ∀ (A B : List Nat), ss_pos H t (A ++ x :: B) = ss_pos H t (A ++ B)
  | [], B => by
    show ss_pos H t (x :: B) = ss_pos H t B
    rw [ss_pos_n (Ne.symm ht), hx, if_neg (by decide), Nat.zero_add]
  | z :: A, B => by
    show ss_pos H t (z :: (A ++ x :: B)) = ss_pos H t (z :: (A ++ B))
    rw [ss_pos, ss_pos, ss_pos_ins ht hx A B]
theorem ss_ix_ins {x t : Nat} (ht : t ≠ x) : ∀ (A B : List Nat), ss_ix t (A ++ x :: B) = if ss_ix t (A ++ B) < A.length then ss_ix t (A ++ B) else ss_ix t (A ++ B) + 1
  | [], B => by
    show ss_ix t (x :: B) = if ss_ix t B < 0 then ss_ix t B else ss_ix t B + 1
    rw [ss_ix_n (Ne.symm ht), if_neg (Nat.not_lt_zero _)]; omega
  | z :: A, B => by
    show ss_ix t (z :: (A ++ x :: B)) = if ss_ix t (z :: (A ++ B)) < A.length + 1 then ss_ix t (z :: (A ++ B)) else ss_ix t (z :: (A ++ B)) + 1
    by_cases e : z = t
    · subst e; rw [ss_ix_h, ss_ix_h, if_pos (by omega)]
    · rw [ss_ix_n e, ss_ix_n e, ss_ix_ins ht A B]
      by_cases h : ss_ix t (A ++ B) < A.length
      · rw [if_pos h, if_pos (by omega)]
      · rw [if_neg h, if_neg (by omega)]; omega
theorem ss_pos_at {H : Nat → Bool} {x : Nat} : ∀ (A B : List Nat), x ∉ A → ss_pos H x (A ++ x :: B) = A.countP H
  | [], B, _ => ss_pos_h
  | z :: A, B, h => by
    have hz : z ≠ x := fun e => h (e ▸ List.mem_cons_self)
    have hA : x ∉ A := fun e => h (List.mem_cons_of_mem z e)
    show ss_pos H x (z :: (A ++ x :: B)) = _
    rw [ss_pos_n hz, ss_pos_at A B hA, List.countP_cons]; omega
theorem ss_ix_at {x : Nat} (A B : List Nat) (h : x ∉ A) : ss_ix x (A ++ x :: B) = A.length := by
  rw [ss_ix, ss_pos_at A B h]; simp
theorem ss_sp {t : Nat} {l : List Nat} (h : t ∈ l) : ∃ A B, l = A ++ t :: B ∧ t ∉ A ∧ (∀ H, ss_pos H t l = A.countP H) ∧ ss_ix t l = A.length := by
  obtain ⟨A, B, e, hA⟩ := List.eq_append_cons_of_mem h
  subst e
  exact ⟨A, B, rfl, hA, fun H => ss_pos_at A B hA, ss_ix_at A B hA⟩
theorem ss_ix_lt {t : Nat} {l : List Nat} (h : t ∈ l) : ss_ix t l < l.length := by
  obtain ⟨A, B, e, _, _, hi⟩ := ss_sp h
  rw [hi, e]; simp
theorem ss_pos_le {H : Nat → Bool} {t : Nat} : ∀ {l : List Nat}, ss_pos H t l ≤ (l.filter H).length
  | [] => Nat.le_refl _
  | z :: l => by
    have ih := ss_pos_le (H := H) (t := t) (l := l)
    by_cases e : z = t
    · subst e; rw [ss_pos_h]; exact Nat.zero_le _
    · rw [ss_pos_n e]
      by_cases hz : H z = true
      · rw [if_pos hz, List.filter_cons_of_pos hz, List.length_cons]; omega
      · rw [if_neg hz, List.filter_cons_of_neg hz]; omega
theorem ss_ix_ex {l : List Nat} (hN : l.Nodup) {j : Nat} (hj : j < l.length) : ss_ix l[j] l = j := by
  have e : l = l.take j ++ l[j] :: l.drop (j + 1) := by
    rw [List.getElem_cons_drop, List.take_append_drop]
  have hn : l[j] ∉ l.take j := by
    intro hm
    rw [e, List.nodup_append] at hN
    exact hN.2.2 _ hm _ List.mem_cons_self rfl
  have h := ss_ix_at (l.take j) (l.drop (j + 1)) hn
  rw [← e] at h
  rw [h, List.length_take]; omega
/-- the transformed place -/
def ss_shf (kd au : Nat → Nat) (x px q pq : Nat) : Nat :=
  if kd q = 1 then (if pq ≤ px then (if pq < px then px + 1 else (if kd x = 2 then px + 1 else (if au x ≤ au q then px else px + 1))) else px) else px
theorem ss_SH {kd au tg : Nat → Nat} {rl : List Nat} {H H' : Nat → Bool} (hN : rl.Nodup) {x q : Nat}
    (hq1 : kd q = 1 → tg q = q ∧ H q = false) (hq2 : kd q ≠ 1 → q ∉ rl)
    (hx : (kd x = 1 ∧ tg x = x ∧ H x = false) ∨ (kd x = 2 ∧ H (tg x) = true)) (hxr : tg x ∈ rl)
    (hH : ∀ y, y ∈ rl → H' y = (H y || y == q)) (hne : x ≠ q)
    (tie : kd x = 1 → kd q = 1 → ss_pos H q rl = ss_pos H x rl → (ss_ix q rl < ss_ix x rl ↔ au q < au x)) :
    ss_shf kd au x (ss_pos H (tg x) rl) q (ss_pos H (tg q) rl) = ss_pos H' (tg x) rl := by
  by_cases k : kd q = 1
  · obtain ⟨tq, hHq⟩ := hq1 k
    have tne : q ≠ tg x := by
      rcases hx with ⟨_, e, _⟩ | ⟨_, e⟩
      · rw [e]; exact Ne.symm hne
      · intro z; rw [← z, hHq] at e; cases e
    rw [ss_shf, if_pos k, tq, ss_pos_add tne hHq hN hH]
    rcases Nat.lt_trichotomy (ss_ix q rl) (ss_ix (tg x) rl) with z | z | z
    · have h1 : ss_pos H q rl ≤ ss_pos H (tg x) rl := ss_pos_mono (Nat.le_of_lt z)
      rw [if_pos h1, if_pos z]
      by_cases h2 : ss_pos H q rl < ss_pos H (tg x) rl
      · rw [if_pos h2]
      · rw [if_neg h2]
        rcases hx with ⟨k1, e, _⟩ | ⟨k2, e⟩
        · rw [e] at h1 h2 z
          have := (tie k1 k (by omega)).mp z
          rw [if_neg (by omega), if_neg (by omega)]
        · rw [if_pos k2]
    · exact absurd (ss_ix_inj hxr z.symm).symm tne
    · have h1 : ss_pos H (tg x) rl ≤ ss_pos H q rl := ss_pos_mono (Nat.le_of_lt z)
      rw [if_neg (c := ss_ix q rl < ss_ix (tg x) rl) (by omega)]
      show _ = ss_pos H (tg x) rl
      rcases hx with ⟨k1, e, _⟩ | ⟨k2, e⟩
      · by_cases h2 : ss_pos H q rl ≤ ss_pos H (tg x) rl
        · rw [if_pos h2, if_neg (by omega), if_neg (by omega)]
          rw [e] at h1 h2 z
          have := tie k1 k (by omega)
          have h3 : ¬ au q < au x := fun w => by have := this.mpr w; omega
          rw [if_pos (show au x ≤ au q by omega)]
        · rw [if_neg h2]
      · have := ss_pos_lt e z
        rw [if_neg (by omega)]
  · rw [ss_shf, if_neg k]
    refine ss_pos_congr (fun y hy => ?_)
    have hyq : y ≠ q := fun e => hq2 k (e ▸ hy)
    rw [hH y hy, beq_false_of_ne hyq, Bool.or_false]
end
section
/-! the grid of a client and the log; the laws of the operations -/
def ss_G (au lo : Nat → Nat) (c i k : Nat) (y : Nat) : Bool := ss_inL lo i y || (au y == c && decide (ss_cn au c y < k))
def ss_pa (au bs lo : Nat → Nat) (x y : Nat) : Bool := ss_G au lo (au x) (bs x) (ss_cn au (au x) x) y
theorem ss_G_iff {au lo : Nat → Nat} {c i k y : Nat} : ss_G au lo c i k y = true ↔ ss_inL lo i y = true ∨ (au y = c ∧ ss_cn au c y < k) := by
  rw [ss_G, Bool.or_eq_true, Bool.and_eq_true, beq_iff_eq, decide_eq_true_eq]
theorem ss_bf {b : Bool} (h : ¬ b = true) : b = false := by cases b; rfl; exact absurd rfl h
theorem ss_be {a b : Bool} (h : a = true ↔ b = true) : a = b := by
  cases a <;> cases b
  · rfl
  · exact (h.mpr rfl).symm ▸ rfl
  · exact (h.mp rfl).symm ▸ rfl
  · rfl
def ss_Tie (n : Nat) (kd au bs lo : Nat → Nat) (rl : List Nat) : Prop :=
  ∀ a b, a < n → b < n → kd a = 1 → kd b = 1 → au a ≠ au b → ss_pa au bs lo a b = false → ss_pa au bs lo b a = false →
    (∀ z, z ∈ rl → (ss_pa au bs lo a z = true ∨ ss_pa au bs lo b z = true) → ¬ (ss_ix a rl < ss_ix z rl ∧ ss_ix z rl < ss_ix b rl)) →
    ss_ix a rl < ss_ix b rl → au a < au b
def ss_P (n lg : Nat) (kd au bs tg lo rc : Nat → Nat) (rl : List Nat) : Prop :=
  (∀ i, i < lg → lo i < n ∧ ss_cn au (au (lo i)) (lo i) = ss_cn (fun j => au (lo j)) (au (lo i)) i ∧ bs (lo i) ≤ i) ∧
  (∀ c, rc c ≤ lg) ∧ (∀ z, z < n → bs z ≤ rc (au z) ∧ ∀ j, j < bs z → lo j < z) ∧ (∀ z w, z < w → w < n → au z = au w → bs z ≤ bs w) ∧
  (∀ z, z < n → (kd z = 1 ∧ tg z = z) ∨ (kd z = 2 ∧ tg z < n ∧ kd (tg z) = 1 ∧ ss_pa au bs lo z (tg z) = true)) ∧
  rl.Nodup ∧ (∀ z, z ∈ rl ↔ z < n ∧ kd z = 1) ∧ ss_Tie n kd au bs lo rl
section
variable {n lg : Nat} {kd au bs tg lo rc : Nat → Nat} {rl : List Nat}
theorem ss_P_log (P : ss_P n lg kd au bs tg lo rc rl) : ∀ i, i < lg → lo i < n ∧ ss_cn au (au (lo i)) (lo i) = ss_cn (fun j => au (lo j)) (au (lo i)) i ∧ bs (lo i) ≤ i := P.1
theorem ss_P_rc (P : ss_P n lg kd au bs tg lo rc rl) : ∀ c, rc c ≤ lg := P.2.1
theorem ss_P_bs (P : ss_P n lg kd au bs tg lo rc rl) : ∀ z, z < n → bs z ≤ rc (au z) := fun z hz => (P.2.2.1 z hz).1
theorem ss_P_bl (P : ss_P n lg kd au bs tg lo rc rl) : ∀ z, z < n → ∀ j, j < bs z → lo j < z := fun z hz => (P.2.2.1 z hz).2
theorem ss_P_bm (P : ss_P n lg kd au bs tg lo rc rl) : ∀ z w, z < w → w < n → au z = au w → bs z ≤ bs w := P.2.2.2.1
theorem ss_P_kd (P : ss_P n lg kd au bs tg lo rc rl) : ∀ z, z < n → (kd z = 1 ∧ tg z = z) ∨ (kd z = 2 ∧ tg z < n ∧ kd (tg z) = 1 ∧ ss_pa au bs lo z (tg z) = true) := P.2.2.2.2.1
theorem ss_P_nd (P : ss_P n lg kd au bs tg lo rc rl) : rl.Nodup := P.2.2.2.2.2.1
theorem ss_P_rl (P : ss_P n lg kd au bs tg lo rc rl) : ∀ z, z ∈ rl ↔ z < n ∧ kd z = 1 := P.2.2.2.2.2.2.1
theorem ss_P_ti (P : ss_P n lg kd au bs tg lo rc rl) : ss_Tie n kd au bs lo rl := P.2.2.2.2.2.2.2
theorem ss_P_tg (P : ss_P n lg kd au bs tg lo rc rl) {z : Nat} (hz : z < n) : tg z ∈ rl := by
  rcases ss_P_kd P z hz with ⟨k, e⟩ | ⟨k, h, e, _⟩
  · rw [e]; exact (ss_P_rl P z).mpr ⟨hz, k⟩
  · exact (ss_P_rl P _).mpr ⟨h, e⟩
theorem ss_pa_lt (P : ss_P n lg kd au bs tg lo rc rl) {w y : Nat} (hw : w < n) (h : ss_pa au bs lo w y = true) : y < w := by
  rcases ss_G_iff.mp h with z | ⟨e, z⟩
  · obtain ⟨j, hj, rfl⟩ := ss_inL_iff.mp z
    exact ss_P_bl P w hw j hj
  · exact (ss_cn_lti e).mp z
theorem ss_lgI (P : ss_P n lg kd au bs tg lo rc rl) {i j : Nat} (hi : i < lg) (hj : j < lg) (e : lo i = lo j) : i = j := by
  have h1 := (ss_P_log P i hi).2.1
  have h2 := (ss_P_log P j hj).2.1
  rw [← e] at h2
  exact ss_cn_inj (f := fun j => au (lo j)) (c := au (lo i)) rfl (by show au (lo j) = _; rw [e]) (h1.symm.trans h2)
theorem ss_inLog (P : ss_P n lg kd au bs tg lo rc rl) {e z : Nat} (he : e ≤ lg) (hz : z < n) : ss_inL lo e z = true ↔ ss_cn au (au z) z < ss_cn (fun j => au (lo j)) (au z) e := by
  constructor
  · intro h
    obtain ⟨i, hi, rfl⟩ := ss_inL_iff.mp h
    rw [(ss_P_log P i (by omega)).2.1]
    exact ss_cn_lt hi rfl
  · intro h
    obtain ⟨i, hi, ha, hc⟩ := ss_cn_ex h
    refine ss_inL_iff.mpr ⟨i, hi, ?_⟩
    have h1 := (ss_P_log P i (by omega)).2.1
    have ha' : au (lo i) = au z := ha
    rw [ha', hc] at h1
    exact ss_cn_inj ha' rfl h1
theorem ss_notIn (P : ss_P n lg kd au bs tg lo rc rl) {i : Nat} (hi : i < lg) : ss_inL lo i (lo i) = false := by
  refine ss_bf (fun h => ?_)
  obtain ⟨j, hj, e⟩ := ss_inL_iff.mp h
  have := ss_lgI P (by omega) hi e
  omega
theorem ss_paq (P : ss_P n lg kd au bs tg lo rc rl) {i y : Nat} (hi : i < lg) (h : ss_pa au bs lo (lo i) y = true) : ss_inL lo i y = true := by
  obtain ⟨hn, hc, hb⟩ := ss_P_log P i hi
  rcases ss_G_iff.mp h with z | ⟨e, z⟩
  · exact ss_inL_mono hb z
  · have hy : y < lo i := (ss_cn_lti e).mp z
    rw [ss_inLog P (by omega) (by omega), e, ← hc]
    exact z
theorem ss_G_s (c i k y : Nat) : ss_G au lo c (i + 1) k y = (ss_G au lo c i k y || y == lo i) := by
  refine ss_be ?_
  rw [Bool.or_eq_true, ss_G_iff, ss_G_iff, ss_inL_s, Bool.or_eq_true, beq_iff_eq, beq_iff_eq]
  constructor
  · rintro ((h | h) | h)
    · exact Or.inl (Or.inl h)
    · exact Or.inr h.symm
    · exact Or.inl (Or.inr h)
  · rintro ((h | h) | h)
    · exact Or.inl (Or.inl h)
    · exact Or.inr h
    · exact Or.inl (Or.inr h.symm)
theorem ss_G_k {x : Nat} (i y : Nat) : ss_G au lo (au x) i (ss_cn au (au x) x + 1) y = (ss_G au lo (au x) i (ss_cn au (au x) x) y || y == x) := by
  refine ss_be ?_
  rw [Bool.or_eq_true, ss_G_iff, ss_G_iff, beq_iff_eq]
  constructor
  · rintro (h | ⟨h, h2⟩)
    · exact Or.inl (Or.inl h)
    · by_cases e : ss_cn au (au x) y = ss_cn au (au x) x
      · exact Or.inr (ss_cn_inj h rfl e)
      · exact Or.inl (Or.inr ⟨h, by omega⟩)
  · rintro ((h | ⟨h, h2⟩) | h)
    · exact Or.inl h
    · exact Or.inr ⟨h, by omega⟩
    · rw [h]; exact Or.inr ⟨rfl, by omega⟩
/-- one square of the grid: operation x of a client and log entry i of another pass each other -/
theorem ss_grid (P : ss_P n lg kd au bs tg lo rc rl) {c i x : Nat} (hi : i < lg) (hqc : au (lo i) ≠ c) (hx : x < n) (hxc : au x = c) (hbs : bs x ≤ i) (hxl : ss_inL lo i x = false) :
    ss_shf kd au x (ss_pos (ss_G au lo c i (ss_cn au c x)) (tg x) rl) (lo i) (ss_pos (ss_G au lo c i (ss_cn au c x)) (tg (lo i)) rl) = ss_pos (ss_G au lo c (i + 1) (ss_cn au c x)) (tg x) rl ∧
    ss_shf kd au (lo i) (ss_pos (ss_G au lo c i (ss_cn au c x)) (tg (lo i)) rl) x (ss_pos (ss_G au lo c i (ss_cn au c x)) (tg x) rl) = ss_pos (ss_G au lo c i (ss_cn au c x + 1)) (tg (lo i)) rl := by
  subst hxc
  obtain ⟨hq, hc, hb⟩ := ss_P_log P i hi
  have A : ss_G au lo (au x) i (ss_cn au (au x) x) (lo i) = false := ss_bf (fun h => by
    rcases ss_G_iff.mp h with z | ⟨z, _⟩
    · rw [ss_notIn P hi] at z; cases z
    · exact hqc z)
  have B : ss_G au lo (au x) i (ss_cn au (au x) x) x = false := ss_bf (fun h => by
    rcases ss_G_iff.mp h with z | ⟨_, z⟩
    · rw [hxl] at z; cases z
    · omega)
  have C : ∀ y, ss_pa au bs lo x y = true → ss_G au lo (au x) i (ss_cn au (au x) x) y = true := by
    intro y h
    rcases ss_G_iff.mp h with z | z
    · exact ss_G_iff.mpr (Or.inl (ss_inL_mono hbs z))
    · exact ss_G_iff.mpr (Or.inr z)
  have D : ∀ y, ss_pa au bs lo (lo i) y = true → ss_G au lo (au x) i (ss_cn au (au x) x) y = true :=
    fun y h => ss_G_iff.mpr (Or.inl (ss_paq P hi h))
  have hne : x ≠ lo i := fun e => hqc (by rw [← e])
  have kx : (kd x = 1 ∧ tg x = x ∧ ss_G au lo (au x) i (ss_cn au (au x) x) x = false) ∨ (kd x = 2 ∧ ss_G au lo (au x) i (ss_cn au (au x) x) (tg x) = true) := by
    rcases ss_P_kd P x hx with ⟨k, e⟩ | ⟨k, _, _, e⟩
    · exact Or.inl ⟨k, e, B⟩
    · exact Or.inr ⟨k, C _ e⟩
  have kq : (kd (lo i) = 1 ∧ tg (lo i) = lo i ∧ ss_G au lo (au x) i (ss_cn au (au x) x) (lo i) = false) ∨ (kd (lo i) = 2 ∧ ss_G au lo (au x) i (ss_cn au (au x) x) (tg (lo i)) = true) := by
    rcases ss_P_kd P _ hq with ⟨k, e⟩ | ⟨k, _, _, e⟩
    · exact Or.inl ⟨k, e, A⟩
    · exact Or.inr ⟨k, D _ e⟩
  have tie : ∀ a b, a < n → b < n → kd a = 1 → kd b = 1 → au a ≠ au b → ss_pa au bs lo a b = false → ss_pa au bs lo b a = false →
      (∀ y, (ss_pa au bs lo a y = true ∨ ss_pa au bs lo b y = true) → ss_G au lo (au x) i (ss_cn au (au x) x) y = true) →
      ss_pos (ss_G au lo (au x) i (ss_cn au (au x) x)) a rl = ss_pos (ss_G au lo (au x) i (ss_cn au (au x) x)) b rl → (ss_ix a rl < ss_ix b rl ↔ au a < au b) := by
    intro a b ha hb ka kb hab pab pba hs e
    have key : ∀ a b, a < n → b < n → kd a = 1 → kd b = 1 → au a ≠ au b → ss_pa au bs lo a b = false → ss_pa au bs lo b a = false →
      (∀ y, (ss_pa au bs lo a y = true ∨ ss_pa au bs lo b y = true) → ss_G au lo (au x) i (ss_cn au (au x) x) y = true) →
      ss_pos (ss_G au lo (au x) i (ss_cn au (au x) x)) a rl = ss_pos (ss_G au lo (au x) i (ss_cn au (au x) x)) b rl → ss_ix a rl < ss_ix b rl → au a < au b := by
      intro a b ha hb ka kb hab pab pba hs e hlt
      refine ss_P_ti P a b ha hb ka kb hab pab pba (fun z _ hp hbt => ?_) hlt
      have h1 := ss_pos_mono (H := ss_G au lo (au x) i (ss_cn au (au x) x)) (Nat.le_of_lt hbt.1)
      have h2 := ss_pos_lt (H := ss_G au lo (au x) i (ss_cn au (au x) x)) (hs z hp) hbt.2
      omega
    constructor
    · exact key a b ha hb ka kb hab pab pba hs e
    · intro hlt
      rcases Nat.lt_trichotomy (ss_ix a rl) (ss_ix b rl) with z | z | z
      · exact z
      · have := ss_ix_inj ((ss_P_rl P a).mpr ⟨ha, ka⟩) z
        exact absurd (by rw [this]) hab
      · have := key b a hb ha kb ka (Ne.symm hab) pba pab (fun y h => hs y (Or.symm h)) e.symm z
        omega
  have pxq : ss_pa au bs lo x (lo i) = false := ss_bf (fun h => by have := C _ h; rw [A] at this; cases this)
  have pqx : ss_pa au bs lo (lo i) x = false := ss_bf (fun h => by have := D _ h; rw [B] at this; cases this)
  constructor
  · refine ss_SH (ss_P_nd P) (fun k => ?_) (fun k h => k ((ss_P_rl P _).mp h).2) kx (ss_P_tg P hx) (fun y _ => ss_G_s _ _ _ _) hne (fun k1 k2 e => ?_)
    · rcases kq with ⟨_, e⟩ | ⟨e, _⟩
      · exact e
      · omega
    · exact tie (lo i) x hq hx k2 k1 hqc pqx pxq (fun y h => h.elim (D y) (C y)) e
  · refine ss_SH (ss_P_nd P) (fun k => ?_) (fun k h => k ((ss_P_rl P _).mp h).2) kq (ss_P_tg P hq) (fun y _ => ss_G_k _ _) (Ne.symm hne) (fun k1 k2 e => ?_)
    · rcases kx with ⟨_, e⟩ | ⟨e, _⟩
      · exact e
      · omega
    · exact tie x (lo i) hx hq k2 k1 (Ne.symm hqc) pxq pqx (fun y h => h.elim (C y) (D y)) e
end
end
section
/-! the reference's descent finds the place that the ties ask for -/
def ss_E (n : Nat) (kd au : Nat → Nat) (ho : Nat → Bool) (c : Nat) (rl : List Nat) (L0 R0 L R : Nat) : Prop :=
  ∀ m, m < n → kd m = 1 → ho m = false → L0 ≤ ss_ix m rl → ss_ix m rl < R0 →
    (ss_ix m rl < L → ∃ w, w ≤ m ∧ kd w = 1 ∧ ho w = false ∧ au w < c ∧ ss_ix m rl ≤ ss_ix w rl ∧ ss_ix w rl < L ∧ ∀ z, z < w → kd z = 1 → ¬ (ss_ix m rl ≤ ss_ix z rl ∧ ss_ix z rl < ss_ix w rl)) ∧
    (R ≤ ss_ix m rl → ∃ w, w ≤ m ∧ kd w = 1 ∧ ho w = false ∧ c < au w ∧ ss_ix w rl ≤ ss_ix m rl ∧ R ≤ ss_ix w rl ∧ ∀ z, z < w → kd z = 1 → ¬ (ss_ix w rl < ss_ix z rl ∧ ss_ix z rl ≤ ss_ix m rl))
def ss_J (n : Nat) (kd au : Nat → Nat) (ho : Nat → Bool) (c : Nat) (rl : List Nat) (L0 R0 m0 L R : Nat) : Prop :=
  L0 ≤ L ∧ L ≤ R ∧ R ≤ R0 ∧ (∀ z, z < m0 → kd z = 1 → ¬ (L ≤ ss_ix z rl ∧ ss_ix z rl < R)) ∧ ss_E n kd au ho c rl L0 R0 L R
section
variable {n : Nat} {kd au : Nat → Nat} {ho : Nat → Bool} {c : Nat} {rl : List Nat} {L0 R0 : Nat}
theorem ss_J_0 (h : L0 ≤ R0) : ss_J n kd au ho c rl L0 R0 0 L0 R0 :=
  ⟨Nat.le_refl _, h, Nat.le_refl _, fun z hz => absurd hz (Nat.not_lt_zero z), fun m _ _ _ h1 h2 => ⟨fun h3 => absurd h3 (by omega), fun h3 => absurd h3 (by omega)⟩⟩
theorem ss_J_skip {m L R : Nat} (J : ss_J n kd au ho c rl L0 R0 m L R) (h : kd m = 1 → ¬ (L ≤ ss_ix m rl ∧ ss_ix m rl < R)) : ss_J n kd au ho c rl L0 R0 (m + 1) L R := by
  obtain ⟨a, b, d, e, f⟩ := J
  refine ⟨a, b, d, fun z hz hk => ?_, f⟩
  rcases Nat.lt_or_ge z m with y | y
  · exact e z y hk
  · have : z = m := by omega
    subst this; exact h hk
theorem ss_J_left {m L R : Nat} (J : ss_J n kd au ho c rl L0 R0 m L R) (hk : kd m = 1) (hh : ho m = false) (h1 : L ≤ ss_ix m rl) (h2 : ss_ix m rl < R) (ha : au m < c) : ss_J n kd au ho c rl L0 R0 (m + 1) (ss_ix m rl + 1) R := by
  obtain ⟨a, b, d, e, f⟩ := J
  refine ⟨by omega, by omega, d, fun z hz hkz => ?_, fun m' hm' k' o' g1 g2 => ⟨fun g3 => ?_, fun g3 => (f m' hm' k' o' g1 g2).2 g3⟩⟩
  · rcases Nat.lt_or_ge z m with y | y
    · have := e z y hkz; omega
    · have : z = m := by omega
      subst this; omega
  · rcases Nat.lt_or_ge (ss_ix m' rl) L with y | y
    · obtain ⟨w, w1, w2, w3, w4, w5, w6, w7⟩ := (f m' hm' k' o' g1 g2).1 y
      exact ⟨w, w1, w2, w3, w4, w5, by omega, w7⟩
    · refine ⟨m, ?_, hk, hh, ha, by omega, by omega, fun z hz hkz => ?_⟩
      · rcases Nat.lt_or_ge m' m with x | x
        · exact absurd ⟨y, by omega⟩ (e m' x k')
        · exact x
      · have := e z hz hkz; omega
theorem ss_J_right {m L R : Nat} (J : ss_J n kd au ho c rl L0 R0 m L R) (hk : kd m = 1) (hh : ho m = false) (h1 : L ≤ ss_ix m rl) (h2 : ss_ix m rl < R) (ha : c < au m) : ss_J n kd au ho c rl L0 R0 (m + 1) L (ss_ix m rl) := by
  obtain ⟨a, b, d, e, f⟩ := J
  refine ⟨a, h1, by omega, fun z hz hkz => ?_, fun m' hm' k' o' g1 g2 => ⟨fun g3 => (f m' hm' k' o' g1 g2).1 g3, fun g3 => ?_⟩⟩
  · rcases Nat.lt_or_ge z m with y | y
    · have := e z y hkz; omega
    · have : z = m := by omega
      subst this; omega
  · rcases Nat.lt_or_ge (ss_ix m' rl) R with y | y
    · refine ⟨m, ?_, hk, hh, ha, by omega, by omega, fun z hz hkz => ?_⟩
      · rcases Nat.lt_or_ge m' m with x | x
        · exact absurd ⟨by omega, y⟩ (e m' x k')
        · exact x
      · have := e z hz hkz; omega
    · obtain ⟨w, w1, w2, w3, w4, w5, w6, w7⟩ := (f m' hm' k' o' g1 g2).2 y
      exact ⟨w, w1, w2, w3, w4, w5, by omega, w7⟩
theorem ss_J_end {L R : Nat} (J : ss_J n kd au ho c rl L0 R0 n L R) (hN : rl.Nodup) (hr : ∀ z, z ∈ rl → z < n ∧ kd z = 1) (hR : R0 ≤ rl.length) : L = R := by
  obtain ⟨a, b, d, e, f⟩ := J
  rcases Nat.lt_or_ge L R with y | y
  · have hL : L < rl.length := by omega
    have h1 := hr rl[L] (List.getElem_mem hL)
    have h2 := e _ h1.1 h1.2
    rw [ss_ix_ex hN hL] at h2
    exact absurd ⟨Nat.le_refl _, y⟩ h2
  · omega
end
section
variable {n lg : Nat} {kd au bs tg lo rc : Nat → Nat} {rl : List Nat} {ho : Nat → Bool} {c L0 R0 L : Nat}
theorem ss_own_pa {w m : Nat} (h : w < m) (e : au m = au w) : ss_pa au bs lo m w = true :=
  ss_G_iff.mpr (Or.inr ⟨e.symm, ss_cn_lt h e.symm⟩)
theorem ss_tie_l (P : ss_P n lg kd au bs tg lo rc rl) (J : ss_J n kd au ho c rl L0 R0 n L L)
    (hL0 : L0 = 0 ∨ ∃ t, t ∈ rl ∧ ho t = true ∧ ss_ix t rl + 1 = L0)
    {m : Nat} (hm : m < n) (km : kd m = 1) (om : ho m = false)
    (hb : ∀ z, z ∈ rl → (ho z = true ∨ ss_pa au bs lo m z = true) → ¬ (ss_ix m rl < ss_ix z rl ∧ ss_ix z rl < L)) (hlt : ss_ix m rl < L) : au m < c := by
  have mr : m ∈ rl := (ss_P_rl P m).mpr ⟨hm, km⟩
  obtain ⟨a, b, d, e, f⟩ := J
  have g1 : L0 ≤ ss_ix m rl := by
    rcases hL0 with z | ⟨t, ht, ot, it⟩
    · omega
    · rcases Nat.lt_or_ge (ss_ix m rl) L0 with y | y
      · have hne : ss_ix m rl ≠ ss_ix t rl := fun q => by
          have := ss_ix_inj mr q
          rw [this, ot] at om; cases om
        exact absurd ⟨by omega, by omega⟩ (hb t ht (Or.inl ot))
      · exact y
  obtain ⟨w, w1, w2, w3, w4, w5, w6, w7⟩ := (f m hm km om g1 (by omega)).1 hlt
  by_cases ew : w = m
  · subst ew; exact w4
  · have wr : w ∈ rl := (ss_P_rl P w).mpr ⟨by omega, w2⟩
    have hlt2 : ss_ix m rl < ss_ix w rl := by
      have : ss_ix m rl ≠ ss_ix w rl := fun q => ew (ss_ix_inj mr q).symm
      omega
    have hpw : ss_pa au bs lo m w = false := ss_bf (fun q => absurd ⟨hlt2, w6⟩ (hb w wr (Or.inr q)))
    have hpm : ss_pa au bs lo w m = false := ss_bf (fun q => by have := ss_pa_lt P (by omega) q; omega)
    have hau : au m ≠ au w := fun q => by
      rw [ss_own_pa (by omega) q] at hpw; cases hpw
    have := ss_P_ti P m w hm (by omega) km w2 hau hpw hpm (fun z hz hp hbt => by
      rcases hp with q | q
      · exact hb z hz (Or.inr q) ⟨hbt.1, by omega⟩
      · exact w7 z (ss_pa_lt P (by omega) q) ((ss_P_rl P z).mp hz).2 ⟨by omega, hbt.2⟩) hlt2
    omega
theorem ss_tie_r (P : ss_P n lg kd au bs tg lo rc rl) (J : ss_J n kd au ho c rl L0 R0 n L L)
    (hR0 : R0 = rl.length ∨ ∃ t, t ∈ rl ∧ ho t = true ∧ ss_ix t rl = R0)
    {m : Nat} (hm : m < n) (km : kd m = 1) (om : ho m = false)
    (hb : ∀ z, z ∈ rl → (ho z = true ∨ ss_pa au bs lo m z = true) → ¬ (L ≤ ss_ix z rl ∧ ss_ix z rl < ss_ix m rl)) (hlt : L ≤ ss_ix m rl) : c < au m := by
  have mr : m ∈ rl := (ss_P_rl P m).mpr ⟨hm, km⟩
  obtain ⟨a, b, d, e, f⟩ := J
  have g1 : ss_ix m rl < R0 := by
    rcases hR0 with z | ⟨t, ht, ot, it⟩
    · rw [z]; exact ss_ix_lt mr
    · rcases Nat.lt_or_ge (ss_ix m rl) R0 with y | y
      · exact y
      · have hne : ss_ix m rl ≠ ss_ix t rl := fun q => by
          have := ss_ix_inj mr q
          rw [this, ot] at om; cases om
        exact absurd ⟨by omega, by omega⟩ (hb t ht (Or.inl ot))
  obtain ⟨w, w1, w2, w3, w4, w5, w6, w7⟩ := (f m hm km om (by omega) g1).2 hlt
  by_cases ew : w = m
  · subst ew; exact w4
  · have wr : w ∈ rl := (ss_P_rl P w).mpr ⟨by omega, w2⟩
    have hlt2 : ss_ix w rl < ss_ix m rl := by
      have : ss_ix m rl ≠ ss_ix w rl := fun q => ew (ss_ix_inj mr q).symm
      omega
    have hpw : ss_pa au bs lo m w = false := ss_bf (fun q => absurd ⟨w6, hlt2⟩ (hb w wr (Or.inr q)))
    have hpm : ss_pa au bs lo w m = false := ss_bf (fun q => by have := ss_pa_lt P (by omega) q; omega)
    have hau : au m ≠ au w := fun q => by
      rw [ss_own_pa (by omega) q] at hpw; cases hpw
    have := ss_P_ti P w m (by omega) hm w2 km (Ne.symm hau) hpm hpw (fun z hz hp hbt => by
      rcases hp with q | q
      · exact w7 z (ss_pa_lt P (by omega) q) ((ss_P_rl P z).mp hz).2 ⟨hbt.1, by omega⟩
      · exact hb z hz (Or.inr q) ⟨by omega, hbt.2⟩) hlt2
    omega
end
end
section
/-! the reference's readers -/
def ss_un (f : Nat → Nat) (k v : Nat) : Nat → Nat := fun j => if j = k then v else f j
theorem ss_un_s {f : Nat → Nat} {k v : Nat} : ss_un f k v k = v := if_pos rfl
theorem ss_un_n {f : Nat → Nat} {k v j : Nat} (h : j ≠ k) : ss_un f k v j = f j := if_neg h
def ss_li (f : Nat → Nat) : Nat → Int32 := fun i => nI (f i)
theorem ss_li_r (f : Nat → Nat) {k : Nat} (hk : k < 2 ^ 31) : ss_li f (nI k).toNatClampNeg = nI (f k) := by rw [nI_clamp hk]; rfl
theorem ss_li_u (f : Nat → Nat) {k : Nat} (hk : k < 2 ^ 31) (v : Nat) : upd (ss_li f) (nI k).toNatClampNeg (nI v) = ss_li (ss_un f k v) := by
  rw [nI_clamp hk]; funext j
  unfold upd ss_li ss_un
  by_cases h : j = k
  · rw [if_pos h, if_pos h]
  · rw [if_neg h, if_neg h]
def ss_b : Bool → Int32
  | true => 1
  | false => 0
theorem ss_nb (b : Bool) : narrow .boolean (.int (ss_b b)) = .int (ss_b b) := by
  cases b
  · exact narrow_b0
  · exact narrow_b1
theorem ss_fu {d f : Nat} (h : d < f) : ∃ g, f = g + 1 ∧ d ≤ g := ⟨f - 1, by omega, by omega⟩
def ss_ho (n lg : Nat) (au lo rc : Nat → Nat) (s y : Nat) : Bool := if s = 3 then ss_inL lo lg y else ss_G au lo s (rc s) (ss_cn au s n) y
def ss_hd (n : Nat) (kd tg : Nat → Nat) (H : Nat → Bool) (z : Nat) : Bool := ss_ex (fun r => kd r == 2 && (tg r == z && H r)) n
def ss_tx (n : Nat) (kd tg : Nat → Nat) (H : Nat → Bool) (z : Nat) : Bool := H z && !(ss_hd n kd tg H z)
def ss_BY (n lg : Nat) (kd au bs tg lo rc : Nat → Nat) : Prop :=
  n ≤ 64 ∧ lg ≤ 64 ∧ (∀ c, rc c ≤ 64) ∧ (∀ i, lo i < 256) ∧ (∀ i, au i < 3) ∧ (∀ i, kd i < 256) ∧ (∀ i, tg i < 256) ∧ (∀ i, bs i < 256)
def ss_R (ro : Nat → Nat) (rl : List Nat) : Prop := rl.length ≤ 48 ∧ ∀ j (h : j < rl.length), ro j = rl[j]
section
variable {oL cL wL bL n lg : Nat} {kd au pl bs tg ro lo rc : Nat → Nat} {yc la : Nat → Int32} {rl : List Nat}
theorem ss_y_inLog2 {post : Int32 → Prop} {z e : Nat} (hz : z < 256) (he : e ≤ 64) (hlo : ∀ i, lo i < 256) (hp : post (ss_b (ss_inL lo e z))) :
    ∀ d i, i + d = e → (∀ j, j < i → lo j ≠ z) → ∀ f, d < f → wY_inLog_2 post (nI z) (nI e) (nI oL) (nI cL) (nI wL) (nI bL) (nI n) (nI (rl.length)) (nI lg) (ss_li kd) (ss_li au) (ss_li pl) (ss_li bs) (ss_li tg) yc (ss_li ro) (ss_li lo) la (ss_li rc) f (nI i) := by
  intro d
  induction d with
  | zero =>
    intro i hi hj f hf
    obtain ⟨f, rfl, _⟩ := ss_fu hf
    have h0 : ss_inL lo e z = false := ss_bf (fun q => by
      obtain ⟨j, h1, h2⟩ := ss_inL_iff.mp q
      exact hj j (by omega) h2)
    rw [h0] at hp
    exact br_t (nI_le (by omega) (by omega)) hp
  | succ d ih =>
    intro i hi hj f hf
    obtain ⟨f, rfl, hg⟩ := ss_fu hf
    refine br_f (nI_ge (by omega) (by omega)) ⟨vp_in_nI (by omega) (by omega), ?_⟩
    by_cases h : lo i = z
    · rw [ss_inL_iff.mpr ⟨i, by omega, h⟩] at hp
      refine br_t ?_ hp
      rw [ss_li_r lo (by omega), h]
    · refine br_f ?_ (nm_r (nI_1 i) (ih (i + 1) (by omega) (fun j hj' => ?_) f (by omega)))
      · rw [ss_li_r lo (by omega)]
        exact fun q => h ((nI_eq (by have := hlo i; omega) (by omega)).mp q)
      · rcases Nat.lt_or_ge j i with y | y
        · exact hj j y
        · have : j = i := by omega
          subst this; exact h
theorem ss_y_inLog {post : Int32 → Prop} {z e : Nat} (hz : z < 256) (he : e ≤ 64) (hlo : ∀ i, lo i < 256) (hp : post (ss_b (ss_inL lo e z))) : wpY_inLog post ((nI oL), (nI cL), (nI wL), (nI bL), (nI n), (nI (rl.length)), (nI lg), (ss_li kd), (ss_li au), (ss_li pl), (ss_li bs), (ss_li tg), yc, (ss_li ro), (ss_li lo), la, (ss_li rc)) (nI z) (nI e) :=
  ⟨65, ss_y_inLog2 hz he hlo hp e 0 (by omega) (fun j hj => absurd hj (Nat.not_lt_zero j)) 65 (by omega)⟩
theorem ss_y_holds {post : Int32 → Prop} {s z : Nat} (B : ss_BY n lg kd au bs tg lo rc) (hs : s < 4) (hz : z < n) (hp : post (ss_b (ss_ho n lg au lo rc s z))) : wpY_holds post ((nI oL), (nI cL), (nI wL), (nI bL), (nI n), (nI (rl.length)), (nI lg), (ss_li kd), (ss_li au), (ss_li pl), (ss_li bs), (ss_li tg), yc, (ss_li ro), (ss_li lo), la, (ss_li rc)) (nI s) (nI z) := by
  obtain ⟨hn, hlg, hrc, hlo, hau, _⟩ := B
  by_cases e : s = 3
  · subst e
    refine br_t rfl ?_
    have : ss_ho n lg au lo rc 3 z = ss_inL lo lg z := if_pos rfl
    rw [this] at hp
    exact ss_y_inLog (by omega) hlg hlo ⟨ss_nb _, hp⟩
  · have e3 : ¬ nI s = 3 := fun q => e ((nI_eq (b := 3) (by omega) (by omega)).mp q)
    have hh : ss_ho n lg au lo rc s z = ss_G au lo s (rc s) (ss_cn au s n) z := if_neg e
    refine br_f e3 ⟨vp_in_nI (by omega) (by omega), ?_⟩
    by_cases ea : au z = s
    · have h1 : ss_ho n lg au lo rc s z = true := by rw [hh]; exact ss_G_iff.mpr (Or.inr ⟨ea, ss_cn_lt hz ea⟩)
      rw [h1] at hp
      refine br_t ?_ hp
      rw [ss_li_r au (by omega), ea]
    · have h1 : ss_ho n lg au lo rc s z = ss_inL lo (rc s) z := by
        rw [hh]; refine ss_be ?_; rw [ss_G_iff]
        exact ⟨fun q => q.elim id (fun w => absurd w.1 ea), Or.inl⟩
      rw [h1] at hp
      refine br_f ?_ ⟨vp_in_nI (by omega) (by omega), ?_⟩
      · rw [ss_li_r au (by omega)]
        exact fun q => ea ((nI_eq (by have := hau z; omega) (by omega)).mp q)
      · rw [ss_li_r rc (by omega)]
        exact ss_y_inLog (by omega) (hrc s) hlo ⟨ss_nb _, hp⟩
theorem ss_y_inText13 {post : Int32 → Prop} {s z : Nat} (B : ss_BY n lg kd au bs tg lo rc) (hs : s < 4) (hz : z < 256) (hp : post (ss_b (!(ss_hd n kd tg (ss_ho n lg au lo rc s) z)))) :
    ∀ d r, r + d = n → (∀ j, j < r → (kd j == 2 && (tg j == z && ss_ho n lg au lo rc s j)) = false) → ∀ f, d < f → wY_inText_13 post (nI s) (nI z) (nI oL) (nI cL) (nI wL) (nI bL) (nI n) (nI (rl.length)) (nI lg) (ss_li kd) (ss_li au) (ss_li pl) (ss_li bs) (ss_li tg) yc (ss_li ro) (ss_li lo) la (ss_li rc) f (nI r) := by
  have B' := B
  obtain ⟨hn, hlg, hrc, hlo, hau, hkd, htg, _⟩ := B'
  intro d
  induction d with
  | zero =>
    intro r hr hj f hf
    obtain ⟨f, rfl, _⟩ := ss_fu hf
    have h0 : ss_hd n kd tg (ss_ho n lg au lo rc s) z = false := ss_ex_f.mpr (fun i hi => hj i (by omega))
    rw [h0] at hp
    exact br_t (nI_le (by omega) (by omega)) hp
  | succ d ih =>
    intro r hr hj f hf
    obtain ⟨f, rfl, hg⟩ := ss_fu hf
    have go : (kd r == 2 && (tg r == z && ss_ho n lg au lo rc s r)) = false → ∀ x, x = nI r + 1 → wY_inText_13 post (nI s) (nI z) (nI oL) (nI cL) (nI wL) (nI bL) (nI n) (nI (rl.length)) (nI lg) (ss_li kd) (ss_li au) (ss_li pl) (ss_li bs) (ss_li tg) yc (ss_li ro) (ss_li lo) la (ss_li rc) f x := by
      intro h0
      refine nm_r (nI_1 r) (ih (r + 1) (by omega) (fun j hj' => ?_) f (by omega))
      rcases Nat.lt_or_ge j r with y | y
      · exact hj j y
      · have : j = r := by omega
        subst this; exact h0
    refine br_f (nI_ge (by omega) (by omega)) ⟨vp_in_nI (by omega) (by omega), ?_⟩
    by_cases h2 : kd r = 2
    · refine br_t (by rw [ss_li_r kd (by omega), h2]; rfl) ⟨vp_in_nI (by omega) (by omega), ?_⟩
      by_cases ht : tg r = z
      · refine br_t (by rw [ss_li_r tg (by omega), ht]) (ss_y_holds B hs (by omega) ?_)
        cases hh : ss_ho n lg au lo rc s r with
        | false => exact br_t rfl (go (by rw [hh]; simp))
        | true =>
          refine br_f (by decide) ?_
          have h1 : ss_hd n kd tg (ss_ho n lg au lo rc s) z = true := ss_ex_iff.mpr ⟨r, by omega, by rw [hh, h2, ht]; simp⟩
          rw [h1] at hp; exact hp
      · refine br_f ?_ (go (by rw [beq_false_of_ne ht]; simp))
        rw [ss_li_r tg (by omega)]
        exact fun q => ht ((nI_eq (by have := htg r; omega) (by omega)).mp q)
    · refine br_f ?_ (go (by rw [beq_false_of_ne h2]; simp))
      rw [ss_li_r kd (by omega)]
      exact fun q => h2 ((nI_eq (b := 2) (by have := hkd r; omega) (by omega)).mp q)
theorem ss_y_inText {post : Int32 → Prop} {s z : Nat} (B : ss_BY n lg kd au bs tg lo rc) (hs : s < 4) (hz : z < n) (hp : post (ss_b (ss_tx n kd tg (ss_ho n lg au lo rc s) z))) : wpY_inText post ((nI oL), (nI cL), (nI wL), (nI bL), (nI n), (nI (rl.length)), (nI lg), (ss_li kd), (ss_li au), (ss_li pl), (ss_li bs), (ss_li tg), yc, (ss_li ro), (ss_li lo), la, (ss_li rc)) (nI s) (nI z) := by
  have hn : n ≤ 64 := B.1
  unfold wpY_inText
  dsimp only
  refine ss_y_holds B hs hz ?_
  unfold ss_tx at hp
  cases hh : ss_ho n lg au lo rc s z with
  | false => rw [hh] at hp; exact br_t rfl hp
  | true =>
    rw [hh, Bool.true_and] at hp
    exact br_f (by decide) ⟨65, ss_y_inText13 B hs (by omega) hp n 0 (by omega) (fun j hj => absurd hj (Nat.not_lt_zero j)) 65 (by omega)⟩
theorem ss_R_ix (R : ss_R ro rl) {z : Nat} (hz : z ∈ rl) : ro (ss_ix z rl) = z := by
  obtain ⟨A, B, e, _, _, hi⟩ := ss_sp hz
  have hl := ss_ix_lt hz
  rw [R.2 _ hl]
  have : rl[ss_ix z rl]? = some z := by
    rw [hi, e, List.getElem?_append_right (Nat.le_refl _), Nat.sub_self]; rfl
  exact (List.getElem?_eq_some_iff.mp this).2
theorem ss_R_ne (R : ss_R ro rl) (hN : rl.Nodup) {z j : Nat} (hz : z ∈ rl) (h : j < ss_ix z rl) : ro j ≠ z := by
  have hl := ss_ix_lt hz
  have hj : j < rl.length := by omega
  rw [R.2 j hj]
  intro e
  have := ss_ix_ex hN hj
  rw [e] at this; omega
theorem ss_R_mem (R : ss_R ro rl) {j : Nat} (hj : j < rl.length) : ro j ∈ rl := by
  rw [R.2 j hj]; exact List.getElem_mem hj
theorem ss_y_rollIndex2 {post : Int32 → Prop} {z : Nat} (R : ss_R ro rl) (hN : rl.Nodup) (hb : ∀ y, y ∈ rl → y < 256) (hz : z ∈ rl) (hp : post (nI (ss_ix z rl))) :
    ∀ d i, i + d = ss_ix z rl → ∀ f, d < f → wY_rollIndex_2 post (nI z) (nI oL) (nI cL) (nI wL) (nI bL) (nI n) (nI (rl.length)) (nI lg) (ss_li kd) (ss_li au) (ss_li pl) (ss_li bs) (ss_li tg) yc (ss_li ro) (ss_li lo) la (ss_li rc) f (nI i) := by
  have hl := ss_ix_lt hz
  have h48 := R.1
  intro d
  induction d with
  | zero =>
    intro i hi f hf
    obtain ⟨f, rfl, _⟩ := ss_fu hf
    have : i = ss_ix z rl := by omega
    subst this
    refine br_f (nI_ge (by omega) (by omega)) ⟨vp_in_nI (by omega) (by omega), br_t ?_ hp⟩
    rw [ss_li_r ro (by omega), ss_R_ix R hz]
  | succ d ih =>
    intro i hi f hf
    obtain ⟨f, rfl, hg⟩ := ss_fu hf
    refine br_f (nI_ge (by omega) (by omega)) ⟨vp_in_nI (by omega) (by omega), br_f ?_ (nm_r (nI_1 i) (ih (i + 1) (by omega) f (by omega)))⟩
    rw [ss_li_r ro (by omega)]
    have h1 := hb _ (ss_R_mem R (show i < rl.length by omega))
    have h2 := hb _ hz
    exact fun q => ss_R_ne R hN hz (show i < ss_ix z rl by omega) ((nI_eq (by omega) (by omega)).mp q)
theorem ss_y_rollIndex {post : Int32 → Prop} {z : Nat} (R : ss_R ro rl) (hN : rl.Nodup) (hb : ∀ y, y ∈ rl → y < 256) (hz : z ∈ rl) (hp : post (nI (ss_ix z rl))) : wpY_rollIndex post ((nI oL), (nI cL), (nI wL), (nI bL), (nI n), (nI (rl.length)), (nI lg), (ss_li kd), (ss_li au), (ss_li pl), (ss_li bs), (ss_li tg), yc, (ss_li ro), (ss_li lo), la, (ss_li rc)) (nI z) :=
  ⟨49, ss_y_rollIndex2 R hN hb hz hp (ss_ix z rl) 0 (by omega) 49 (by have := ss_ix_lt hz; have := R.1; omega)⟩
end
end
section
/-! the reference's counting readers -/
theorem ss_tk_s (p : Nat → Bool) {ro : Nat → Nat} {rl : List Nat} (R : ss_R ro rl) {i : Nat} (h : i < rl.length) : (rl.take (i + 1)).countP p = (rl.take i).countP p + (if p (ro i) = true then 1 else 0) := by
  rw [List.take_succ_eq_append_getElem h, List.countP_append, List.countP_singleton, R.2 i h]
theorem ss_tk_t {p : Nat → Bool} {ro : Nat → Nat} {rl : List Nat} (R : ss_R ro rl) {i : Nat} (h : i < rl.length) (hp : p (ro i) = true) : (rl.take (i + 1)).countP p = (rl.take i).countP p + 1 := by
  rw [ss_tk_s p R h, if_pos hp]
theorem ss_tk_f {p : Nat → Bool} {ro : Nat → Nat} {rl : List Nat} (R : ss_R ro rl) {i : Nat} (h : i < rl.length) (hp : p (ro i) = false) : (rl.take (i + 1)).countP p = (rl.take i).countP p := by
  rw [ss_tk_s p R h, if_neg (by rw [hp]; decide)]; rfl
theorem ss_tk_le {p : Nat → Bool} {rl : List Nat} {i : Nat} : (rl.take i).countP p ≤ i := by
  have h1 := List.countP_le_length (p := p) (l := rl.take i)
  have h2 : (rl.take i).length ≤ i := by rw [List.length_take]; omega
  omega
theorem ss_tk_mono {p : Nat → Bool} {rl : List Nat} {i j : Nat} (h : i ≤ j) : (rl.take i).countP p ≤ (rl.take j).countP p := by
  have e : rl.take i = (rl.take j).take i := by rw [List.take_take]; congr 1; omega
  rw [e]
  exact (List.take_sublist i (rl.take j)).countP_le
theorem ss_pos_tk {H : Nat → Bool} {t : Nat} {l : List Nat} (h : t ∈ l) : ss_pos H t l = (l.take (ss_ix t l)).countP H := by
  obtain ⟨A, B, e, _, hH, hi⟩ := ss_sp h
  rw [hH, hi, e, List.take_left]
theorem ss_kth {p : Nat → Bool} : ∀ {l : List Nat} {k : Nat}, k < l.countP p → ∃ (i : Nat) (h : i < l.length), p l[i] = true ∧ (l.take i).countP p = k
  | [], k, h => by simp at h
  | z :: l, k, h => by
    by_cases hz : p z = true
    · rw [List.countP_cons_of_pos hz] at h
      cases k with
      | zero => exact ⟨0, by simp, hz, rfl⟩
      | succ k =>
        obtain ⟨i, hi, h1, h2⟩ := ss_kth (p := p) (l := l) (k := k) (by omega)
        refine ⟨i + 1, by simp; omega, h1, ?_⟩
        rw [List.take_succ_cons, List.countP_cons_of_pos hz, h2]
    · rw [List.countP_cons_of_neg hz] at h
      obtain ⟨i, hi, h1, h2⟩ := ss_kth (p := p) (l := l) (k := k) h
      refine ⟨i + 1, by simp; omega, h1, ?_⟩
      rw [List.take_succ_cons, List.countP_cons_of_neg hz, h2]
section
variable {oL cL wL bL n lg : Nat} {kd au pl bs tg ro lo rc : Nat → Nat} {yc la : Nat → Int32} {rl : List Nat}
theorem ss_y_effect42 {post : Int32 → Prop} {s e : Nat} (B : ss_BY n lg kd au bs tg lo rc) (R : ss_R ro rl) (hs : s < 4) (hb : ∀ y, y ∈ rl → y < n) (he : e ≤ rl.length)
    (hp : post (nI ((rl.take e).countP (ss_tx n kd tg (ss_ho n lg au lo rc s))))) :
    ∀ d i, i + d = e → ∀ f, d < f → wY_effect_42 post (nI s) (nI e) (nI oL) (nI cL) (nI wL) (nI bL) (nI n) (nI (rl.length)) (nI lg) (ss_li kd) (ss_li au) (ss_li pl) (ss_li bs) (ss_li tg) yc (ss_li ro) (ss_li lo) la (ss_li rc) f (nI ((rl.take i).countP (ss_tx n kd tg (ss_ho n lg au lo rc s)))) (nI i) := by
  have h48 := R.1
  intro d
  induction d with
  | zero =>
    intro i hi f hf
    obtain ⟨f, rfl, _⟩ := ss_fu hf
    have : i = e := by omega
    subst this
    exact br_t (nI_le (by omega) (by omega)) hp
  | succ d ih =>
    intro i hi f hf
    obtain ⟨f, rfl, hg⟩ := ss_fu hf
    have hil : i < rl.length := by omega
    refine br_f (nI_ge (by omega) (by omega)) ⟨vp_in_nI (by omega) (by omega), ?_⟩
    rw [ss_li_r ro (by omega)]
    refine ss_y_inText B hs (hb _ (ss_R_mem R hil)) ?_
    have ih' := ih (i + 1) (by omega) f (by omega)
    cases hh : ss_tx n kd tg (ss_ho n lg au lo rc s) (ro i) with
    | false =>
      rw [ss_tk_f R hil hh] at ih'
      exact br_t rfl (nm_r (nI_1 i) ih')
    | true =>
      rw [ss_tk_t R hil hh] at ih'
      exact br_f (by decide) (nm_r (nI_1 _) (nm_r (nI_1 i) ih'))
theorem ss_y_effect29 {post : Int32 → Prop} {s t : Nat} (B : ss_BY n lg kd au bs tg lo rc) (R : ss_R ro rl) (hN : rl.Nodup) (hs : s < 4) (hb : ∀ y, y ∈ rl → y < n) (ht : t ∈ rl)
    (hp : post (nI (ss_pos (ss_tx n kd tg (ss_ho n lg au lo rc s)) t rl))) : wY_effect_29 post (nI s) (nI t) (nI oL) (nI cL) (nI wL) (nI bL) (nI n) (nI (rl.length)) (nI lg) (ss_li kd) (ss_li au) (ss_li pl) (ss_li bs) (ss_li tg) yc (ss_li ro) (ss_li lo) la (ss_li rc) := by
  have hn : n ≤ 64 := B.1
  have hl := ss_ix_lt ht
  have h48 := R.1
  refine ss_y_rollIndex R hN (fun y hy => by have := hb y hy; omega) ht ?_
  rw [ss_pos_tk ht] at hp
  exact ⟨49, ss_y_effect42 B R hs hb (Nat.le_of_lt hl) hp (ss_ix t rl) 0 (by omega) 49 (by omega)⟩
def ss_ans (kd tg : Nat → Nat) (rl : List Nat) (T : Nat → Bool) (x : Nat) : Int32 := if kd x = 2 ∧ T (tg x) = false then -10 else nI (ss_pos T (tg x) rl)
theorem ss_y_effect {post : Int32 → Prop} {s x : Nat} (B : ss_BY n lg kd au bs tg lo rc) (R : ss_R ro rl) (hN : rl.Nodup) (hs : s < 4) (hb : ∀ y, y ∈ rl → y < n) (hx : x < n) (ht : tg x ∈ rl)
    (hp : post (ss_ans kd tg rl (ss_tx n kd tg (ss_ho n lg au lo rc s)) x)) : wpY_effect post ((nI oL), (nI cL), (nI wL), (nI bL), (nI n), (nI (rl.length)), (nI lg), (ss_li kd), (ss_li au), (ss_li pl), (ss_li bs), (ss_li tg), yc, (ss_li ro), (ss_li lo), la, (ss_li rc)) (nI s) (nI x) := by
  have hn : n ≤ 64 := B.1
  have hkd : ∀ i, kd i < 256 := B.2.2.2.2.2.1
  refine ⟨vp_in_nI (by omega) (by omega), nm_r (ss_li_r tg (by omega)) ⟨vp_in_nI (by omega) (by omega), ?_⟩⟩
  unfold ss_ans at hp
  by_cases k : kd x = 2
  · refine br_t (by rw [ss_li_r kd (by omega), k]; rfl) (ss_y_inText B hs (hb _ ht) ?_)
    cases hh : ss_tx n kd tg (ss_ho n lg au lo rc s) (tg x) with
    | false => rw [if_pos ⟨k, hh⟩] at hp; exact br_t rfl hp
    | true =>
      rw [if_neg (by rw [hh]; simp)] at hp
      exact br_f (by decide) (ss_y_effect29 B R hN hs hb ht hp)
  · refine br_f ?_ (ss_y_effect29 B R hN hs hb ht (by rw [if_neg (fun q => k q.1)] at hp; exact hp))
    rw [ss_li_r kd (by omega)]
    exact fun q => k ((nI_eq (b := 2) (by have := hkd x; omega) (by omega)).mp q)
theorem ss_y_length15 {post : Int32 → Prop} {s : Nat} (B : ss_BY n lg kd au bs tg lo rc) (R : ss_R ro rl) (hs : s < 4) (hb : ∀ y, y ∈ rl → y < n)
    (hp : post (nI (rl.countP (ss_tx n kd tg (ss_ho n lg au lo rc s))))) :
    ∀ d i, i + d = rl.length → ∀ f, d < f → wY_length_15 post (nI s) (nI oL) (nI cL) (nI wL) (nI bL) (nI n) (nI (rl.length)) (nI lg) (ss_li kd) (ss_li au) (ss_li pl) (ss_li bs) (ss_li tg) yc (ss_li ro) (ss_li lo) la (ss_li rc) f (nI ((rl.take i).countP (ss_tx n kd tg (ss_ho n lg au lo rc s)))) (nI i) := by
  have h48 := R.1
  intro d
  induction d with
  | zero =>
    intro i hi f hf
    obtain ⟨f, rfl, _⟩ := ss_fu hf
    rw [show rl.take i = rl from List.take_of_length_le (by omega)]
    exact br_t (nI_le (by omega) (by omega)) hp
  | succ d ih =>
    intro i hi f hf
    obtain ⟨f, rfl, hg⟩ := ss_fu hf
    have hil : i < rl.length := by omega
    refine br_f (nI_ge (by omega) (by omega)) ⟨vp_in_nI (by omega) (by omega), ?_⟩
    rw [ss_li_r ro (by omega)]
    refine ss_y_inText B hs (hb _ (ss_R_mem R hil)) ?_
    have ih' := ih (i + 1) (by omega) f (by omega)
    cases hh : ss_tx n kd tg (ss_ho n lg au lo rc s) (ro i) with
    | false =>
      rw [ss_tk_f R hil hh] at ih'
      exact br_t rfl (nm_r (nI_1 i) ih')
    | true =>
      rw [ss_tk_t R hil hh] at ih'
      exact br_f (by decide) (nm_r (nI_1 _) (nm_r (nI_1 i) ih'))
theorem ss_y_isSite {post : Int32 → Prop} {s : Nat} (hs : s < 4) (hp : post 1) : wpY_isSite post ((nI oL), (nI cL), (nI wL), (nI bL), (nI n), (nI (rl.length)), (nI lg), (ss_li kd), (ss_li au), (ss_li pl), (ss_li bs), (ss_li tg), yc, (ss_li ro), (ss_li lo), la, (ss_li rc)) (nI s) :=
  br_f (nI_pos (by omega)) (br_f (nI_nlt (b := s) (a := 3) (by omega) (by omega)) hp)
theorem ss_y_isSite0 {post : Int32 → Prop} {x : Int32} (h : x < 0 ∨ nI 4 ≤ x) (hp : post 0) : wpY_isSite post ((nI oL), (nI cL), (nI wL), (nI bL), (nI n), (nI (rl.length)), (nI lg), (ss_li kd), (ss_li au), (ss_li pl), (ss_li bs), (ss_li tg), yc, (ss_li ro), (ss_li lo), la, (ss_li rc)) x :=
  br_c (fun _ => hp) (fun h0 => br_t (h.elim (fun q => absurd q h0) (fun q => Int32.lt_of_lt_of_le (by decide) q)) hp)
theorem ss_y_isClient {post : Int32 → Prop} {c : Nat} (hc : c < 3) (hp : post 1) : wpY_isClient post ((nI oL), (nI cL), (nI wL), (nI bL), (nI n), (nI (rl.length)), (nI lg), (ss_li kd), (ss_li au), (ss_li pl), (ss_li bs), (ss_li tg), yc, (ss_li ro), (ss_li lo), la, (ss_li rc)) (nI c) :=
  br_f (nI_pos (by omega)) (br_f (nI_nlt (b := c) (a := 2) (by omega) (by omega)) hp)
theorem ss_y_isClient0 {post : Int32 → Prop} {x : Int32} (h : x < 0 ∨ nI 3 ≤ x) (hp : post 0) : wpY_isClient post ((nI oL), (nI cL), (nI wL), (nI bL), (nI n), (nI (rl.length)), (nI lg), (ss_li kd), (ss_li au), (ss_li pl), (ss_li bs), (ss_li tg), yc, (ss_li ro), (ss_li lo), la, (ss_li rc)) x :=
  br_c (fun _ => hp) (fun h0 => br_t (h.elim (fun q => absurd q h0) (fun q => Int32.lt_of_lt_of_le (by decide) q)) hp)
theorem ss_y_length {post : Int32 → Prop} {s : Nat} (B : ss_BY n lg kd au bs tg lo rc) (R : ss_R ro rl) (hs : s < 4) (hb : ∀ y, y ∈ rl → y < n)
    (hp : post (nI (rl.countP (ss_tx n kd tg (ss_ho n lg au lo rc s))))) : wpY_length post ((nI oL), (nI cL), (nI wL), (nI bL), (nI n), (nI (rl.length)), (nI lg), (ss_li kd), (ss_li au), (ss_li pl), (ss_li bs), (ss_li tg), yc, (ss_li ro), (ss_li lo), la, (ss_li rc)) (nI s) := by
  have h48 := R.1
  unfold wpY_length
  dsimp only
  exact ss_y_isSite hs (br_f (by decide) ⟨49, ss_y_length15 B R hs hb hp rl.length 0 (by omega) 49 (by omega)⟩)
theorem ss_y_numberAt22 {post : Int32 → Prop} {s k : Nat} (B : ss_BY n lg kd au bs tg lo rc) (R : ss_R ro rl) (hs : s < 4) (hb : ∀ y, y ∈ rl → y < n) (hk : k < rl.length)
    (ht : ss_tx n kd tg (ss_ho n lg au lo rc s) (ro k) = true) (hp : post (nI (ro k))) :
    ∀ d i, i + d = k → ∀ f, d < f → wY_numberAt_22 post (nI s) (nI ((rl.take k).countP (ss_tx n kd tg (ss_ho n lg au lo rc s)))) (nI oL) (nI cL) (nI wL) (nI bL) (nI n) (nI (rl.length)) (nI lg) (ss_li kd) (ss_li au) (ss_li pl) (ss_li bs) (ss_li tg) yc (ss_li ro) (ss_li lo) la (ss_li rc) f (nI ((rl.take i).countP (ss_tx n kd tg (ss_ho n lg au lo rc s)))) (nI i) := by
  have h48 := R.1
  intro d
  induction d with
  | zero =>
    intro i hi f hf
    obtain ⟨f, rfl, _⟩ := ss_fu hf
    have : i = k := by omega
    subst this
    refine br_f (nI_ge (by omega) (by omega)) ⟨vp_in_nI (by omega) (by omega), ?_⟩
    rw [ss_li_r ro (by omega)]
    refine ss_y_inText B hs (hb _ (ss_R_mem R hk)) ?_
    rw [ht]
    exact br_f (by decide) (br_t rfl ⟨vp_in_nI (by omega) (by omega), hp⟩)
  | succ d ih =>
    intro i hi f hf
    obtain ⟨f, rfl, hg⟩ := ss_fu hf
    have hil : i < rl.length := by omega
    refine br_f (nI_ge (by omega) (by omega)) ⟨vp_in_nI (by omega) (by omega), ?_⟩
    rw [ss_li_r ro (by omega)]
    refine ss_y_inText B hs (hb _ (ss_R_mem R hil)) ?_
    have ih' := ih (i + 1) (by omega) f (by omega)
    cases hh : ss_tx n kd tg (ss_ho n lg au lo rc s) (ro i) with
    | false =>
      rw [ss_tk_f R hil hh] at ih'
      exact br_t rfl (nm_r (nI_1 i) ih')
    | true =>
      have h1 := ss_tk_t R hil hh
      have h2 := ss_tk_mono (p := ss_tx n kd tg (ss_ho n lg au lo rc s)) (rl := rl) (show i + 1 ≤ k by omega)
      have h3 := ss_tk_le (p := ss_tx n kd tg (ss_ho n lg au lo rc s)) (rl := rl) (i := k)
      rw [h1] at ih'
      refine br_f (by decide) (br_f (fun q => ?_) (nm_r (nI_1 _) (nm_r (nI_1 i) ih')))
      have := (nI_eq (by omega) (by omega)).mp q
      omega
theorem ss_y_numberAt22n {post : Int32 → Prop} {s x : Nat} (B : ss_BY n lg kd au bs tg lo rc) (R : ss_R ro rl) (hs : s < 4) (hb : ∀ y, y ∈ rl → y < n) (hx : x < 2 ^ 31)
    (ht : rl.countP (ss_tx n kd tg (ss_ho n lg au lo rc s)) ≤ x) (hp : post (-1)) :
    ∀ d i, i + d = rl.length → ∀ f, d < f → wY_numberAt_22 post (nI s) (nI x) (nI oL) (nI cL) (nI wL) (nI bL) (nI n) (nI (rl.length)) (nI lg) (ss_li kd) (ss_li au) (ss_li pl) (ss_li bs) (ss_li tg) yc (ss_li ro) (ss_li lo) la (ss_li rc) f (nI ((rl.take i).countP (ss_tx n kd tg (ss_ho n lg au lo rc s)))) (nI i) := by
  have h48 := R.1
  intro d
  induction d with
  | zero =>
    intro i hi f hf
    obtain ⟨f, rfl, _⟩ := ss_fu hf
    exact br_t (nI_le (by omega) (by omega)) hp
  | succ d ih =>
    intro i hi f hf
    obtain ⟨f, rfl, hg⟩ := ss_fu hf
    have hil : i < rl.length := by omega
    refine br_f (nI_ge (by omega) (by omega)) ⟨vp_in_nI (by omega) (by omega), ?_⟩
    rw [ss_li_r ro (by omega)]
    refine ss_y_inText B hs (hb _ (ss_R_mem R hil)) ?_
    have ih' := ih (i + 1) (by omega) f (by omega)
    cases hh : ss_tx n kd tg (ss_ho n lg au lo rc s) (ro i) with
    | false =>
      rw [ss_tk_f R hil hh] at ih'
      exact br_t rfl (nm_r (nI_1 i) ih')
    | true =>
      have h1 := ss_tk_t R hil hh
      have h2 := ss_tk_mono (p := ss_tx n kd tg (ss_ho n lg au lo rc s)) (rl := rl) (show i + 1 ≤ rl.length by omega)
      rw [List.take_length] at h2
      rw [h1] at ih'
      refine br_f (by decide) (br_f (fun q => ?_) (nm_r (nI_1 _) (nm_r (nI_1 i) ih')))
      have := (nI_eq (by omega) (by omega)).mp q
      omega
theorem ss_y_numberAt {post : Int32 → Prop} {s k : Nat} (B : ss_BY n lg kd au bs tg lo rc) (R : ss_R ro rl) (hs : s < 4) (hb : ∀ y, y ∈ rl → y < n) (hk : k < rl.length)
    (ht : ss_tx n kd tg (ss_ho n lg au lo rc s) (ro k) = true) (hp : post (nI (ro k))) : wpY_numberAt post ((nI oL), (nI cL), (nI wL), (nI bL), (nI n), (nI (rl.length)), (nI lg), (ss_li kd), (ss_li au), (ss_li pl), (ss_li bs), (ss_li tg), yc, (ss_li ro), (ss_li lo), la, (ss_li rc)) (nI s) (nI ((rl.take k).countP (ss_tx n kd tg (ss_ho n lg au lo rc s)))) := by
  have h48 := R.1
  have h3 := ss_tk_le (p := ss_tx n kd tg (ss_ho n lg au lo rc s)) (rl := rl) (i := k)
  unfold wpY_numberAt
  dsimp only
  exact ss_y_isSite hs (br_f (by decide) (br_t (nI_pos' (by omega)) ⟨49, ss_y_numberAt22 B R hs hb hk ht hp k 0 (by omega) 49 (by omega)⟩))
theorem ss_y_numberAtn {post : Int32 → Prop} {s x : Nat} (B : ss_BY n lg kd au bs tg lo rc) (R : ss_R ro rl) (hs : s < 4) (hb : ∀ y, y ∈ rl → y < n) (hx : x < 2 ^ 31)
    (ht : rl.countP (ss_tx n kd tg (ss_ho n lg au lo rc s)) ≤ x) (hp : post (-1)) : wpY_numberAt post ((nI oL), (nI cL), (nI wL), (nI bL), (nI n), (nI (rl.length)), (nI lg), (ss_li kd), (ss_li au), (ss_li pl), (ss_li bs), (ss_li tg), yc, (ss_li ro), (ss_li lo), la, (ss_li rc)) (nI s) (nI x) := by
  have h48 := R.1
  unfold wpY_numberAt
  dsimp only
  exact ss_y_isSite hs (br_f (by decide) (br_t (nI_pos' (by omega)) ⟨49, ss_y_numberAt22n B R hs hb hx ht hp rl.length 0 (by omega) 49 (by omega)⟩))
theorem ss_y_uplink15 {post : Int32 → Prop} {c : Nat} (P : ss_P n lg kd au bs tg lo rc rl) (B : ss_BY n lg kd au bs tg lo rc) (hc : c < 3)
    (hp : post (nI (ss_cn au c n - ss_cn (fun j => au (lo j)) c lg))) :
    ∀ d i, i + d = n → ∀ f, d < f → wY_uplink_15 post (nI c) (nI oL) (nI cL) (nI wL) (nI bL) (nI n) (nI (rl.length)) (nI lg) (ss_li kd) (ss_li au) (ss_li pl) (ss_li bs) (ss_li tg) yc (ss_li ro) (ss_li lo) la (ss_li rc) f (nI (ss_cn au c i - ss_cn (fun j => au (lo j)) c lg)) (nI i) := by
  have B' := B
  obtain ⟨hn, hlg, hrc, hlo, hau, hkd, htg, _⟩ := B'
  intro d
  induction d with
  | zero =>
    intro i hi f hf
    obtain ⟨f, rfl, _⟩ := ss_fu hf
    have : i = n := by omega
    subst this
    exact br_t (nI_le (by omega) (by omega)) hp
  | succ d ih =>
    intro i hi f hf
    obtain ⟨f, rfl, hg⟩ := ss_fu hf
    refine br_f (nI_ge (by omega) (by omega)) ⟨vp_in_nI (by omega) (by omega), ?_⟩
    have ih' := ih (i + 1) (by omega) f (by omega)
    have ha := hau i
    by_cases e : au i = c
    · refine br_t (by rw [ss_li_r au (by omega), e]) (ss_y_inLog (by omega) hlg hlo ?_)
      have h1 := ss_inLog P (Nat.le_refl lg) (show i < n by omega)
      rw [e] at h1
      rw [ss_cn_t e] at ih'
      cases hh : ss_inL lo lg i with
      | false =>
        have h2 : ¬ ss_cn au c i < ss_cn (fun j => au (lo j)) c lg := fun q => by rw [h1.mpr q] at hh; cases hh
        rw [show ss_cn au c i + 1 - ss_cn (fun j => au (lo j)) c lg = ss_cn au c i - ss_cn (fun j => au (lo j)) c lg + 1 by omega] at ih'
        exact br_t rfl (nm_r (nI_1 _) (nm_r (nI_1 i) ih'))
      | true =>
        have h2 := h1.mp hh
        rw [show ss_cn au c i + 1 - ss_cn (fun j => au (lo j)) c lg = ss_cn au c i - ss_cn (fun j => au (lo j)) c lg by omega] at ih'
        exact br_f (by decide) (nm_r (nI_1 i) ih')
    · rw [ss_cn_f e] at ih'
      refine br_f ?_ (nm_r (nI_1 i) ih')
      rw [ss_li_r au (by omega)]
      exact fun q => e ((nI_eq (by omega) (by omega)).mp q)
theorem ss_y_uplink {post : Int32 → Prop} {c : Nat} (P : ss_P n lg kd au bs tg lo rc rl) (B : ss_BY n lg kd au bs tg lo rc) (hc : c < 3)
    (hp : post (nI (ss_cn au c n - ss_cn (fun j => au (lo j)) c lg))) : wpY_uplink post ((nI oL), (nI cL), (nI wL), (nI bL), (nI n), (nI (rl.length)), (nI lg), (ss_li kd), (ss_li au), (ss_li pl), (ss_li bs), (ss_li tg), yc, (ss_li ro), (ss_li lo), la, (ss_li rc)) (nI c) := by
  have hn : n ≤ 64 := B.1
  have h0 := ss_y_uplink15 (oL := oL) (cL := cL) (wL := wL) (bL := bL) (pl := pl) (yc := yc) (ro := ro) (la := la) P B hc hp n 0 (by omega) 65 (by omega)
  rw [show ss_cn au c 0 - ss_cn (fun j => au (lo j)) c lg = 0 from Nat.zero_sub _] at h0
  unfold wpY_uplink
  dsimp only
  exact ss_y_isClient hc (br_f (by decide) ⟨65, h0⟩)
theorem ss_y_unack15 {post : Int32 → Prop} {c : Nat} (P : ss_P n lg kd au bs tg lo rc rl) (B : ss_BY n lg kd au bs tg lo rc) (hc : c < 3)
    (hp : post (nI (ss_cn au c n - ss_cn (fun j => au (lo j)) c (rc c)))) :
    ∀ d i, i + d = n → ∀ f, d < f → wY_unacknowledged_15 post (nI c) (nI oL) (nI cL) (nI wL) (nI bL) (nI n) (nI (rl.length)) (nI lg) (ss_li kd) (ss_li au) (ss_li pl) (ss_li bs) (ss_li tg) yc (ss_li ro) (ss_li lo) la (ss_li rc) f (nI (ss_cn au c i - ss_cn (fun j => au (lo j)) c (rc c))) (nI i) := by
  have B' := B
  obtain ⟨hn, hlg, hrc, hlo, hau, hkd, htg, _⟩ := B'
  intro d
  induction d with
  | zero =>
    intro i hi f hf
    obtain ⟨f, rfl, _⟩ := ss_fu hf
    have : i = n := by omega
    subst this
    exact br_t (nI_le (by omega) (by omega)) hp
  | succ d ih =>
    intro i hi f hf
    obtain ⟨f, rfl, hg⟩ := ss_fu hf
    refine br_f (nI_ge (by omega) (by omega)) ⟨vp_in_nI (by omega) (by omega), ?_⟩
    have ih' := ih (i + 1) (by omega) f (by omega)
    have ha := hau i
    by_cases e : au i = c
    · refine br_t (by rw [ss_li_r au (by omega), e]) ⟨vp_in_nI (by omega) (by omega), ?_⟩
      rw [ss_li_r rc (by omega)]
      refine ss_y_inLog (by omega) (hrc c) hlo ?_
      have h1 := ss_inLog P (ss_P_rc P c) (show i < n by omega)
      rw [e] at h1
      rw [ss_cn_t e] at ih'
      cases hh : ss_inL lo (rc c) i with
      | false =>
        have h2 : ¬ ss_cn au c i < ss_cn (fun j => au (lo j)) c (rc c) := fun q => by rw [h1.mpr q] at hh; cases hh
        rw [show ss_cn au c i + 1 - ss_cn (fun j => au (lo j)) c (rc c) = ss_cn au c i - ss_cn (fun j => au (lo j)) c (rc c) + 1 by omega] at ih'
        exact br_t rfl (nm_r (nI_1 _) (nm_r (nI_1 i) ih'))
      | true =>
        have h2 := h1.mp hh
        rw [show ss_cn au c i + 1 - ss_cn (fun j => au (lo j)) c (rc c) = ss_cn au c i - ss_cn (fun j => au (lo j)) c (rc c) by omega] at ih'
        exact br_f (by decide) (nm_r (nI_1 i) ih')
    · rw [ss_cn_f e] at ih'
      refine br_f ?_ (nm_r (nI_1 i) ih')
      rw [ss_li_r au (by omega)]
      exact fun q => e ((nI_eq (by omega) (by omega)).mp q)
theorem ss_y_unack {post : Int32 → Prop} {c : Nat} (P : ss_P n lg kd au bs tg lo rc rl) (B : ss_BY n lg kd au bs tg lo rc) (hc : c < 3)
    (hp : post (nI (ss_cn au c n - ss_cn (fun j => au (lo j)) c (rc c)))) : wpY_unacknowledged post ((nI oL), (nI cL), (nI wL), (nI bL), (nI n), (nI (rl.length)), (nI lg), (ss_li kd), (ss_li au), (ss_li pl), (ss_li bs), (ss_li tg), yc, (ss_li ro), (ss_li lo), la, (ss_li rc)) (nI c) := by
  have hn : n ≤ 64 := B.1
  have h0 := ss_y_unack15 (oL := oL) (cL := cL) (wL := wL) (bL := bL) (pl := pl) (yc := yc) (ro := ro) (la := la) P B hc hp n 0 (by omega) 65 (by omega)
  rw [show ss_cn au c 0 - ss_cn (fun j => au (lo j)) c (rc c) = 0 from Nat.zero_sub _] at h0
  unfold wpY_unacknowledged
  dsimp only
  exact ss_y_isClient hc (br_f (by decide) ⟨65, h0⟩)
theorem ss_y_oldest2 {post : Int32 → Prop} {c x : Nat} (B : ss_BY n lg kd au bs tg lo rc) (hc : c < 3) (hx : x < n) (hxc : au x = c) (hxl : ss_inL lo lg x = false)
    (hm : ∀ z, z < x → au z = c → ss_inL lo lg z = true) (hp : post (nI x)) :
    ∀ d i, i + d = x → ∀ f, d < f → wY_oldest_2 post (nI c) (nI oL) (nI cL) (nI wL) (nI bL) (nI n) (nI (rl.length)) (nI lg) (ss_li kd) (ss_li au) (ss_li pl) (ss_li bs) (ss_li tg) yc (ss_li ro) (ss_li lo) la (ss_li rc) f (nI i) := by
  obtain ⟨hn, hlg, hrc, hlo, hau, hkd, htg, _⟩ := B
  intro d
  induction d with
  | zero =>
    intro i hi f hf
    obtain ⟨f, rfl, _⟩ := ss_fu hf
    have : i = x := by omega
    subst this
    refine br_f (nI_ge (by omega) (by omega)) ⟨vp_in_nI (by omega) (by omega), ?_⟩
    refine br_t (by rw [ss_li_r au (by omega), hxc]) (ss_y_inLog (by omega) hlg hlo ?_)
    rw [hxl]
    exact br_t rfl hp
  | succ d ih =>
    intro i hi f hf
    obtain ⟨f, rfl, hg⟩ := ss_fu hf
    have ih' := ih (i + 1) (by omega) f (by omega)
    have ha := hau i
    refine br_f (nI_ge (by omega) (by omega)) ⟨vp_in_nI (by omega) (by omega), ?_⟩
    by_cases e : au i = c
    · refine br_t (by rw [ss_li_r au (by omega), e]) (ss_y_inLog (by omega) hlg hlo ?_)
      rw [hm i (by omega) e]
      exact br_f (by decide) (nm_r (nI_1 i) ih')
    · refine br_f ?_ (nm_r (nI_1 i) ih')
      rw [ss_li_r au (by omega)]
      exact fun q => e ((nI_eq (by omega) (by omega)).mp q)
theorem ss_y_oldest {post : Int32 → Prop} {c x : Nat} (B : ss_BY n lg kd au bs tg lo rc) (hc : c < 3) (hx : x < n) (hxc : au x = c) (hxl : ss_inL lo lg x = false)
    (hm : ∀ z, z < x → au z = c → ss_inL lo lg z = true) (hp : post (nI x)) : wpY_oldest post ((nI oL), (nI cL), (nI wL), (nI bL), (nI n), (nI (rl.length)), (nI lg), (ss_li kd), (ss_li au), (ss_li pl), (ss_li bs), (ss_li tg), yc, (ss_li ro), (ss_li lo), la, (ss_li rc)) (nI c) :=
  ⟨65, ss_y_oldest2 B hc hx hxc hxl hm hp x 0 (by omega) 65 (by have := B.1; omega)⟩
theorem ss_y_oldest2n {post : Int32 → Prop} {c : Nat} (B : ss_BY n lg kd au bs tg lo rc) (hc : c < 3)
    (hm : ∀ z, z < n → au z = c → ss_inL lo lg z = true) (hp : post (-1)) :
    ∀ d i, i + d = n → ∀ f, d < f → wY_oldest_2 post (nI c) (nI oL) (nI cL) (nI wL) (nI bL) (nI n) (nI (rl.length)) (nI lg) (ss_li kd) (ss_li au) (ss_li pl) (ss_li bs) (ss_li tg) yc (ss_li ro) (ss_li lo) la (ss_li rc) f (nI i) := by
  obtain ⟨hn, hlg, hrc, hlo, hau, hkd, htg, _⟩ := B
  intro d
  induction d with
  | zero =>
    intro i hi f hf
    obtain ⟨f, rfl, _⟩ := ss_fu hf
    exact br_t (nI_le (by omega) (by omega)) hp
  | succ d ih =>
    intro i hi f hf
    obtain ⟨f, rfl, hg⟩ := ss_fu hf
    have ih' := ih (i + 1) (by omega) f (by omega)
    have ha := hau i
    refine br_f (nI_ge (by omega) (by omega)) ⟨vp_in_nI (by omega) (by omega), ?_⟩
    by_cases e : au i = c
    · refine br_t (by rw [ss_li_r au (by omega), e]) (ss_y_inLog (by omega) hlg hlo ?_)
      rw [hm i (by omega) e]
      exact br_f (by decide) (nm_r (nI_1 i) ih')
    · refine br_f ?_ (nm_r (nI_1 i) ih')
      rw [ss_li_r au (by omega)]
      exact fun q => e ((nI_eq (by omega) (by omega)).mp q)
theorem ss_y_oldestn {post : Int32 → Prop} {c : Nat} (B : ss_BY n lg kd au bs tg lo rc) (hc : c < 3)
    (hm : ∀ z, z < n → au z = c → ss_inL lo lg z = true) (hp : post (-1)) : wpY_oldest post ((nI oL), (nI cL), (nI wL), (nI bL), (nI n), (nI (rl.length)), (nI lg), (ss_li kd), (ss_li au), (ss_li pl), (ss_li bs), (ss_li tg), yc, (ss_li ro), (ss_li lo), la, (ss_li rc)) (nI c) :=
  ⟨65, ss_y_oldest2n B hc hm hp n 0 (by omega) 65 (by have := B.1; omega)⟩
theorem ss_y_downlink {post : Int32 → Prop} {c : Nat} (hr : rc c ≤ lg) (hlg : lg ≤ 64) (hc : c < 3) (hp : post (nI (lg - rc c))) : wpY_downlink post ((nI oL), (nI cL), (nI wL), (nI bL), (nI n), (nI (rl.length)), (nI lg), (ss_li kd), (ss_li au), (ss_li pl), (ss_li bs), (ss_li tg), yc, (ss_li ro), (ss_li lo), la, (ss_li rc)) (nI c) := by
  unfold wpY_downlink
  dsimp only
  refine ss_y_isClient hc (br_f (by decide) ⟨vp_in_nI (by omega) (by omega), ?_⟩)
  rw [ss_li_r rc (by omega), pk_sub hr]
  exact hp
end
end
section
/-! the component's readers -/
def ss_S (cm ch cc vc : Nat → Nat) (s : Nat) (l : List Nat) (h : Nat → Bool) : Prop :=
  cc s = l.length ∧ vc s = l.countP (fun z => !(h z)) ∧ ∀ j (hj : j < l.length), cm (s * 48 + j) = l[j] ∧ ch (s * 48 + j) = cond (h l[j]) 1 0
theorem ss_tl_t {p : Nat → Bool} {l : List Nat} {i : Nat} (h : i < l.length) (hp : p l[i] = true) : (l.take (i + 1)).countP p = (l.take i).countP p + 1 := by
  rw [List.take_succ_eq_append_getElem h, List.countP_append, List.countP_singleton, if_pos hp]
theorem ss_tl_f {p : Nat → Bool} {l : List Nat} {i : Nat} (h : i < l.length) (hp : p l[i] = false) : (l.take (i + 1)).countP p = (l.take i).countP p := by
  rw [List.take_succ_eq_append_getElem h, List.countP_append, List.countP_singleton, if_neg (by rw [hp]; decide)]; rfl
section
variable {oL cL wL bL n lg : Nat} {kd au pl bs tg sp pp ow oc ol oa lo lc rc br cm ch cc vc : Nat → Nat} {cd la : Nat → Int32} {rl : List Nat}
theorem ss_x_isSite {post : Int32 → Prop} {s : Nat} (hs : s < 4) (hp : post 1) : wpX_isSite post ((nI oL), (nI cL), (nI wL), (nI bL), (nI n), (nI (rl.length)), (nI lg), (ss_li kd), (ss_li au), (ss_li pl), (ss_li bs), (ss_li tg), cd, (ss_li sp), (ss_li pp), (ss_li ow), (ss_li oc), (ss_li ol), (ss_li oa), (ss_li lo), la, (ss_li lc), (ss_li rc), (ss_li br), (ss_li cm), (ss_li ch), (ss_li cc), (ss_li vc)) (nI s) :=
  br_f (nI_pos (by omega)) (br_f (nI_nlt (b := s) (a := 3) (by omega) (by omega)) hp)
theorem ss_x_isSite0 {post : Int32 → Prop} {x : Int32} (h : x < 0 ∨ nI 4 ≤ x) (hp : post 0) : wpX_isSite post ((nI oL), (nI cL), (nI wL), (nI bL), (nI n), (nI (rl.length)), (nI lg), (ss_li kd), (ss_li au), (ss_li pl), (ss_li bs), (ss_li tg), cd, (ss_li sp), (ss_li pp), (ss_li ow), (ss_li oc), (ss_li ol), (ss_li oa), (ss_li lo), la, (ss_li lc), (ss_li rc), (ss_li br), (ss_li cm), (ss_li ch), (ss_li cc), (ss_li vc)) x :=
  br_c (fun _ => hp) (fun h0 => br_t (h.elim (fun q => absurd q h0) (fun q => Int32.lt_of_lt_of_le (by decide) q)) hp)
theorem ss_x_isClient {post : Int32 → Prop} {c : Nat} (hc : c < 3) (hp : post 1) : wpX_isClient post ((nI oL), (nI cL), (nI wL), (nI bL), (nI n), (nI (rl.length)), (nI lg), (ss_li kd), (ss_li au), (ss_li pl), (ss_li bs), (ss_li tg), cd, (ss_li sp), (ss_li pp), (ss_li ow), (ss_li oc), (ss_li ol), (ss_li oa), (ss_li lo), la, (ss_li lc), (ss_li rc), (ss_li br), (ss_li cm), (ss_li ch), (ss_li cc), (ss_li vc)) (nI c) :=
  br_f (nI_pos (by omega)) (br_f (nI_ge (a := c) (b := 3) (by omega) (by omega)) hp)
theorem ss_x_isClient0 {post : Int32 → Prop} {x : Int32} (h : x < 0 ∨ nI 3 ≤ x) (hp : post 0) : wpX_isClient post ((nI oL), (nI cL), (nI wL), (nI bL), (nI n), (nI (rl.length)), (nI lg), (ss_li kd), (ss_li au), (ss_li pl), (ss_li bs), (ss_li tg), cd, (ss_li sp), (ss_li pp), (ss_li ow), (ss_li oc), (ss_li ol), (ss_li oa), (ss_li lo), la, (ss_li lc), (ss_li rc), (ss_li br), (ss_li cm), (ss_li ch), (ss_li cc), (ss_li vc)) x :=
  br_c (fun _ => hp) (fun h0 => br_t (h.elim (fun q => absurd q h0) id) hp)
theorem ss_x_fv11 {post : Int32 → Prop} {s k : Nat} {l : List Nat} {h : Nat → Bool} (S : ss_S cm ch cc vc s l h) (hs : s < 4) (hl : l.length ≤ 48) (hk : k < l.length) (hv : h l[k] = false) (hp : post (nI k)) :
    ∀ d i, i + d = k → ∀ f, d < f → wX_findVisible_11 post (nI s) (nI (s * 48)) (nI oL) (nI cL) (nI wL) (nI bL) (nI n) (nI (rl.length)) (nI lg) (ss_li kd) (ss_li au) (ss_li pl) (ss_li bs) (ss_li tg) cd (ss_li sp) (ss_li pp) (ss_li ow) (ss_li oc) (ss_li ol) (ss_li oa) (ss_li lo) la (ss_li lc) (ss_li rc) (ss_li br) (ss_li cm) (ss_li ch) (ss_li cc) (ss_li vc) f (nI ((l.take k).countP (fun z => !(h z)) - (l.take i).countP (fun z => !(h z)))) (nI i) := by
  obtain ⟨hc, _, hcell⟩ := S
  intro d
  induction d with
  | zero =>
    intro i hi f hf
    obtain ⟨f, rfl, _⟩ := ss_fu hf
    have : i = k := by omega
    subst this
    refine ⟨vp_in_nI (by omega) (by omega), br_f ?_ ⟨?_, br_t ?_ (br_t ?_ hp)⟩⟩
    · rw [ss_li_r cc (by omega), hc]; exact nI_ge (by omega) (by omega)
    · rw [nI_add]; exact vp_in_nI (by omega) (by omega)
    · rw [nI_add, ss_li_r ch (by omega), (hcell i hk).2, hv]; rfl
    · rw [Nat.sub_self]; rfl
  | succ d ih =>
    intro i hi f hf
    obtain ⟨f, rfl, hg⟩ := ss_fu hf
    have hil : i < l.length := by omega
    have ih' := ih (i + 1) (by omega) f (by omega)
    refine ⟨vp_in_nI (by omega) (by omega), br_f ?_ ⟨?_, ?_⟩⟩
    · rw [ss_li_r cc (by omega), hc]; exact nI_ge (by omega) (by omega)
    · rw [nI_add]; exact vp_in_nI (by omega) (by omega)
    · cases hh : h l[i] with
      | false =>
        have h1 := ss_tl_t (p := fun z => !(h z)) hil (by show (!(h l[i])) = true; rw [hh]; rfl)
        have h2 := ss_tk_mono (p := fun z => !(h z)) (rl := l) (show i + 1 ≤ k by omega)
        have h3 := ss_tk_le (p := fun z => !(h z)) (rl := l) (i := k)
        rw [h1] at ih' h2
        refine br_t ?_ (br_f ?_ (nm_r ?_ (nm_r (nI_1 i) ih')))
        · rw [nI_add, ss_li_r ch (by omega), (hcell i hil).2, hh]; rfl
        · exact nI_ne0 (by omega) (by omega)
        · rw [show (l.take k).countP (fun z => !(h z)) - (l.take i).countP (fun z => !(h z)) = (l.take k).countP (fun z => !(h z)) - ((l.take i).countP (fun z => !(h z)) + 1) + 1 by omega]; exact pk_m1 _
      | true =>
        have h1 := ss_tl_f (p := fun z => !(h z)) hil (by show (!(h l[i])) = false; rw [hh]; rfl)
        rw [h1] at ih'
        refine br_f ?_ (nm_r (nI_1 i) ih')
        rw [nI_add, ss_li_r ch (by omega), (hcell i hil).2, hh]; decide
theorem ss_x_findVisible {post : Int32 → Prop} {s k : Nat} {l : List Nat} {h : Nat → Bool} (S : ss_S cm ch cc vc s l h) (hs : s < 4) (hl : l.length ≤ 48) (hk : k < l.length) (hv : h l[k] = false) (hp : post (nI k)) :
    wpX_findVisible post ((nI oL), (nI cL), (nI wL), (nI bL), (nI n), (nI (rl.length)), (nI lg), (ss_li kd), (ss_li au), (ss_li pl), (ss_li bs), (ss_li tg), cd, (ss_li sp), (ss_li pp), (ss_li ow), (ss_li oc), (ss_li ol), (ss_li oa), (ss_li lo), la, (ss_li lc), (ss_li rc), (ss_li br), (ss_li cm), (ss_li ch), (ss_li cc), (ss_li vc)) (nI s) (nI ((l.take k).countP (fun z => !(h z)))) := by
  have h0 := ss_x_fv11 (oL := oL) (cL := cL) (wL := wL) (bL := bL) (n := n) (lg := lg) (kd := kd) (au := au) (pl := pl) (bs := bs) (tg := tg) (cd := cd) (sp := sp) (pp := pp) (ow := ow) (oc := oc) (ol := ol) (oa := oa) (lo := lo) (la := la) (lc := lc) (rc := rc) (br := br) (rl := rl) S hs hl hk hv hp k 0 (by omega) 49 (by omega)
  exact nm_r (pk_mul s 48) ⟨49, h0⟩
theorem ss_x_vb11 {post : Int32 → Prop} {s p : Nat} {l : List Nat} {h : Nat → Bool} (S : ss_S cm ch cc vc s l h) (hs : s < 4) (hl : l.length ≤ 48) (hp' : p ≤ l.length) (hp : post (nI ((l.take p).countP (fun z => !(h z))))) :
    ∀ d i, i + d = p → ∀ f, d < f → wX_visibleBefore_11 post (nI s) (nI p) (nI (s * 48)) (nI oL) (nI cL) (nI wL) (nI bL) (nI n) (nI (rl.length)) (nI lg) (ss_li kd) (ss_li au) (ss_li pl) (ss_li bs) (ss_li tg) cd (ss_li sp) (ss_li pp) (ss_li ow) (ss_li oc) (ss_li ol) (ss_li oa) (ss_li lo) la (ss_li lc) (ss_li rc) (ss_li br) (ss_li cm) (ss_li ch) (ss_li cc) (ss_li vc) f (nI ((l.take i).countP (fun z => !(h z)))) (nI i) := by
  obtain ⟨hc, _, hcell⟩ := S
  intro d
  induction d with
  | zero =>
    intro i hi f hf
    obtain ⟨f, rfl, _⟩ := ss_fu hf
    have : i = p := by omega
    subst this
    exact br_t (nI_le (by omega) (by omega)) hp
  | succ d ih =>
    intro i hi f hf
    obtain ⟨f, rfl, hg⟩ := ss_fu hf
    have hil : i < l.length := by omega
    have ih' := ih (i + 1) (by omega) f (by omega)
    refine br_f (nI_ge (by omega) (by omega)) ⟨vp_in_nI (by omega) (by omega), br_f ?_ ⟨?_, ?_⟩⟩
    · rw [ss_li_r cc (by omega), hc]; exact nI_ge (by omega) (by omega)
    · rw [nI_add]; exact vp_in_nI (by omega) (by omega)
    · cases hh : h l[i] with
      | false =>
        rw [ss_tl_t (p := fun z => !(h z)) hil (by show (!(h l[i])) = true; rw [hh]; rfl)] at ih'
        refine br_t ?_ (nm_r (nI_1 _) (nm_r (nI_1 i) ih'))
        rw [nI_add, ss_li_r ch (by omega), (hcell i hil).2, hh]; rfl
      | true =>
        rw [ss_tl_f (p := fun z => !(h z)) hil (by show (!(h l[i])) = false; rw [hh]; rfl)] at ih'
        refine br_f ?_ (nm_r (nI_1 i) ih')
        rw [nI_add, ss_li_r ch (by omega), (hcell i hil).2, hh]; decide
theorem ss_x_visibleBefore {post : Int32 → Prop} {s p : Nat} {l : List Nat} {h : Nat → Bool} (S : ss_S cm ch cc vc s l h) (hs : s < 4) (hl : l.length ≤ 48) (hp' : p ≤ l.length) (hp : post (nI ((l.take p).countP (fun z => !(h z))))) :
    wpX_visibleBefore post ((nI oL), (nI cL), (nI wL), (nI bL), (nI n), (nI (rl.length)), (nI lg), (ss_li kd), (ss_li au), (ss_li pl), (ss_li bs), (ss_li tg), cd, (ss_li sp), (ss_li pp), (ss_li ow), (ss_li oc), (ss_li ol), (ss_li oa), (ss_li lo), la, (ss_li lc), (ss_li rc), (ss_li br), (ss_li cm), (ss_li ch), (ss_li cc), (ss_li vc)) (nI s) (nI p) :=
  nm_r (pk_mul s 48) ⟨49, ss_x_vb11 S hs hl hp' hp p 0 (by omega) 49 (by omega)⟩
theorem ss_x_isVisible {post : Int32 → Prop} {s p : Nat} {l : List Nat} {h : Nat → Bool} (S : ss_S cm ch cc vc s l h) (hs : s < 4) (hl : l.length ≤ 48) (hp' : p < l.length) (hp : post (ss_b (!(h l[p])))) :
    wpX_isVisible post ((nI oL), (nI cL), (nI wL), (nI bL), (nI n), (nI (rl.length)), (nI lg), (ss_li kd), (ss_li au), (ss_li pl), (ss_li bs), (ss_li tg), cd, (ss_li sp), (ss_li pp), (ss_li ow), (ss_li oc), (ss_li ol), (ss_li oa), (ss_li lo), la, (ss_li lc), (ss_li rc), (ss_li br), (ss_li cm), (ss_li ch), (ss_li cc), (ss_li vc)) (nI s) (nI p) := by
  obtain ⟨hc, _, hcell⟩ := S
  have hix : nI s * 48 + nI p = nI (s * 48 + p) := by
    rw [← nI_add, ← pk_mul]; rfl
  refine br_f (nI_pos (by omega)) ⟨vp_in_nI (by omega) (by omega), br_t ?_ ⟨?_, ?_⟩⟩
  · rw [ss_li_r cc (by omega), hc]; exact nI_lt hp' (by omega)
  · rw [hix]; exact vp_in_nI (by omega) (by omega)
  · rw [hix, ss_li_r ch (by omega), (hcell p hp').2]
    cases hh : h l[p] with
    | false => rw [hh] at hp; exact br_t rfl hp
    | true => rw [hh] at hp; exact br_f (by decide) hp
theorem ss_x_landing0 {post : Int32 → Prop} {s x p : Nat} {l : List Nat} {h : Nat → Bool} (S : ss_S cm ch cc vc s l h) (hs : s < 4) (hl : l.length ≤ 48) (hx : x < 64) (hkd : ∀ i, kd i < 256)
    (hp1 : p ≤ l.length) (hp2 : kd x = 2 → p < l.length)
    (hn : ∀ (q : p < l.length), kd x = 2 → h l[p] = true → post (-10))
    (hp : (kd x = 2 → ∀ (q : p < l.length), h l[p] = false) → post (nI ((l.take p).countP (fun z => !(h z))))) : wpX_landing post ((nI oL), (nI cL), (nI wL), (nI bL), (nI n), (nI (rl.length)), (nI lg), (ss_li kd), (ss_li au), (ss_li pl), (ss_li bs), (ss_li tg), cd, (ss_li sp), (ss_li pp), (ss_li ow), (ss_li oc), (ss_li ol), (ss_li oa), (ss_li lo), la, (ss_li lc), (ss_li rc), (ss_li br), (ss_li cm), (ss_li ch), (ss_li cc), (ss_li vc)) (nI s) (nI x) (nI p) := by
  refine ⟨vp_in_nI (by omega) (by omega), ?_⟩
  by_cases k : kd x = 2
  · refine br_t (by rw [ss_li_r kd (by omega), k]; rfl) (ss_x_isVisible S hs hl (hp2 k) ?_)
    cases hh : h (l[p]'(hp2 k)) with
    | false => exact br_f (by decide) (ss_x_visibleBefore S hs hl hp1 (hp (fun _ _ => hh)))
    | true => exact br_t rfl (hn (hp2 k) k hh)
  · refine br_f ?_ (ss_x_visibleBefore S hs hl hp1 (hp (fun q => absurd q k)))
    rw [ss_li_r kd (by omega)]
    exact fun q => k ((nI_eq (b := 2) (by have := hkd x; omega) (by omega)).mp q)
theorem ss_x_shift {post : Int32 → Prop} {x px q pq : Nat} (hx : x < 64) (hq : q < 64) (hpx : px < 256) (hpq : pq < 256) (hkd : ∀ i, kd i < 256) (hau : ∀ i, au i < 3)
    (hp : post (nI (ss_shf kd au x px q pq))) : wpX_shift post ((nI oL), (nI cL), (nI wL), (nI bL), (nI n), (nI (rl.length)), (nI lg), (ss_li kd), (ss_li au), (ss_li pl), (ss_li bs), (ss_li tg), cd, (ss_li sp), (ss_li pp), (ss_li ow), (ss_li oc), (ss_li ol), (ss_li oa), (ss_li lo), la, (ss_li lc), (ss_li rc), (ss_li br), (ss_li cm), (ss_li ch), (ss_li cc), (ss_li vc)) (nI x) (nI px) (nI q) (nI pq) := by
  have k1 := hkd q
  have k2 := hkd x
  have a1 := hau q
  have a2 := hau x
  unfold ss_shf at hp
  refine ⟨vp_in_nI (by omega) (by omega), ?_⟩
  by_cases c1 : kd q = 1
  · rw [if_pos c1] at hp
    refine br_t (by rw [ss_li_r kd (by omega), c1]; rfl) ?_
    by_cases c2 : pq ≤ px
    · rw [if_pos c2] at hp
      refine br_t (nI_le c2 (by omega)) ?_
      by_cases c3 : pq < px
      · rw [if_pos c3] at hp
        exact br_t (nI_lt c3 (by omega)) (by rw [nI_1]; exact hp)
      · rw [if_neg c3] at hp
        refine br_f (nI_nlt (by omega) (by omega)) ⟨vp_in_nI (by omega) (by omega), ?_⟩
        by_cases c4 : kd x = 2
        · rw [if_pos c4] at hp
          exact br_t (by rw [ss_li_r kd (by omega), c4]; rfl) (by rw [nI_1]; exact hp)
        · rw [if_neg c4] at hp
          refine br_f ?_ ⟨vp_in_nI (by omega) (by omega), vp_in_nI (by omega) (by omega), ?_⟩
          · rw [ss_li_r kd (by omega)]
            exact fun q => c4 ((nI_eq (b := 2) (by omega) (by omega)).mp q)
          · rw [ss_li_r au (by omega), ss_li_r au (by omega)]
            by_cases c5 : au x ≤ au q
            · rw [if_pos c5] at hp
              exact br_t (nI_le c5 (by omega)) hp
            · rw [if_neg c5] at hp
              exact br_f (nI_ge (by omega) (by omega)) (by rw [nI_1]; exact hp)
    · rw [if_neg c2] at hp
      exact br_f (nI_ge (by omega) (by omega)) hp
  · rw [if_neg c1] at hp
    refine br_f ?_ hp
    rw [ss_li_r kd (by omega)]
    exact fun q => c1 ((nI_eq (b := 1) (by omega) (by omega)).mp q)
end
end
section
/-! cells: a new one, a hidden one -/
def ss_sh (a b : Nat) (f : Nat → Nat) : Nat → Nat := fun j => if a < j ∧ j ≤ b then f (j - 1) else f j
theorem ss_sh_0 (a : Nat) (f : Nat → Nat) : ss_sh a a f = f := by
  funext j; exact if_neg (by omega)
theorem ss_sh_s {a b : Nat} (h : a + 1 ≤ b) (f : Nat → Nat) : ss_un (ss_sh (a + 1) b f) (a + 1) (f a) = ss_sh a b f := by
  funext j
  unfold ss_un ss_sh
  by_cases e : j = a + 1
  · rw [if_pos e, if_pos (by omega), e]; rfl
  · rw [if_neg e]
    by_cases g : a + 1 < j ∧ j ≤ b
    · rw [if_pos g, if_pos (by omega)]
    · rw [if_neg g, if_neg (by omega)]
theorem ss_sh_l {a b j : Nat} (h : j ≤ a) (f : Nat → Nat) : ss_sh a b f j = f j := if_neg (by omega)
theorem ss_nar {v : Nat} (h : v ≤ 1) : vp_nar .boolean (nI v) = nI v := by
  have : v = 0 ∨ v = 1 := by omega
  rcases this with e | e
  · subst e; rfl
  · subst e; rfl
section
variable {cm ch cc vc : Nat → Nat} {s : Nat} {l : List Nat} {h h' : Nat → Bool}
theorem ss_S_open {x p : Nat} (S : ss_S cm ch cc vc s l h) (hp : p ≤ l.length) (hx : h' x = false) (hh : ∀ z, z ∈ l → h' z = h z) :
    ss_S (ss_un (ss_sh (s * 48 + p) (s * 48 + l.length) cm) (s * 48 + p) x) (ss_un (ss_sh (s * 48 + p) (s * 48 + l.length) ch) (s * 48 + p) 0) (ss_un cc s (l.length + 1)) (ss_un vc s (vc s + 1)) s (l.take p ++ x :: l.drop p) h' := by
  obtain ⟨hc, hv, hcell⟩ := S
  have hlen : (l.take p ++ x :: l.drop p).length = l.length + 1 := by
    rw [List.length_append, List.length_cons, List.length_take, List.length_drop]; omega
  refine ⟨?_, ?_, ?_⟩
  · rw [ss_un_s, hlen]
  · rw [ss_un_s, List.countP_append, List.countP_cons_of_pos (by rw [hx]; rfl), hv]
    have e : l.countP (fun z => !(h' z)) = l.countP (fun z => !(h z)) := List.countP_congr (fun z hz => by rw [hh z hz])
    rw [← e]
    have e2 := congrArg (List.countP (fun z => !(h' z))) (List.take_append_drop p l)
    rw [List.countP_append] at e2
    omega
  · intro j hj
    rw [hlen] at hj
    rcases Nat.lt_trichotomy j p with q | q | q
    · have e : (l.take p ++ x :: l.drop p)[j]'(by omega) = l[j]'(by omega) := by
        rw [List.getElem_append_left (by rw [List.length_take]; omega), List.getElem_take]
      rw [e, ss_un_n (by omega), ss_un_n (by omega), ss_sh_l (by omega), ss_sh_l (by omega), hh _ (List.getElem_mem _)]
      exact hcell j (by omega)
    · subst q
      have e : (l.take j ++ x :: l.drop j)[j]'(by omega) = x := by
        rw [List.getElem_append_right (by rw [List.length_take]; omega)]
        simp only [List.length_take, Nat.min_eq_left hp, Nat.sub_self]
        rfl
      rw [e, ss_un_s, ss_un_s, hx]
      exact ⟨rfl, rfl⟩
    · have e : (l.take p ++ x :: l.drop p)[j]'(by omega) = l[j - 1]'(by omega) := by
        rw [List.getElem_append_right (by rw [List.length_take]; omega)]
        have e1 : j - (l.take p).length = (j - 1 - p) + 1 := by rw [List.length_take]; omega
        simp only [e1, List.getElem_cons_succ, List.getElem_drop]
        congr 1; omega
      rw [e, ss_un_n (by omega), ss_un_n (by omega), hh _ (List.getElem_mem _)]
      have g := hcell (j - 1) (by omega)
      rw [show s * 48 + (j - 1) = s * 48 + j - 1 by omega] at g
      unfold ss_sh
      rw [if_pos (by omega), if_pos (by omega)]
      exact g
theorem ss_S_open_o {s' x p q a b : Nat} (ne : s' ≠ s) (S : ss_S cm ch cc vc s' l h) (hl : l.length ≤ 48) (hp : p ≤ q) (hq : q < 48) :
    ss_S (ss_un (ss_sh (s * 48 + p) (s * 48 + q) cm) (s * 48 + p) x) (ss_un (ss_sh (s * 48 + p) (s * 48 + q) ch) (s * 48 + p) 0) (ss_un cc s a) (ss_un vc s b) s' l h := by
  obtain ⟨hc, hv, hcell⟩ := S
  refine ⟨by rw [ss_un_n ne]; exact hc, by rw [ss_un_n ne]; exact hv, fun j hj => ?_⟩
  rw [ss_un_n (by omega), ss_un_n (by omega)]
  unfold ss_sh
  rw [if_neg (by omega), if_neg (by omega)]
  exact hcell j hj
theorem ss_S_hide {p : Nat} (S : ss_S cm ch cc vc s l h) (hN : l.Nodup) (hp : p < l.length) (hv : h l[p] = false) (hh : ∀ z, z ∈ l → h' z = (h z || z == l[p])) :
    ss_S cm (ss_un ch (s * 48 + p) 1) cc (ss_un vc s (vc s - 1)) s l h' ∧ 0 < vc s := by
  obtain ⟨hc, hvc, hcell⟩ := S
  have el : l = l.take p ++ l[p] :: l.drop (p + 1) := by rw [List.getElem_cons_drop, List.take_append_drop]
  have hN2 := hN
  rw [el, List.nodup_append] at hN2
  have hA : ∀ z, z ∈ l.take p → z ≠ l[p] := fun z hz e => hN2.2.2 z hz _ List.mem_cons_self e
  have hB : ∀ z, z ∈ l.drop (p + 1) → z ≠ l[p] := fun z hz e => (List.nodup_cons.mp hN2.2.1).1 (e ▸ hz)
  have cA : (l.take p).countP (fun z => !(h' z)) = (l.take p).countP (fun z => !(h z)) := List.countP_congr (fun z hz => by
    rw [hh z (List.mem_of_mem_take hz), beq_false_of_ne (hA z hz), Bool.or_false])
  have cB : (l.drop (p + 1)).countP (fun z => !(h' z)) = (l.drop (p + 1)).countP (fun z => !(h z)) := List.countP_congr (fun z hz => by
    rw [hh z (List.mem_of_mem_drop hz), beq_false_of_ne (hB z hz), Bool.or_false])
  have ht : h' l[p] = true := by rw [hh _ (List.getElem_mem hp), beq_self_eq_true, Bool.or_true]
  have c1 : l.countP (fun z => !(h z)) = (l.take p).countP (fun z => !(h z)) + ((l.drop (p + 1)).countP (fun z => !(h z)) + 1) := by
    have := congrArg (List.countP (fun z => !(h z))) el
    rw [List.countP_append, List.countP_cons_of_pos (by rw [hv]; rfl)] at this
    exact this
  have c2 : l.countP (fun z => !(h' z)) = (l.take p).countP (fun z => !(h z)) + (l.drop (p + 1)).countP (fun z => !(h z)) := by
    have := congrArg (List.countP (fun z => !(h' z))) el
    rw [List.countP_append, List.countP_cons_of_neg (by rw [ht]; decide), cA, cB] at this
    exact this
  refine ⟨⟨hc, ?_, fun j hj => ⟨(hcell j hj).1, ?_⟩⟩, by omega⟩
  · rw [ss_un_s, c2, hvc, c1]; omega
  · by_cases e : j = p
    · subst e; rw [ss_un_s, ht]; rfl
    · have hne : l[j] ≠ l[p] := fun q => e ((List.getElem_inj hN).mp q)
      rw [ss_un_n (by omega), hh _ (List.getElem_mem hj), beq_false_of_ne hne, Bool.or_false]
      exact (hcell j hj).2
theorem ss_S_hide_o {s' p b : Nat} (ne : s' ≠ s) (S : ss_S cm ch cc vc s' l h) (hl : l.length ≤ 48) (hp : p < 48) :
    ss_S cm (ss_un ch (s * 48 + p) 1) cc (ss_un vc s b) s' l h := by
  obtain ⟨hc, hv, hcell⟩ := S
  refine ⟨hc, by rw [ss_un_n ne]; exact hv, fun j hj => ⟨(hcell j hj).1, ?_⟩⟩
  rw [ss_un_n (by omega)]
  exact (hcell j hj).2
theorem ss_S_congr {l' : List Nat} (S : ss_S cm ch cc vc s l h) (e : l' = l) (hh : ∀ z, z ∈ l → h' z = h z) : ss_S cm ch cc vc s l' h' := by
  subst e
  obtain ⟨hc, hv, hcell⟩ := S
  refine ⟨hc, ?_, fun j hj => ?_⟩
  · rw [hv]; exact (List.countP_congr (fun z hz => by rw [hh z hz])).symm
  · rw [hh _ (List.getElem_mem hj)]; exact hcell j hj
end
section
variable {rl : List Nat} {H H' : Nat → Bool} {x t : Nat}
theorem ss_fil_gain (hN : rl.Nodup) (hx : x ∈ rl) (hHx : H x = false) (hH : ∀ y, y ∈ rl → H' y = (H y || y == x)) :
    rl.filter H' = (rl.filter H).take (ss_pos H x rl) ++ x :: (rl.filter H).drop (ss_pos H x rl) := by
  obtain ⟨A, B, e, hA, hp, _⟩ := ss_sp hx
  rw [hp, List.countP_eq_length_filter]
  subst e
  have hB : x ∉ B := by
    rw [List.nodup_append] at hN
    exact (List.nodup_cons.mp hN.2.1).1
  have eA : A.filter H' = A.filter H := List.filter_congr (fun y hy => by
    rw [hH y (List.mem_append_left _ hy), beq_false_of_ne (fun q : y = x => hA (q ▸ hy)), Bool.or_false])
  have eB : B.filter H' = B.filter H := List.filter_congr (fun y hy => by
    rw [hH y (List.mem_append_right _ (List.mem_cons_of_mem _ hy)), beq_false_of_ne (fun q : y = x => hB (q ▸ hy)), Bool.or_false])
  have hx' : H' x = true := by rw [hH x hx, beq_self_eq_true, Bool.or_true]
  rw [List.filter_append, List.filter_append, List.filter_cons_of_pos hx', List.filter_cons_of_neg (by rw [hHx]; decide), eA, eB, List.take_left, List.drop_left]
theorem ss_fil_same (hx : x ∉ rl) (hH : ∀ y, y ∈ rl → H' y = (H y || y == x)) : rl.filter H' = rl.filter H :=
  List.filter_congr (fun y hy => by rw [hH y hy, beq_false_of_ne (fun q : y = x => hx (q ▸ hy)), Bool.or_false])
theorem ss_fil_at (ht : t ∈ rl) (hH : H t = true) : ∃ q : ss_pos H t rl < (rl.filter H).length, (rl.filter H)[ss_pos H t rl] = t := by
  obtain ⟨A, B, e, hA, hp, _⟩ := ss_sp ht
  have g : (rl.filter H)[ss_pos H t rl]? = some t := by
    rw [hp, List.countP_eq_length_filter, e, List.filter_append, List.filter_cons_of_pos hH, List.getElem?_append_right (Nat.le_refl _), Nat.sub_self]
    rfl
  exact List.getElem?_eq_some_iff.mp g
theorem ss_hd_gain {n : Nat} {kd tg : Nat → Nat} (hx : x < n) (hH : ∀ y, y < n → H' y = (H y || y == x)) (z : Nat) : ss_hd n kd tg H' z = (ss_hd n kd tg H z || (kd x == 2 && tg x == z)) := by
  refine ss_be ?_
  unfold ss_hd
  rw [Bool.or_eq_true, ss_ex_iff, ss_ex_iff]
  simp only [Bool.and_eq_true, beq_iff_eq]
  constructor
  · rintro ⟨r, hr, h1, h2, h3⟩
    rw [hH r hr, Bool.or_eq_true, beq_iff_eq] at h3
    rcases h3 with h3 | h3
    · exact Or.inl ⟨r, hr, h1, h2, h3⟩
    · subst h3; exact Or.inr ⟨h1, h2⟩
  · rintro (⟨r, hr, h1, h2, h3⟩ | ⟨h1, h2⟩)
    · exact ⟨r, hr, h1, h2, by rw [hH r hr, h3]; rfl⟩
    · exact ⟨x, hx, h1, h2, by rw [hH x hx, beq_self_eq_true, Bool.or_true]⟩
theorem ss_vis_pos {n : Nat} {kd tg : Nat → Nat} (ht : t ∈ rl) : ((rl.filter H).take (ss_pos H t rl)).countP (fun z => !(ss_hd n kd tg H z)) = ss_pos (ss_tx n kd tg H) t rl := by
  obtain ⟨A, B, e, hA, hp, _⟩ := ss_sp ht
  rw [hp, hp, List.countP_eq_length_filter (p := H) (l := A), e, List.filter_append, List.take_left, List.countP_filter]
  exact List.countP_congr (fun z _ => by unfold ss_tx; rw [Bool.and_comm])
theorem ss_vis_cnt {n : Nat} {kd tg : Nat → Nat} : (rl.filter H).countP (fun z => !(ss_hd n kd tg H z)) = rl.countP (ss_tx n kd tg H) := by
  rw [List.countP_filter]
  exact List.countP_congr (fun z _ => by unfold ss_tx; rw [Bool.and_comm])
end
section
variable {oL cL wL bL n lg : Nat} {kd au pl bs tg sp pp ow oc ol oa lo lc rc br cm ch cc vc : Nat → Nat} {cd la : Nat → Int32} {rl : List Nat}
theorem ss_x_open36 {post : SX → Prop} {s p x q : Nat} (hs : s < 4) (hq : q < 48) (hch : ∀ j, ch j ≤ 1)
    (hp : post ((nI oL), (nI cL), (nI wL), (nI bL), (nI n), (nI (rl.length)), (nI lg), (ss_li kd), (ss_li au), (ss_li pl), (ss_li bs), (ss_li tg), cd, (ss_li sp), (ss_li pp), (ss_li ow), (ss_li oc), (ss_li ol), (ss_li oa), (ss_li lo), la, (ss_li lc), (ss_li rc), (ss_li br), (ss_li (ss_un (ss_sh (s * 48 + p) (s * 48 + q) cm) (s * 48 + p) x)), (ss_li (ss_un (ss_sh (s * 48 + p) (s * 48 + q) ch) (s * 48 + p) 0)), (ss_li (ss_un cc s (q + 1))), (ss_li (ss_un vc s (vc s + 1))))) :
    ∀ d i, p + d = i → i ≤ q → ∀ f, d < f → wX_openCell_36 post (nI s) (nI p) (nI x) (nI q) (nI (s * 48)) (nI oL) (nI cL) (nI wL) (nI bL) (nI n) (nI (rl.length)) (nI lg) f (nI i) (ss_li kd) (ss_li au) (ss_li pl) (ss_li bs) (ss_li tg) cd (ss_li sp) (ss_li pp) (ss_li ow) (ss_li oc) (ss_li ol) (ss_li oa) (ss_li lo) la (ss_li lc) (ss_li rc) (ss_li br) (ss_li (ss_sh (s * 48 + i) (s * 48 + q) cm)) (ss_li (ss_sh (s * 48 + i) (s * 48 + q) ch)) (ss_li cc) (ss_li vc) := by
  intro d
  induction d with
  | zero =>
    intro i hi hiq f hf
    obtain ⟨f, rfl, _⟩ := ss_fu hf
    have : i = p := by omega
    subst this
    have e1 : nI (s * 48) + nI i = nI (s * 48 + i) := nI_add _ _
    have v1 : vp_in (nI (s * 48) + nI i) 192 := by rw [e1]; exact vp_in_nI (by omega) (by omega)
    have v2 : vp_in (nI s) 4 := vp_in_nI (by omega) (by omega)
    refine br_t (nI_le (by omega) (by omega)) ⟨v1, nm_r (by rw [e1]; exact ss_li_u _ (by omega) _) ⟨v1, nm_r (by rw [e1]; exact ss_li_u _ (by omega) 0) ⟨v2, nm_r (by rw [nI_1]; exact ss_li_u _ (by omega) _) ⟨v2, v2, nm_r (by rw [ss_li_r vc (by omega), nI_1]; exact ss_li_u _ (by omega) _) hp⟩⟩⟩⟩
  | succ d ih =>
    intro i hi hiq f hf
    obtain ⟨f, rfl, hg⟩ := ss_fu hf
    obtain ⟨i, rfl⟩ : ∃ j, i = j + 1 := ⟨i - 1, by omega⟩
    have ih' := ih i (by omega) (by omega) f (by omega)
    have e1 : nI (s * 48) + nI (i + 1) = nI (s * 48 + i + 1) := nI_add _ _
    have e2 : nI (s * 48) + nI (i + 1) - 1 = nI (s * 48 + i) := by rw [e1, nI_pred]
    have v1 : vp_in (nI (s * 48) + nI (i + 1)) 192 := by rw [e1]; exact vp_in_nI (by omega) (by omega)
    have v2 : vp_in (nI (s * 48) + nI (i + 1) - 1) 192 := by rw [e2]; exact vp_in_nI (by omega) (by omega)
    refine br_f (nI_ge (by omega) (by omega)) ⟨v2, v1, nm_r ?_ ⟨v2, v1, nm_r ?_ (nm_r (pk_m1 i) ih')⟩⟩
    · rw [e2, ss_li_r _ (by omega), e1, ss_li_u _ (by omega), ← ss_sh_s (show s * 48 + i + 1 ≤ s * 48 + q by omega) cm, ss_sh_l (j := s * 48 + i) (by omega)]
      rfl
    · rw [e2, ss_li_r _ (by omega), ss_sh_l (j := s * 48 + i) (by omega), ss_nar (hch _), e1, ss_li_u _ (by omega), ← ss_sh_s (show s * 48 + i + 1 ≤ s * 48 + q by omega) ch]
      rfl
theorem ss_x_apply1 {post : SX → Prop} {s p x : Nat} {l : List Nat} {h : Nat → Bool} (S : ss_S cm ch cc vc s l h) (hs : s < 4) (hx : x < 64) (hk : kd x = 1) (hpl : p ≤ l.length) (hl : l.length < 48) (hch : ∀ j, ch j ≤ 1)
    (hp : post ((nI oL), (nI cL), (nI wL), (nI bL), (nI n), (nI (rl.length)), (nI lg), (ss_li kd), (ss_li au), (ss_li pl), (ss_li bs), (ss_li tg), cd, (ss_li sp), (ss_li pp), (ss_li ow), (ss_li oc), (ss_li ol), (ss_li oa), (ss_li lo), la, (ss_li lc), (ss_li rc), (ss_li br), (ss_li (ss_un (ss_sh (s * 48 + p) (s * 48 + l.length) cm) (s * 48 + p) x)), (ss_li (ss_un (ss_sh (s * 48 + p) (s * 48 + l.length) ch) (s * 48 + p) 0)), (ss_li (ss_un cc s (l.length + 1))), (ss_li (ss_un vc s (vc s + 1))))) :
    wpX_apply post ((nI oL), (nI cL), (nI wL), (nI bL), (nI n), (nI (rl.length)), (nI lg), (ss_li kd), (ss_li au), (ss_li pl), (ss_li bs), (ss_li tg), cd, (ss_li sp), (ss_li pp), (ss_li ow), (ss_li oc), (ss_li ol), (ss_li oa), (ss_li lo), la, (ss_li lc), (ss_li rc), (ss_li br), (ss_li cm), (ss_li ch), (ss_li cc), (ss_li vc)) (nI s) (nI x) (nI p) := by
  have h0 := ss_x_open36 (x := x) hs hl hch hp (l.length - p) l.length (by omega) (Nat.le_refl _) 49 (by omega)
  rw [ss_sh_0, ss_sh_0] at h0
  refine ⟨vp_in_nI (by omega) (by omega), br_t (by rw [ss_li_r kd (by omega), hk]; rfl) ?_⟩
  refine ⟨vp_in_nI (by omega) (by omega), nm_r (e' := nI l.length) (by rw [ss_li_r cc (by omega), S.1]) (br_f (nI_pos (by omega)) (br_f (nI_nlt (by omega) (by omega)) (br_t (nI_lt (b := 48) (by omega) (by omega)) (nm_r (pk_mul s 48) ⟨49, h0⟩))))⟩
theorem ss_x_apply2 {post : SX → Prop} {s p x : Nat} {l : List Nat} {h : Nat → Bool} (S : ss_S cm ch cc vc s l h) (hs : s < 4) (hx : x < 64) (hk : kd x = 2) (hpl : p < l.length) (hl : l.length ≤ 48) (hN : l.Nodup)
    (hn : h l[p] = true → post ((nI oL), (nI cL), (nI wL), (nI bL), (nI n), (nI (rl.length)), (nI lg), (ss_li kd), (ss_li au), (ss_li pl), (ss_li bs), (ss_li tg), cd, (ss_li sp), (ss_li pp), (ss_li ow), (ss_li oc), (ss_li ol), (ss_li oa), (ss_li lo), la, (ss_li lc), (ss_li rc), (ss_li br), (ss_li cm), (ss_li ch), (ss_li cc), (ss_li vc))) (hp : h l[p] = false → post ((nI oL), (nI cL), (nI wL), (nI bL), (nI n), (nI (rl.length)), (nI lg), (ss_li kd), (ss_li au), (ss_li pl), (ss_li bs), (ss_li tg), cd, (ss_li sp), (ss_li pp), (ss_li ow), (ss_li oc), (ss_li ol), (ss_li oa), (ss_li lo), la, (ss_li lc), (ss_li rc), (ss_li br), (ss_li cm), (ss_li (ss_un ch (s * 48 + p) 1)), (ss_li cc), (ss_li (ss_un vc s (vc s - 1))))) :
    wpX_apply post ((nI oL), (nI cL), (nI wL), (nI bL), (nI n), (nI (rl.length)), (nI lg), (ss_li kd), (ss_li au), (ss_li pl), (ss_li bs), (ss_li tg), cd, (ss_li sp), (ss_li pp), (ss_li ow), (ss_li oc), (ss_li ol), (ss_li oa), (ss_li lo), la, (ss_li lc), (ss_li rc), (ss_li br), (ss_li cm), (ss_li ch), (ss_li cc), (ss_li vc)) (nI s) (nI x) (nI p) := by
  refine ⟨vp_in_nI (by omega) (by omega), br_f (by rw [ss_li_r kd (by omega), hk]; decide) (ss_x_isVisible S hs hl hpl ?_)⟩
  have hix : nI s * 48 + nI p = nI (s * 48 + p) := by
    rw [← nI_add, ← pk_mul]; rfl
  have v1 : vp_in (nI s * 48 + nI p) 192 := by rw [hix]; exact vp_in_nI (by omega) (by omega)
  have v2 : vp_in (nI s) 4 := vp_in_nI (by omega) (by omega)
  cases hh : h l[p] with
  | true => exact br_t rfl (hn hh)
  | false =>
    have h0 := (ss_S_hide (h' := fun z => h z || z == l[p]) S hN hpl hh (fun z _ => rfl)).2
    refine br_f (by decide) ⟨v1, nm_r (by rw [hix]; exact ss_li_u _ (by omega) 1) ⟨v2, v2, nm_r ?_ (hp hh)⟩⟩
    rw [ss_li_r vc (by omega), ← ss_li_u _ (by omega)]
    exact congrArg _ (pk_sub (b := 1) h0)
theorem ss_x_apply {s x m : Nat} {H H' : Nat → Bool} (hs : s < 4) (hx : x < 64) (hxm : x < m) (hN : rl.Nodup) (hl : rl.length ≤ 48) (htr : tg x ∈ rl)
    (kx : (kd x = 1 ∧ tg x = x ∧ H x = false) ∨ (kd x = 2 ∧ H (tg x) = true ∧ x ∉ rl))
    (hH1 : ∀ y, y ∈ rl → H' y = (H y || y == x)) (hH2 : ∀ y, y < m → H' y = (H y || y == x))
    (hcl : ∀ r, r < m → kd r = 2 → H r = true → H (tg r) = true)
    (S : ss_S cm ch cc vc s (rl.filter H) (ss_hd m kd tg H)) (hch : ∀ j, ch j ≤ 1) :
    ∃ cm' ch' cc' vc' : Nat → Nat, ss_S cm' ch' cc' vc' s (rl.filter H') (ss_hd m kd tg H') ∧
      (∀ s', s' ≠ s → ∀ (l : List Nat) (h : Nat → Bool), l.length ≤ 48 → ss_S cm ch cc vc s' l h → ss_S cm' ch' cc' vc' s' l h) ∧ (∀ j, ch' j ≤ 1) ∧
      ∀ post : SX → Prop, post ((nI oL), (nI cL), (nI wL), (nI bL), (nI n), (nI (rl.length)), (nI lg), (ss_li kd), (ss_li au), (ss_li pl), (ss_li bs), (ss_li tg), cd, (ss_li sp), (ss_li pp), (ss_li ow), (ss_li oc), (ss_li ol), (ss_li oa), (ss_li lo), la, (ss_li lc), (ss_li rc), (ss_li br), (ss_li cm'), (ss_li ch'), (ss_li cc'), (ss_li vc')) → wpX_apply post ((nI oL), (nI cL), (nI wL), (nI bL), (nI n), (nI (rl.length)), (nI lg), (ss_li kd), (ss_li au), (ss_li pl), (ss_li bs), (ss_li tg), cd, (ss_li sp), (ss_li pp), (ss_li ow), (ss_li oc), (ss_li ol), (ss_li oa), (ss_li lo), la, (ss_li lc), (ss_li rc), (ss_li br), (ss_li cm), (ss_li ch), (ss_li cc), (ss_li vc)) (nI s) (nI x) (nI (ss_pos H (tg x) rl)) := by
  have hfl := List.length_filter_le H rl
  rcases kx with ⟨k, e, hHx⟩ | ⟨k, hHt, hxr⟩
  · rw [e] at htr
    have eg := ss_fil_gain hN htr hHx hH1
    have hlt : (rl.filter H).length < 48 := by
      have h1 := List.length_filter_le H' rl
      rw [eg, List.length_append, List.length_cons, List.length_take, List.length_drop] at h1
      omega
    have hple := ss_pos_le (H := H) (t := x) (l := rl)
    have hd' : ∀ z, ss_hd m kd tg H' z = ss_hd m kd tg H z := fun z => by
      rw [ss_hd_gain hxm hH2, k]; simp
    have hdx : ss_hd m kd tg H' x = false := ss_bf (fun q => by
      rw [hd'] at q
      unfold ss_hd at q
      obtain ⟨r, hr, h1⟩ := ss_ex_iff.mp q
      simp only [Bool.and_eq_true, beq_iff_eq] at h1
      have h2 := hcl r hr h1.1 h1.2.2
      rw [h1.2.1, hHx] at h2; cases h2)
    refine ⟨ss_un (ss_sh (s * 48 + ss_pos H x rl) (s * 48 + (rl.filter H).length) cm) (s * 48 + ss_pos H x rl) x, ss_un (ss_sh (s * 48 + ss_pos H x rl) (s * 48 + (rl.filter H).length) ch) (s * 48 + ss_pos H x rl) 0, ss_un cc s ((rl.filter H).length + 1), ss_un vc s (vc s + 1), ?_, ?_, ?_, fun post hp => by rw [e]; exact ss_x_apply1 S hs hx k hple hlt hch hp⟩
    · rw [eg]; exact ss_S_open S hple hdx (fun z _ => hd' z)
    · exact fun s' ne l h hl' S' => ss_S_open_o ne S' hl' hple hlt
    · intro j
      unfold ss_un ss_sh
      by_cases g : j = s * 48 + ss_pos H x rl
      · rw [if_pos g]; omega
      · rw [if_neg g]
        by_cases g2 : s * 48 + ss_pos H x rl < j ∧ j ≤ s * 48 + (rl.filter H).length
        · rw [if_pos g2]; exact hch _
        · rw [if_neg g2]; exact hch _
  · obtain ⟨hpl, hat⟩ := ss_fil_at htr hHt
    have eg := ss_fil_same hxr hH1
    have hNf : (rl.filter H).Nodup := hN.sublist List.filter_sublist
    have hd' : ∀ z, ss_hd m kd tg H' z = (ss_hd m kd tg H z || z == tg x) := fun z => by
      rw [ss_hd_gain hxm hH2, k, beq_self_eq_true, Bool.true_and, BEq.comm]
    cases hv : ss_hd m kd tg H (tg x) with
    | true =>
      refine ⟨cm, ch, cc, vc, ?_, fun s' _ l h _ S' => S', hch, fun post hp => ?_⟩
      · refine ss_S_congr S eg (fun z _ => ?_)
        rw [hd']
        by_cases ez : z = tg x
        · subst ez; rw [hv]; rfl
        · rw [beq_false_of_ne ez, Bool.or_false]
      · exact ss_x_apply2 S hs hx k hpl (by omega) hNf (fun _ => hp) (fun q => by rw [hat, hv] at q; cases q)
    | false =>
      refine ⟨cm, ss_un ch (s * 48 + ss_pos H (tg x) rl) 1, cc, ss_un vc s (vc s - 1), ?_, ?_, ?_, fun post hp => ?_⟩
      · rw [eg]
        exact (ss_S_hide S hNf hpl (by rw [hat]; exact hv) (fun z _ => by rw [hd', hat])).1
      · exact fun s' ne l h hl' S' => ss_S_hide_o ne S' hl' (by omega)
      · intro j
        unfold ss_un
        by_cases g : j = s * 48 + ss_pos H (tg x) rl
        · rw [if_pos g]; exact Nat.le_refl _
        · rw [if_neg g]; exact hch _
      · exact ss_x_apply2 S hs hx k hpl (by omega) hNf (fun q => by rw [hat, hv] at q; cases q) (fun _ => hp)
theorem ss_x_landing {post : Int32 → Prop} {s x m : Nat} {H : Nat → Bool} (hs : s < 4) (hx : x < 64) (hl : rl.length ≤ 48) (htr : tg x ∈ rl) (hkd : ∀ i, kd i < 256)
    (kx : kd x = 2 → H (tg x) = true)
    (S : ss_S cm ch cc vc s (rl.filter H) (ss_hd m kd tg H)) (hp : post (ss_ans kd tg rl (ss_tx m kd tg H) x)) : wpX_landing post ((nI oL), (nI cL), (nI wL), (nI bL), (nI n), (nI (rl.length)), (nI lg), (ss_li kd), (ss_li au), (ss_li pl), (ss_li bs), (ss_li tg), cd, (ss_li sp), (ss_li pp), (ss_li ow), (ss_li oc), (ss_li ol), (ss_li oa), (ss_li lo), la, (ss_li lc), (ss_li rc), (ss_li br), (ss_li cm), (ss_li ch), (ss_li cc), (ss_li vc)) (nI s) (nI x) (nI (ss_pos H (tg x) rl)) := by
  have hfl := List.length_filter_le H rl
  refine ss_x_landing0 S hs (by omega) hx hkd ss_pos_le (fun k => (ss_fil_at htr (kx k)).1) (fun q k hh => ?_) (fun hh => ?_)
  · obtain ⟨hpl, hat⟩ := ss_fil_at htr (kx k)
    rw [hat] at hh
    unfold ss_ans at hp
    rw [if_pos ⟨k, by unfold ss_tx; rw [hh]; simp⟩] at hp
    exact hp
  · rw [ss_vis_pos htr]
    unfold ss_ans at hp
    rw [if_neg] at hp
    · exact hp
    · rintro ⟨k, h1⟩
      obtain ⟨hpl, hat⟩ := ss_fil_at htr (kx k)
      have := hh k hpl
      rw [hat] at this
      unfold ss_tx at h1
      rw [this, kx k] at h1; cases h1
end
end
section
/-! the component's crossings -/
theorem ss_G_own {au lo : Nat → Nat} {c i k : Nat} (e : au (lo i) = c) (hk : ss_cn au c (lo i) < k) (y : Nat) : ss_G au lo c (i + 1) k y = ss_G au lo c i k y := by
  rw [ss_G_s]
  by_cases h : y = lo i
  · subst h
    rw [ss_G_iff.mpr (Or.inr ⟨e, hk⟩)]; rfl
  · rw [beq_false_of_ne h, Bool.or_false]
section
variable {oL cL wL bL n lg : Nat} {kd au pl bs tg sp pp ow oc ol oa lo lc rc br cm ch cc vc : Nat → Nat} {cd la : Nat → Int32} {rl : List Nat}
theorem ss_posle {H : Nat → Bool} {t : Nat} (hl : rl.length ≤ 48) : ss_pos H t rl < 256 := by
  have h1 := ss_pos_le (H := H) (t := t) (l := rl)
  have h2 := List.length_filter_le H rl
  omega
theorem ss_x_cl16 {c x kp : Nat} (P : ss_P n lg kd au bs tg lo rc rl) (B : ss_BY n lg kd au bs tg lo rc) (hl : rl.length ≤ 48) (hc : c < 3) (hx : x < n) (hxc : au x = c)
    (hkx : ss_cn au c x = ss_cn (fun j => au (lo j)) c lg) (hkp : kp = 0 ∨ kp = 1) :
    ∀ d i, i + d = lg → bs x ≤ i → ∀ br : Nat → Nat,
      (∀ j, i ≤ j → j < lg → au (lo j) ≠ c → br (c * 64 + j) = ss_pos (ss_G au lo c j (ss_cn au c x)) (tg (lo j)) rl) →
      ∃ br' : Nat → Nat, (kp = 1 → ∀ j, i ≤ j → j < lg → au (lo j) ≠ c → br' (c * 64 + j) = ss_pos (ss_G au lo c j (ss_cn au c x + 1)) (tg (lo j)) rl) ∧
        (∀ m, (∀ j, i ≤ j → j < lg → m ≠ c * 64 + j) → br' m = br m) ∧ (kp = 0 → br' = br) ∧
        ∀ f, d < f → ∀ post : Int32 → SX → Prop, post (nI (ss_pos (ss_G au lo c lg (ss_cn au c x)) (tg x) rl)) ((nI oL), (nI cL), (nI wL), (nI bL), (nI n), (nI (rl.length)), (nI lg), (ss_li kd), (ss_li au), (ss_li pl), (ss_li bs), (ss_li tg), cd, (ss_li sp), (ss_li pp), (ss_li ow), (ss_li oc), (ss_li ol), (ss_li oa), (ss_li lo), la, (ss_li lc), (ss_li rc), (ss_li br'), (ss_li cm), (ss_li ch), (ss_li cc), (ss_li vc)) →
          wX_crossLog_16 post (nI c) (nI x) (nI kp) (nI oL) (nI cL) (nI wL) (nI bL) (nI n) (nI (rl.length)) (nI lg) f (nI (ss_pos (ss_G au lo c i (ss_cn au c x)) (tg x) rl)) (nI i) (ss_li kd) (ss_li au) (ss_li pl) (ss_li bs) (ss_li tg) cd (ss_li sp) (ss_li pp) (ss_li ow) (ss_li oc) (ss_li ol) (ss_li oa) (ss_li lo) la (ss_li lc) (ss_li rc) (ss_li br) (ss_li cm) (ss_li ch) (ss_li cc) (ss_li vc) := by
  have B' := B
  obtain ⟨hn, hlg, hrc, hlo, hau, hkd, htg, _⟩ := B'
  have hxl : ∀ i, i ≤ lg → ss_inL lo i x = false := fun i hi => ss_bf (fun q => by
    have q2 := (ss_inLog P (Nat.le_refl lg) hx).mp (ss_inL_mono hi q)
    rw [hxc] at q2; omega)
  intro d
  induction d with
  | zero =>
    intro i hi hb br hbr
    have : i = lg := by omega
    subst this
    refine ⟨br, fun _ j h1 h2 => absurd h1 (by omega), fun _ _ => rfl, fun _ => rfl, fun f hf post hp => ?_⟩
    obtain ⟨f, rfl, _⟩ := ss_fu hf
    exact br_t (nI_le (by omega) (by omega)) hp
  | succ d ih =>
    intro i hi hb br hbr
    have hil : i < lg := by omega
    obtain ⟨hq, hqc, hqb⟩ := ss_P_log P i hil
    have v1 : vp_in (nI i) 64 := vp_in_nI (by omega) (by omega)
    have v2 : vp_in (nI (lo i)) 64 := vp_in_nI (by omega) (by omega)
    have ha := hau (lo i)
    by_cases e : au (lo i) = c
    · obtain ⟨br', h1, h2, h3, h4⟩ := ih (i + 1) (by omega) (by omega) br (fun j g1 g2 g3 => hbr j (by omega) g2 g3)
      refine ⟨br', fun hk j g1 g2 g3 => h1 hk j ?_ g2 g3, fun m hm => h2 m (fun j g1 g2 => hm j (by omega) g2), h3, fun f hf post hp => ?_⟩
      · rcases Nat.lt_or_ge i j with y | y
        · exact y
        · have : j = i := by omega
          subst this; exact absurd e g3
      · obtain ⟨f, rfl, hg⟩ := ss_fu hf
        have h5 := h4 f (by omega) post hp
        have hr : ss_cn au c (lo i) < ss_cn au c x := by
          have := (ss_inLog P (Nat.le_refl lg) hq).mp (ss_inL_iff.mpr ⟨i, hil, rfl⟩)
          rw [e] at this; omega
        rw [ss_pos_congr (fun y _ => ss_G_own e hr y)] at h5
        refine br_f (nI_ge (by omega) (by omega)) ⟨v1, nm_r (ss_li_r lo (by omega)) ⟨v2, br_t ?_ (nm_r (nI_1 i) h5)⟩⟩
        rw [ss_li_r au (by omega), e]
    · obtain ⟨ga, gb⟩ := ss_grid P hil e hx hxc hb (hxl i (by omega))
      have hix : nI c * 64 + nI i = nI (c * 64 + i) := by
        rw [← nI_add, ← pk_mul]; rfl
      have v3 : vp_in (nI (c * 64 + i)) 192 := vp_in_nI (by omega) (by omega)
      have ea : ¬ ss_li au (nI (lo i)).toNatClampNeg = nI c := by
        rw [ss_li_r au (by omega)]
        exact fun q => e ((nI_eq (by omega) (by omega)).mp q)
      have hbi := hbr i (Nat.le_refl _) hil e
      rcases hkp with hk | hk
      · obtain ⟨br', h1, h2, h3, h4⟩ := ih (i + 1) (by omega) (by omega) br (fun j g1 g2 g3 => hbr j (by omega) g2 g3)
        refine ⟨br', fun hk' => absurd hk' (by omega), fun m hm => h2 m (fun j g1 g2 => hm j (by omega) g2), h3, fun f hf post hp => ?_⟩
        obtain ⟨f, rfl, hg⟩ := ss_fu hf
        have h5 := h4 f (by omega) post hp
        refine br_f (nI_ge (by omega) (by omega)) ⟨v1, nm_r (ss_li_r lo (by omega)) ⟨v2, br_f ea (nm_r hix ⟨v3, nm_r (ss_li_r br (by omega)) ?_⟩)⟩⟩
        rw [hbi]
        refine ss_x_shift (by omega) (by omega) (ss_posle hl) (ss_posle hl) hkd hau ?_
        rw [ga]
        exact br_t (by rw [hk]; rfl) (nm_r (nI_1 i) h5)
      · obtain ⟨br', h1, h2, h3, h4⟩ := ih (i + 1) (by omega) (by omega) (ss_un br (c * 64 + i) (ss_pos (ss_G au lo c i (ss_cn au c x + 1)) (tg (lo i)) rl)) (fun j g1 g2 g3 => by
          rw [ss_un_n (by omega)]; exact hbr j (by omega) g2 g3)
        refine ⟨br', fun hk' j g1 g2 g3 => ?_, fun m hm => ?_, fun hk' => absurd hk' (by omega), fun f hf post hp => ?_⟩
        · rcases Nat.lt_or_ge i j with y | y
          · exact h1 hk' j y g2 g3
          · have : j = i := by omega
            subst this
            rw [h2 _ (fun j' g1' _ => by omega), ss_un_s]
        · rw [h2 m (fun j g1 g2 => hm j (by omega) g2), ss_un_n (hm i (Nat.le_refl _) hil)]
        · obtain ⟨f, rfl, hg⟩ := ss_fu hf
          have h5 := h4 f (by omega) post hp
          refine br_f (nI_ge (by omega) (by omega)) ⟨v1, nm_r (ss_li_r lo (by omega)) ⟨v2, br_f ea (nm_r hix ⟨v3, nm_r (ss_li_r br (by omega)) ?_⟩)⟩⟩
          rw [hbi]
          refine ss_x_shift (by omega) (by omega) (ss_posle hl) (ss_posle hl) hkd hau ?_
          rw [ga]
          refine br_f (by rw [hk]; decide) (ss_x_shift (by omega) (by omega) (ss_posle hl) (ss_posle hl) hkd hau ?_)
          rw [gb]
          exact ⟨v3, nm_r (ss_li_u br (by omega) _) (nm_r (nI_1 i) h5)⟩
theorem ss_x_crossLog {c x kp : Nat} (P : ss_P n lg kd au bs tg lo rc rl) (B : ss_BY n lg kd au bs tg lo rc) (hl : rl.length ≤ 48) (hc : c < 3) (hx : x < n) (hxc : au x = c)
    (hkx : ss_cn au c x = ss_cn (fun j => au (lo j)) c lg) (hkp : kp = 0 ∨ kp = 1)
    (hsp : sp x = ss_pos (ss_pa au bs lo x) (tg x) rl)
    (hbr : ∀ j, bs x ≤ j → j < lg → au (lo j) ≠ c → br (c * 64 + j) = ss_pos (ss_G au lo c j (ss_cn au c x)) (tg (lo j)) rl) :
      ∃ br' : Nat → Nat, (kp = 1 → ∀ j, bs x ≤ j → j < lg → au (lo j) ≠ c → br' (c * 64 + j) = ss_pos (ss_G au lo c j (ss_cn au c x + 1)) (tg (lo j)) rl) ∧
        (∀ m, (∀ j, bs x ≤ j → j < lg → m ≠ c * 64 + j) → br' m = br m) ∧ (kp = 0 → br' = br) ∧
        ∀ post : Int32 → SX → Prop, post (nI (ss_pos (ss_inL lo lg) (tg x) rl)) ((nI oL), (nI cL), (nI wL), (nI bL), (nI n), (nI (rl.length)), (nI lg), (ss_li kd), (ss_li au), (ss_li pl), (ss_li bs), (ss_li tg), cd, (ss_li sp), (ss_li pp), (ss_li ow), (ss_li oc), (ss_li ol), (ss_li oa), (ss_li lo), la, (ss_li lc), (ss_li rc), (ss_li br'), (ss_li cm), (ss_li ch), (ss_li cc), (ss_li vc)) → wpX_crossLog post ((nI oL), (nI cL), (nI wL), (nI bL), (nI n), (nI (rl.length)), (nI lg), (ss_li kd), (ss_li au), (ss_li pl), (ss_li bs), (ss_li tg), cd, (ss_li sp), (ss_li pp), (ss_li ow), (ss_li oc), (ss_li ol), (ss_li oa), (ss_li lo), la, (ss_li lc), (ss_li rc), (ss_li br), (ss_li cm), (ss_li ch), (ss_li cc), (ss_li vc)) (nI c) (nI x) (nI kp) := by
  have hn : n ≤ 64 := B.1
  have hlg : lg ≤ 64 := B.2.1
  have hbl : bs x ≤ lg := Nat.le_trans (ss_P_bs P x hx) (ss_P_rc P _)
  obtain ⟨br', h1, h2, h3, h4⟩ := ss_x_cl16 (oL := oL) (cL := cL) (wL := wL) (bL := bL) (pl := pl) (cd := cd) (sp := sp) (pp := pp) (ow := ow) (oc := oc) (ol := ol) (oa := oa) (la := la) (lc := lc) (cm := cm) (ch := ch) (cc := cc) (vc := vc) P B hl hc hx hxc hkx hkp (lg - bs x) (bs x) (by omega) (Nat.le_refl _) br hbr
  refine ⟨br', h1, h2, h3, fun post hp => ?_⟩
  have e1 : ss_pos (ss_G au lo c lg (ss_cn au c x)) (tg x) rl = ss_pos (ss_inL lo lg) (tg x) rl := ss_pos_congr (fun y hy => by
    have hy' := ((ss_P_rl P y).mp hy).1
    refine ss_be ?_
    rw [ss_G_iff]
    constructor
    · rintro (q | ⟨q1, q2⟩)
      · exact q
      · rw [ss_inLog P (Nat.le_refl lg) hy', q1]; omega
    · exact Or.inl)
  have h5 := h4 65 (by omega) post (by rw [e1]; exact hp)
  have e2 : ss_pos (ss_G au lo c (bs x) (ss_cn au c x)) (tg x) rl = sp x := by rw [hsp, ← hxc]; rfl
  rw [e2] at h5
  exact ⟨vp_in_nI (by omega) (by omega), nm_r (ss_li_r sp (by omega)) ⟨vp_in_nI (by omega) (by omega), nm_r (ss_li_r bs (by omega)) ⟨65, h5⟩⟩⟩
theorem ss_x_cp24 {c e kp : Nat} (P : ss_P n lg kd au bs tg lo rc rl) (B : ss_BY n lg kd au bs tg lo rc) (hl : rl.length ≤ 48) (hc : c < 3) (he : e < lg) (hqc : au (lo e) ≠ c)
    (hbs : ∀ z, z < n → au z = c → bs z ≤ e) (XO : ∀ z, z < n → ow (au z * 64 + ss_cn au (au z) z) = z) (hoc : oc c = ss_cn au c n) (hkp : kp = 0 ∨ kp = 1) :
    ∀ d k, k + d = ss_cn au c n → ss_cn (fun j => au (lo j)) c e ≤ k → ∀ pp : Nat → Nat,
      (∀ z, z < n → au z = c → k ≤ ss_cn au c z → pp z = ss_pos (ss_G au lo c e (ss_cn au c z)) (tg z) rl) →
      ∃ pp' : Nat → Nat, (kp = 1 → ∀ z, z < n → au z = c → k ≤ ss_cn au c z → pp' z = ss_pos (ss_G au lo c (e + 1) (ss_cn au c z)) (tg z) rl) ∧
        (∀ m, ¬ (m < n ∧ au m = c ∧ k ≤ ss_cn au c m) → pp' m = pp m) ∧ (kp = 0 → pp' = pp) ∧
        ∀ f, d < f → ∀ post : Int32 → SX → Prop, post (nI (ss_pos (ss_G au lo c e (ss_cn au c n)) (tg (lo e)) rl)) ((nI oL), (nI cL), (nI wL), (nI bL), (nI n), (nI (rl.length)), (nI lg), (ss_li kd), (ss_li au), (ss_li pl), (ss_li bs), (ss_li tg), cd, (ss_li sp), (ss_li pp'), (ss_li ow), (ss_li oc), (ss_li ol), (ss_li oa), (ss_li lo), la, (ss_li lc), (ss_li rc), (ss_li br), (ss_li cm), (ss_li ch), (ss_li cc), (ss_li vc)) →
          wX_crossPending_24 post (nI c) (nI kp) (nI (lo e)) (nI oL) (nI cL) (nI wL) (nI bL) (nI n) (nI (rl.length)) (nI lg) f (nI (ss_pos (ss_G au lo c e k) (tg (lo e)) rl)) (nI k) (ss_li kd) (ss_li au) (ss_li pl) (ss_li bs) (ss_li tg) cd (ss_li sp) (ss_li pp) (ss_li ow) (ss_li oc) (ss_li ol) (ss_li oa) (ss_li lo) la (ss_li lc) (ss_li rc) (ss_li br) (ss_li cm) (ss_li ch) (ss_li cc) (ss_li vc) := by
  have B' := B
  obtain ⟨hn, hlg, hrc, hlo, hau, hkd, htg, _⟩ := B'
  obtain ⟨hq, _, _⟩ := ss_P_log P e he
  have hcn := ss_cn_le au c n
  have v0 : vp_in (nI c) 3 := vp_in_nI (by omega) (by omega)
  intro d
  induction d with
  | zero =>
    intro k hk hge pp hpp
    have : k = ss_cn au c n := by omega
    subst this
    refine ⟨pp, fun _ z h1 h2 h3 => absurd (ss_cn_lt h1 h2) (by omega), fun _ _ => rfl, fun _ => rfl, fun f hf post hp => ?_⟩
    obtain ⟨f, rfl, _⟩ := ss_fu hf
    exact ⟨v0, br_t (by rw [ss_li_r oc (by omega), hoc]; exact nI_le (Nat.le_refl _) (by omega)) hp⟩
  | succ d ih =>
    intro k hk hge pp hpp
    obtain ⟨x, hx, hxc, hxk⟩ := ss_cn_ex (show k < ss_cn au c n by omega)
    have hxl : ss_inL lo e x = false := ss_bf (fun q => by
      have := (ss_inLog P (Nat.le_of_lt he) hx).mp q
      rw [hxc] at this; omega)
    obtain ⟨ga, gb⟩ := ss_grid P he hqc hx hxc (hbs x hx hxc) hxl
    have hox : ow (c * 64 + k) = x := by
      have := XO x hx
      rw [hxc, hxk] at this; exact this
    have hpx := hpp x hx hxc (by omega)
    rw [hxk] at ga gb hpx
    have hix : nI c * 64 + nI k = nI (c * 64 + k) := by
      rw [← nI_add, ← pk_mul]; rfl
    have v1 : vp_in (nI c * 64 + nI k) 192 := by rw [hix]; exact vp_in_nI (by omega) (by omega)
    have v2 : vp_in (nI x) 64 := vp_in_nI (by omega) (by omega)
    have c1 : ¬ ss_li oc (nI c).toNatClampNeg ≤ nI k := by rw [ss_li_r oc (by omega), hoc]; exact nI_ge (by omega) (by omega)
    have e7 : ss_li ow (nI c * 64 + nI k).toNatClampNeg = nI x := by rw [hix, ss_li_r ow (by omega), hox]
    have uniq : ∀ z, z < n → au z = c → k ≤ ss_cn au c z → z = x ∨ k + 1 ≤ ss_cn au c z := fun z h1 h2 h3 => by
      rcases Nat.lt_or_ge k (ss_cn au c z) with y | y
      · exact Or.inr y
      · exact Or.inl (ss_cn_inj h2 hxc (by omega))
    rcases hkp with hkk | hkk
    · obtain ⟨pp', h1, h2, h3, h4⟩ := ih (k + 1) (by omega) (by omega) pp (fun z g1 g2 g3 => hpp z g1 g2 (by omega))
      refine ⟨pp', fun hk' => absurd hk' (by omega), fun m hm => h2 m (fun g => hm ⟨g.1, g.2.1, by omega⟩), h3, fun f hf post hp => ?_⟩
      obtain ⟨f, rfl, hg⟩ := ss_fu hf
      have h5 := h4 f (by omega) post hp
      refine ⟨v0, br_f c1 ⟨v1, nm_r e7 ⟨v2, nm_r (ss_li_r pp (by omega)) ?_⟩⟩⟩
      rw [hpx]
      refine ss_x_shift (by omega) (by omega) (ss_posle hl) (ss_posle hl) hkd hau ?_
      rw [gb]
      exact br_t (by rw [hkk]; rfl) (nm_r (nI_1 k) h5)
    · obtain ⟨pp', h1, h2, h3, h4⟩ := ih (k + 1) (by omega) (by omega) (ss_un pp x (ss_pos (ss_G au lo c (e + 1) k) (tg x) rl)) (fun z g1 g2 g3 => by
        rw [ss_un_n (fun q => by subst q; omega)]; exact hpp z g1 g2 (by omega))
      refine ⟨pp', fun hk' z g1 g2 g3 => ?_, fun m hm => ?_, fun hk' => absurd hk' (by omega), fun f hf post hp => ?_⟩
      · rcases uniq z g1 g2 g3 with y | y
        · subst y
          rw [h2 _ (fun g => by have := g.2.2; omega), ss_un_s, hxk]
        · exact h1 hk' z g1 g2 y
      · rw [h2 m (fun g => hm ⟨g.1, g.2.1, by omega⟩), ss_un_n (fun q => hm (by subst q; exact ⟨hx, hxc, by omega⟩))]
      · obtain ⟨f, rfl, hg⟩ := ss_fu hf
        have h5 := h4 f (by omega) post hp
        refine ⟨v0, br_f c1 ⟨v1, nm_r e7 ⟨v2, nm_r (ss_li_r pp (by omega)) ?_⟩⟩⟩
        rw [hpx]
        refine ss_x_shift (by omega) (by omega) (ss_posle hl) (ss_posle hl) hkd hau ?_
        rw [gb]
        refine br_f (by rw [hkk]; decide) (ss_x_shift (by omega) (by omega) (ss_posle hl) (ss_posle hl) hkd hau ?_)
        rw [ga]
        exact ⟨v2, nm_r (ss_li_u pp (by omega) _) (nm_r (nI_1 k) h5)⟩
theorem ss_x_crossPending {c kp : Nat} (P : ss_P n lg kd au bs tg lo rc rl) (B : ss_BY n lg kd au bs tg lo rc) (hl : rl.length ≤ 48) (hc : c < 3) (he : rc c < lg) (hqc : au (lo (rc c)) ≠ c)
    (XO : ∀ z, z < n → ow (au z * 64 + ss_cn au (au z) z) = z) (hoc : oc c = ss_cn au c n) (hoa : oa c = ss_cn (fun j => au (lo j)) c (rc c)) (hkp : kp = 0 ∨ kp = 1)
    (hlc : lc (rc c) = ss_pos (ss_inL lo (rc c)) (tg (lo (rc c))) rl)
    (hpp : ∀ z, z < n → au z = c → ss_cn (fun j => au (lo j)) c (rc c) ≤ ss_cn au c z → pp z = ss_pos (ss_G au lo c (rc c) (ss_cn au c z)) (tg z) rl)
    (hole : ss_cn (fun j => au (lo j)) c (rc c) ≤ ss_cn au c n) :
      ∃ pp' : Nat → Nat, (kp = 1 → ∀ z, z < n → au z = c → ss_cn (fun j => au (lo j)) c (rc c) ≤ ss_cn au c z → pp' z = ss_pos (ss_G au lo c (rc c + 1) (ss_cn au c z)) (tg z) rl) ∧
        (∀ m, ¬ (m < n ∧ au m = c ∧ ss_cn (fun j => au (lo j)) c (rc c) ≤ ss_cn au c m) → pp' m = pp m) ∧ (kp = 0 → pp' = pp) ∧
        ∀ post : Int32 → SX → Prop, post (nI (ss_pos (ss_G au lo c (rc c) (ss_cn au c n)) (tg (lo (rc c))) rl)) ((nI oL), (nI cL), (nI wL), (nI bL), (nI n), (nI (rl.length)), (nI lg), (ss_li kd), (ss_li au), (ss_li pl), (ss_li bs), (ss_li tg), cd, (ss_li sp), (ss_li pp'), (ss_li ow), (ss_li oc), (ss_li ol), (ss_li oa), (ss_li lo), la, (ss_li lc), (ss_li rc), (ss_li br), (ss_li cm), (ss_li ch), (ss_li cc), (ss_li vc)) → wpX_crossPending post ((nI oL), (nI cL), (nI wL), (nI bL), (nI n), (nI (rl.length)), (nI lg), (ss_li kd), (ss_li au), (ss_li pl), (ss_li bs), (ss_li tg), cd, (ss_li sp), (ss_li pp), (ss_li ow), (ss_li oc), (ss_li ol), (ss_li oa), (ss_li lo), la, (ss_li lc), (ss_li rc), (ss_li br), (ss_li cm), (ss_li ch), (ss_li cc), (ss_li vc)) (nI c) (nI (rc c)) (nI kp) := by
  have hn : n ≤ 64 := B.1
  have hlg : lg ≤ 64 := B.2.1
  have hcn := ss_cn_le au c n
  have hq := (ss_P_log P _ he).1
  obtain ⟨pp', h1, h2, h3, h4⟩ := ss_x_cp24 (oL := oL) (cL := cL) (wL := wL) (bL := bL) (pl := pl) (cd := cd) (sp := sp) (br := br) (ol := ol) (oa := oa) (la := la) (lc := lc) (cm := cm) (ch := ch) (cc := cc) (vc := vc) P B hl hc he hqc (fun z hz e => by rw [← e]; exact ss_P_bs P z hz) XO hoc hkp
    (ss_cn au c n - ss_cn (fun j => au (lo j)) c (rc c)) (ss_cn (fun j => au (lo j)) c (rc c)) (by omega) (Nat.le_refl _) pp hpp
  refine ⟨pp', h1, h2, h3, fun post hp => ?_⟩
  have h5 := h4 65 (by omega) post hp
  have e1 : ss_pos (ss_G au lo c (rc c) (ss_cn (fun j => au (lo j)) c (rc c))) (tg (lo (rc c))) rl = lc (rc c) := by
    rw [hlc]
    refine ss_pos_congr (fun y hy => ?_)
    have hy' := ((ss_P_rl P y).mp hy).1
    refine ss_be ?_
    rw [ss_G_iff]
    constructor
    · rintro (q | ⟨q1, q2⟩)
      · exact q
      · rw [ss_inLog P (Nat.le_of_lt he) hy', q1]; omega
    · exact Or.inl
  rw [e1] at h5
  exact ⟨vp_in_nI (by omega) (by omega), nm_r (ss_li_r lo (by omega)) ⟨vp_in_nI (by omega) (by omega), nm_r (ss_li_r lc (by omega)) ⟨vp_in_nI (by omega) (by omega), nm_r (by rw [ss_li_r oa (by omega), hoa]) ⟨65, h5⟩⟩⟩⟩
theorem ss_x_app34 {c p : Nat} (hlg : lg < 64) (hc : c < 3) :
    ∀ d o, o + d = 3 → ∀ br : Nat → Nat,
      ∃ br' : Nat → Nat, (∀ o', o ≤ o' → o' < 3 → o' ≠ c → br' (o' * 64 + lg) = p) ∧ (∀ m, (∀ o', o ≤ o' → o' < 3 → o' ≠ c → m ≠ o' * 64 + lg) → br' m = br m) ∧
        ∀ f, d < f → ∀ post : SX → Prop, post ((nI oL), (nI cL), (nI wL), (nI bL), (nI n), (nI (rl.length)), (nI (lg + 1)), (ss_li kd), (ss_li au), (ss_li pl), (ss_li bs), (ss_li tg), cd, (ss_li sp), (ss_li pp), (ss_li ow), (ss_li oc), (ss_li ol), (ss_li oa), (ss_li lo), la, (ss_li lc), (ss_li rc), (ss_li br'), (ss_li cm), (ss_li ch), (ss_li cc), (ss_li vc)) → wX_appendToLog_34 post (nI c) (nI p) (nI lg) (nI oL) (nI cL) (nI wL) (nI bL) (nI n) (nI (rl.length)) (nI lg) f (nI o) (ss_li kd) (ss_li au) (ss_li pl) (ss_li bs) (ss_li tg) cd (ss_li sp) (ss_li pp) (ss_li ow) (ss_li oc) (ss_li ol) (ss_li oa) (ss_li lo) la (ss_li lc) (ss_li rc) (ss_li br) (ss_li cm) (ss_li ch) (ss_li cc) (ss_li vc) := by
  intro d
  induction d with
  | zero =>
    intro o ho br
    refine ⟨br, fun o' h1 h2 => absurd h1 (by omega), fun _ _ => rfl, fun f hf post hp => ?_⟩
    obtain ⟨f, rfl, _⟩ := ss_fu hf
    exact br_t (nI_le (a := 3) (by omega) (by omega)) (nm_r (nI_1 lg) hp)
  | succ d ih =>
    intro o ho br
    by_cases e : o = c
    · obtain ⟨br', h1, h2, h3⟩ := ih (o + 1) (by omega) br
      refine ⟨br', fun o' g1 g2 g3 => h1 o' (by omega) g2 g3, fun m hm => h2 m (fun o' g1 g2 g3 => hm o' (by omega) g2 g3), fun f hf post hp => ?_⟩
      obtain ⟨f, rfl, hg⟩ := ss_fu hf
      exact br_f (nI_ge (b := 3) (by omega) (by omega)) (br_t (by rw [e]) (nm_r (nI_1 o) (h3 f (by omega) post hp)))
    · obtain ⟨br', h1, h2, h3⟩ := ih (o + 1) (by omega) (ss_un br (o * 64 + lg) p)
      have hix : nI o * 64 + nI lg = nI (o * 64 + lg) := by
        rw [← nI_add, ← pk_mul]; rfl
      refine ⟨br', fun o' g1 g2 g3 => ?_, fun m hm => ?_, fun f hf post hp => ?_⟩
      · rcases Nat.lt_or_ge o o' with y | y
        · exact h1 o' y g2 g3
        · have : o' = o := by omega
          subst this
          rw [h2 _ (fun o2 g1' _ _ => by omega), ss_un_s]
      · rw [h2 m (fun o' g1 g2 g3 => hm o' (by omega) g2 g3), ss_un_n (hm o (Nat.le_refl _) (by omega) e)]
      · obtain ⟨f, rfl, hg⟩ := ss_fu hf
        refine br_f (nI_ge (b := 3) (by omega) (by omega)) (br_f (fun q => e ((nI_eq (by omega) (by omega)).mp q)) ⟨?_, nm_r ?_ (nm_r (nI_1 o) (h3 f (by omega) post hp))⟩)
        · rw [hix]; exact vp_in_nI (by omega) (by omega)
        · rw [hix]; exact ss_li_u br (by omega) p
theorem ss_x_append {c x p : Nat} {r : Int32} (hlg : lg < 64) (hc : c < 3) :
      ∃ br' : Nat → Nat, (∀ o', o' < 3 → o' ≠ c → br' (o' * 64 + lg) = p) ∧ (∀ m, (∀ o', o' < 3 → o' ≠ c → m ≠ o' * 64 + lg) → br' m = br m) ∧
        ∀ post : SX → Prop, post ((nI oL), (nI cL), (nI wL), (nI bL), (nI n), (nI (rl.length)), (nI (lg + 1)), (ss_li kd), (ss_li au), (ss_li pl), (ss_li bs), (ss_li tg), cd, (ss_li sp), (ss_li pp), (ss_li ow), (ss_li oc), (ss_li ol), (ss_li oa), (ss_li (ss_un lo lg x)), (upd la lg r), (ss_li (ss_un lc lg p)), (ss_li rc), (ss_li br'), (ss_li cm), (ss_li ch), (ss_li cc), (ss_li vc)) → wpX_appendToLog post ((nI oL), (nI cL), (nI wL), (nI bL), (nI n), (nI (rl.length)), (nI lg), (ss_li kd), (ss_li au), (ss_li pl), (ss_li bs), (ss_li tg), cd, (ss_li sp), (ss_li pp), (ss_li ow), (ss_li oc), (ss_li ol), (ss_li oa), (ss_li lo), la, (ss_li lc), (ss_li rc), (ss_li br), (ss_li cm), (ss_li ch), (ss_li cc), (ss_li vc)) (nI c) (nI x) (nI p) r := by
  obtain ⟨br', h1, h2, h3⟩ := ss_x_app34 (oL := oL) (cL := cL) (wL := wL) (bL := bL) (n := n) (kd := kd) (au := au) (pl := pl) (bs := bs) (tg := tg) (cd := cd) (sp := sp) (pp := pp) (ow := ow) (oc := oc) (ol := ol) (oa := oa) (lo := ss_un lo lg x) (la := upd la lg r) (lc := ss_un lc lg p) (rc := rc) (cm := cm) (ch := ch) (cc := cc) (vc := vc) (rl := rl) (p := p) hlg hc 3 0 rfl br
  refine ⟨br', fun o' g1 g2 => h1 o' (by omega) g1 g2, fun m hm => h2 m (fun o' _ g2 g3 => hm o' g2 g3), fun post hp => ?_⟩
  have v1 : vp_in (nI lg) 64 := vp_in_nI (by omega) (by omega)
  exact ⟨v1, nm_r (ss_li_u lo (by omega) x) ⟨v1, nm_r (by rw [nI_clamp (by omega)]) ⟨v1, nm_r (ss_li_u lc (by omega) p) ⟨4, h3 4 (by omega) post hp⟩⟩⟩⟩
end
end
section
/-! the laws last over every event -/
section
variable {n lg : Nat} {kd au bs tg lo rc : Nat → Nat} {rl : List Nat}
theorem ss_G_lo {lo' : Nat → Nat} {c i k y : Nat} (h : ∀ j, j < i → lo' j = lo j) : ss_G au lo' c i k y = ss_G au lo c i k y := by
  unfold ss_G; rw [ss_inL_congr h]
theorem ss_pa_lo {lo' : Nat → Nat} {x y : Nat} (h : ∀ j, j < bs x → lo' j = lo j) : ss_pa au bs lo' x y = ss_pa au bs lo x y := ss_G_lo h
theorem ss_ol_le (P : ss_P n lg kd au bs tg lo rc rl) {c e : Nat} (he : e ≤ lg) : ss_cn (fun j => au (lo j)) c e ≤ ss_cn au c n := by
  rcases Nat.lt_or_ge (ss_cn au c n) (ss_cn (fun j => au (lo j)) c e) with h | h
  · obtain ⟨i, hi, ha, hc⟩ := ss_cn_ex h
    obtain ⟨h1, h2, _⟩ := ss_P_log P i (by omega)
    have ha' : au (lo i) = c := ha
    rw [ha', hc] at h2
    have := ss_cn_lt h1 ha'
    omega
  · exact h
theorem ss_hcl (P : ss_P n lg kd au bs tg lo rc rl) {s : Nat} : ∀ r, r < n → kd r = 2 → ss_ho n lg au lo rc s r = true → ss_ho n lg au lo rc s (tg r) = true := by
  intro r hr k h
  have hp : ss_pa au bs lo r (tg r) = true := by
    rcases ss_P_kd P r hr with ⟨k1, _⟩ | ⟨_, _, _, e⟩
    · omega
    · exact e
  have hl : ∀ e, e ≤ lg → ss_inL lo e r = true → ss_inL lo e (tg r) = true := by
    intro e he q
    obtain ⟨i, hi, rfl⟩ := ss_inL_iff.mp q
    exact ss_inL_mono (Nat.le_of_lt hi) (ss_paq P (by omega) hp)
  unfold ss_ho at h ⊢
  by_cases e : s = 3
  · rw [if_pos e] at h ⊢
    exact hl lg (Nat.le_refl _) h
  · rw [if_neg e] at h ⊢
    rcases ss_G_iff.mp h with q | ⟨q1, q2⟩
    · exact ss_G_iff.mpr (Or.inl (hl _ (ss_P_rc P s) q))
    · rcases ss_G_iff.mp hp with w | ⟨w1, w2⟩
      · refine ss_G_iff.mpr (Or.inl (ss_inL_mono ?_ w))
        rw [← q1]; exact ss_P_bs P r hr
      · rw [q1] at w1 w2
        exact ss_G_iff.mpr (Or.inr ⟨w1, by omega⟩)
theorem ss_un_lt {f : Nat → Nat} {k v : Nat} : ∀ j, j < k → ss_un f k v j = f j := fun j hj => ss_un_n (by omega)
/-- an entry is received -/
theorem ss_P_recv (P : ss_P n lg kd au bs tg lo rc rl) {c : Nat} (h : rc c < lg) : ss_P n lg kd au bs tg lo (ss_un rc c (rc c + 1)) rl := by
  refine ⟨P.1, fun d => ?_, fun z hz => ⟨?_, ss_P_bl P z hz⟩, P.2.2.2⟩
  · by_cases e : d = c
    · subst e; rw [ss_un_s]; exact h
    · rw [ss_un_n e]; exact ss_P_rc P d
  · have := ss_P_bs P z hz
    by_cases e : au z = c
    · rw [e, ss_un_s]; rw [e] at this; omega
    · rw [ss_un_n e]; exact this
/-- an entry is logged -/
theorem ss_P_serve (P : ss_P n lg kd au bs tg lo rc rl) {x : Nat} (hx : x < n) (hkx : ss_cn au (au x) x = ss_cn (fun j => au (lo j)) (au x) lg) : ss_P n (lg + 1) kd au bs tg (ss_un lo lg x) rc rl := by
  have hbl : ∀ z, z < n → bs z ≤ lg := fun z hz => Nat.le_trans (ss_P_bs P z hz) (ss_P_rc P _)
  have hpa : ∀ z y, z < n → ss_pa au bs (ss_un lo lg x) z y = ss_pa au bs lo z y := fun z y hz => ss_pa_lo (fun j hj => ss_un_lt j (by have := hbl z hz; omega))
  have hcn : ∀ c i, i ≤ lg → ss_cn (fun j => au (ss_un lo lg x j)) c i = ss_cn (fun j => au (lo j)) c i := fun c i hi => ss_cn_congr (fun j hj => by
    show au (ss_un lo lg x j) = _
    rw [ss_un_lt j (by omega)])
  refine ⟨fun i hi => ?_, fun c => Nat.le_succ_of_le (ss_P_rc P c), fun z hz => ⟨ss_P_bs P z hz, fun j hj => ?_⟩, ss_P_bm P, fun z hz => ?_, ss_P_nd P, ss_P_rl P, ?_⟩
  · rcases Nat.lt_or_ge i lg with y | y
    · rw [ss_un_lt i y, hcn _ _ (by omega)]
      exact ss_P_log P i y
    · have : i = lg := by omega
      subst this
      rw [ss_un_s, hcn _ _ (by omega)]
      exact ⟨hx, hkx, hbl x hx⟩
  · rw [ss_un_lt j (by have := hbl z hz; omega)]
    exact ss_P_bl P z hz j hj
  · rw [hpa z _ hz]; exact ss_P_kd P z hz
  · intro a b ha hb ka kb hab pab pba hbt hlt
    rw [hpa _ _ ha] at pab
    rw [hpa _ _ hb] at pba
    refine ss_P_ti P a b ha hb ka kb hab pab pba (fun z hz hp => hbt z hz ?_) hlt
    rw [hpa _ _ ha, hpa _ _ hb]; exact hp
/-- an operation is accepted -/
theorem ss_G_acc {c c' i k y : Nat} (hy : y ≤ n) (hk : k ≤ ss_cn au c' n) : ss_G (ss_un au n c) lo c' i k y = ss_G au lo c' i k y := by
  have hcn : ss_cn (ss_un au n c) c' y = ss_cn au c' y := ss_cn_congr (fun j hj => ss_un_lt j (by omega))
  refine ss_be ?_
  rw [ss_G_iff, ss_G_iff, hcn]
  rcases Nat.lt_or_ge y n with h | h
  · rw [ss_un_lt y h]
  · have : y = n := by omega
    subst this
    constructor
    · rintro (q | ⟨_, q⟩)
      · exact Or.inl q
      · omega
    · rintro (q | ⟨_, q⟩)
      · exact Or.inl q
      · omega
theorem ss_inL_n0 (P : ss_P n lg kd au bs tg lo rc rl) {i : Nat} (hi : i ≤ lg) : ss_inL lo i n = false := ss_bf (fun q => by
  obtain ⟨j, hj, e⟩ := ss_inL_iff.mp q
  have := (ss_P_log P j (by omega)).1
  omega)
theorem ss_G_n0 (P : ss_P n lg kd au bs tg lo rc rl) {c' i k : Nat} (hi : i ≤ lg) (hk : k ≤ ss_cn au c' n) : ss_G au lo c' i k n = false := ss_bf (fun q => by
  rcases ss_G_iff.mp q with w | ⟨_, w⟩
  · rw [ss_inL_n0 P hi] at w; cases w
  · omega)
theorem ss_P_acc (P : ss_P n lg kd au bs tg lo rc rl) {c k0 t0 : Nat} {rl' : List Nat} (hrl : ∀ z, z ∈ rl' ↔ z < n + 1 ∧ ss_un kd n k0 z = 1) (hN : rl'.Nodup)
    (hk : (k0 = 1 ∧ t0 = n) ∨ (k0 = 2 ∧ t0 < n ∧ kd t0 = 1 ∧ ss_G au lo c (rc c) (ss_cn au c n) t0 = true))
    (hix : ∀ a b, a ∈ rl → b ∈ rl → (ss_ix a rl' < ss_ix b rl' ↔ ss_ix a rl < ss_ix b rl))
    (hT : k0 = 1 → ∀ m, m < n → kd m = 1 → ss_G au lo c (rc c) (ss_cn au c n) m = false →
      ((∀ z, z ∈ rl → (ss_G au lo c (rc c) (ss_cn au c n) z = true ∨ ss_pa au bs lo m z = true) → ¬ (ss_ix m rl' < ss_ix z rl' ∧ ss_ix z rl' < ss_ix n rl')) → ss_ix m rl' < ss_ix n rl' → au m < c) ∧
      ((∀ z, z ∈ rl → (ss_G au lo c (rc c) (ss_cn au c n) z = true ∨ ss_pa au bs lo m z = true) → ¬ (ss_ix n rl' < ss_ix z rl' ∧ ss_ix z rl' < ss_ix m rl')) → ss_ix n rl' < ss_ix m rl' → c < au m)) :
    ss_P (n + 1) lg (ss_un kd n k0) (ss_un au n c) (ss_un bs n (rc c)) (ss_un tg n t0) lo rc rl' := by
  have hcn : ∀ c' y, y ≤ n → ss_cn (ss_un au n c) c' y = ss_cn au c' y := fun c' y hy => ss_cn_congr (fun j hj => ss_un_lt j (by omega))
  have hal : ∀ c' i, i ≤ lg → ss_cn (fun j => ss_un au n c (lo j)) c' i = ss_cn (fun j => au (lo j)) c' i := fun c' i hi => ss_cn_congr (fun j hj => by
    show ss_un au n c (lo j) = _
    rw [ss_un_lt _ (ss_P_log P j (by omega)).1])
  have hpa : ∀ z y, z < n → y ≤ n → ss_pa (ss_un au n c) (ss_un bs n (rc c)) lo z y = ss_pa au bs lo z y := fun z y hz hy => by
    unfold ss_pa
    rw [ss_un_lt z hz, ss_un_lt z hz, hcn _ z (by omega)]
    exact ss_G_acc hy (ss_cn_mono (by omega))
  have hpn : ∀ y, y ≤ n → ss_pa (ss_un au n c) (ss_un bs n (rc c)) lo n y = ss_G au lo c (rc c) (ss_cn au c n) y := fun y hy => by
    unfold ss_pa
    rw [ss_un_s, ss_un_s, hcn _ n (by omega)]
    exact ss_G_acc hy (Nat.le_refl _)
  have hz' : ∀ z, z ∈ rl → z ∈ rl' := fun z hz => (hrl z).mpr (by
    have := (ss_P_rl P z).mp hz
    exact ⟨by omega, by rw [ss_un_lt z this.1]; exact this.2⟩)
  refine ⟨fun i hi => ?_, ss_P_rc P, fun z hz => ?_, fun z w hzw hw e => ?_, fun z hz => ?_, hN, hrl, ?_⟩
  · obtain ⟨h1, h2, h3⟩ := ss_P_log P i hi
    rw [ss_un_lt _ h1, ss_un_lt _ h1, hcn _ _ (by omega), hal _ _ (by omega)]
    exact ⟨by omega, h2, h3⟩
  · rcases Nat.lt_or_ge z n with y | y
    · rw [ss_un_lt z y, ss_un_lt z y]; exact ⟨ss_P_bs P z y, ss_P_bl P z y⟩
    · have : z = n := by omega
      subst this
      rw [ss_un_s, ss_un_s]
      exact ⟨Nat.le_refl _, fun j hj => (ss_P_log P j (by have := ss_P_rc P c; omega)).1⟩
  · rcases Nat.lt_or_ge w n with y | y
    · rw [ss_un_lt z (by omega), ss_un_lt w y] at e ⊢
      exact ss_P_bm P z w hzw y e
    · have : w = n := by omega
      subst this
      rw [ss_un_s, ss_un_lt z hzw] at e ⊢
      rw [← e]; exact ss_P_bs P z hzw
  · rcases Nat.lt_or_ge z n with y | y
    · rw [ss_un_lt z y, ss_un_lt z y]
      rcases ss_P_kd P z y with h | ⟨h1, h2, h3, h4⟩
      · exact Or.inl h
      · rw [ss_un_lt _ h2, hpa z _ y (by omega)]
        exact Or.inr ⟨h1, by omega, h3, h4⟩
    · have : z = n := by omega
      subst this
      rw [ss_un_s, ss_un_s]
      rcases hk with h | ⟨h1, h2, h3, h4⟩
      · exact Or.inl h
      · rw [ss_un_lt _ h2, hpn _ (by omega)]
        exact Or.inr ⟨h1, by omega, h3, h4⟩
  · intro a b ha hb ka kb hab pab pba hbt hlt
    rcases Nat.lt_or_ge a n with ya | ya
    · rcases Nat.lt_or_ge b n with yb | yb
      · rw [ss_un_lt a ya] at ka hab ⊢
        rw [ss_un_lt b yb] at kb hab ⊢
        rw [hpa a b ya (by omega)] at pab
        rw [hpa b a yb (by omega)] at pba
        have ra : a ∈ rl := (ss_P_rl P a).mpr ⟨ya, ka⟩
        have rb : b ∈ rl := (ss_P_rl P b).mpr ⟨yb, kb⟩
        refine ss_P_ti P a b ya yb ka kb hab pab pba (fun z hz hp hb' => ?_) ((hix a b ra rb).mp hlt)
        have hzn := ((ss_P_rl P z).mp hz).1
        refine hbt z (hz' z hz) ?_ ⟨(hix a z ra hz).mpr hb'.1, (hix z b hz rb).mpr hb'.2⟩
        rw [hpa a z ya (by omega), hpa b z yb (by omega)]; exact hp
      · have : b = n := by omega
        subst this
        rw [ss_un_s] at kb
        rw [ss_un_lt a ya] at ka hab ⊢
        rw [ss_un_s] at hab ⊢
        rw [hpn a (by omega)] at pba
        refine (hT kb a ya ka pba).1 (fun z hz hp => ?_) hlt
        have hzn := ((ss_P_rl P z).mp hz).1
        refine hbt z (hz' z hz) ?_
        rw [hpa a z ya (by omega), hpn z (by omega)]; exact Or.symm hp
    · have : a = n := by omega
      subst this
      rcases Nat.lt_or_ge b a with yb | yb
      · rw [ss_un_s] at ka
        rw [ss_un_lt b yb] at kb hab ⊢
        rw [ss_un_s] at hab ⊢
        rw [hpn b (by omega)] at pab
        refine (hT ka b yb kb pab).2 (fun z hz hp => ?_) hlt
        have hzn := ((ss_P_rl P z).mp hz).1
        refine hbt z (hz' z hz) ?_
        rw [hpa b z yb (by omega), hpn z (by omega)]; exact hp
      · have : b = a := by omega
        subst this
        exact absurd rfl hab
end
/-! the component's side -/
def ss_XO (n : Nat) (au ow : Nat → Nat) : Prop := ∀ z, z < n → ow (au z * 64 + ss_cn au (au z) z) = z
def ss_XC (n lg : Nat) (au lo rc oc ol oa : Nat → Nat) : Prop := ∀ c, c < 3 → oc c = ss_cn au c n ∧ ol c = ss_cn (fun j => au (lo j)) c lg ∧ oa c = ss_cn (fun j => au (lo j)) c (rc c)
def ss_XS (n : Nat) (au bs tg lo : Nat → Nat) (rl : List Nat) (sp : Nat → Nat) : Prop := ∀ z, z < n → sp z = ss_pos (ss_pa au bs lo z) (tg z) rl
def ss_XP (n : Nat) (au tg lo rc : Nat → Nat) (rl : List Nat) (pp : Nat → Nat) : Prop := ∀ z, z < n → ss_cn (fun j => au (lo j)) (au z) (rc (au z)) ≤ ss_cn au (au z) z → pp z = ss_pos (ss_G au lo (au z) (rc (au z)) (ss_cn au (au z) z)) (tg z) rl
def ss_XL (lg : Nat) (tg lo : Nat → Nat) (rl : List Nat) (lc : Nat → Nat) : Prop := ∀ i, i < lg → lc i = ss_pos (ss_inL lo i) (tg (lo i)) rl
def ss_XB (lg : Nat) (au bs tg lo : Nat → Nat) (rl : List Nat) (br : Nat → Nat) : Prop := ∀ c i, c < 3 → i < lg → au (lo i) ≠ c → (∀ k, k < lg → au (lo k) = c → bs (lo k) ≤ i) → br (c * 64 + i) = ss_pos (ss_G au lo c i (ss_cn (fun j => au (lo j)) c lg)) (tg (lo i)) rl
def ss_XK (n lg : Nat) (kd au tg lo rc : Nat → Nat) (rl : List Nat) (cm ch cc vc : Nat → Nat) : Prop := ∀ s, s < 4 → ss_S cm ch cc vc s (rl.filter (ss_ho n lg au lo rc s)) (ss_hd n kd tg (ss_ho n lg au lo rc s))
section
variable {n lg : Nat} {kd au bs tg lo rc : Nat → Nat} {rl : List Nat} {sp pp ow oc ol oa lc br cm ch cc vc : Nat → Nat}
/-- own entry received -/
theorem ss_ack_ho (P : ss_P n lg kd au bs tg lo rc rl) {c : Nat} (h : rc c < lg) (e : au (lo (rc c)) = c) (s : Nat) : ss_ho n lg au lo (ss_un rc c (rc c + 1)) s = ss_ho n lg au lo rc s := by
  funext y
  unfold ss_ho
  by_cases e3 : s = 3
  · rw [if_pos e3, if_pos e3]
  · rw [if_neg e3, if_neg e3]
    by_cases es : s = c
    · subst es
      rw [ss_un_s]
      exact ss_G_own e (ss_cn_lt (ss_P_log P _ h).1 e) y
    · rw [ss_un_n es]
theorem ss_ack_XC (P : ss_P n lg kd au bs tg lo rc rl) (X : ss_XC n lg au lo rc oc ol oa) {c : Nat} (e : au (lo (rc c)) = c) : ss_XC n lg au lo (ss_un rc c (rc c + 1)) oc ol (ss_un oa c (oa c + 1)) := by
  intro d hd
  obtain ⟨h1, h2, h3⟩ := X d hd
  refine ⟨h1, h2, ?_⟩
  by_cases ed : d = c
  · subst ed; rw [ss_un_s, ss_un_s, ss_cn_t (f := fun j => au (lo j)) e, h3]
  · rw [ss_un_n ed, ss_un_n ed, h3]
theorem ss_ack_XP (P : ss_P n lg kd au bs tg lo rc rl) (X : ss_XP n au tg lo rc rl pp) {c : Nat} (h : rc c < lg) (e : au (lo (rc c)) = c) : ss_XP n au tg lo (ss_un rc c (rc c + 1)) rl pp := by
  intro z hz hk
  by_cases ez : au z = c
  · rw [ez, ss_un_s, ss_cn_t (f := fun j => au (lo j)) e] at hk
    have h1 := X z hz (by rw [ez]; omega)
    rw [ez] at h1
    rw [ez, ss_un_s, h1]
    refine ss_pos_congr (fun y _ => (ss_G_own e ?_ y).symm)
    have h2 := (ss_P_log P _ h).2.1
    rw [e] at h2; omega
  · rw [ss_un_n ez] at hk ⊢
    exact X z hz hk
/-- another's entry received -/
theorem ss_oth_XC (X : ss_XC n lg au lo rc oc ol oa) {c : Nat} (e : au (lo (rc c)) ≠ c) : ss_XC n lg au lo (ss_un rc c (rc c + 1)) oc ol oa := by
  intro d hd
  obtain ⟨h1, h2, h3⟩ := X d hd
  refine ⟨h1, h2, ?_⟩
  by_cases ed : d = c
  · subst ed; rw [ss_un_s, ss_cn_f (f := fun j => au (lo j)) e, h3]
  · rw [ss_un_n ed, h3]
theorem ss_oth_XP (X : ss_XP n au tg lo rc rl pp) {c : Nat} {pp' : Nat → Nat} (e : au (lo (rc c)) ≠ c)
    (h1 : ∀ z, z < n → au z = c → ss_cn (fun j => au (lo j)) c (rc c) ≤ ss_cn au c z → pp' z = ss_pos (ss_G au lo c (rc c + 1) (ss_cn au c z)) (tg z) rl)
    (h2 : ∀ m, ¬ (m < n ∧ au m = c ∧ ss_cn (fun j => au (lo j)) c (rc c) ≤ ss_cn au c m) → pp' m = pp m) : ss_XP n au tg lo (ss_un rc c (rc c + 1)) rl pp' := by
  intro z hz hk
  by_cases ez : au z = c
  · rw [ez, ss_un_s, ss_cn_f (f := fun j => au (lo j)) e] at hk
    rw [ez, ss_un_s]
    exact h1 z hz ez hk
  · rw [ss_un_n ez] at hk ⊢
    rw [h2 z (fun q => ez q.2.1)]
    exact X z hz hk
theorem ss_oth_ho {c : Nat} (s : Nat) (hs : s ≠ c) : ss_ho n lg au lo (ss_un rc c (rc c + 1)) s = ss_ho n lg au lo rc s := by
  funext y
  unfold ss_ho
  rw [ss_un_n hs]
theorem ss_oth_hoc {c : Nat} (hc : c < 3) (y : Nat) : ss_ho n lg au lo (ss_un rc c (rc c + 1)) c y = (ss_ho n lg au lo rc c y || y == lo (rc c)) := by
  unfold ss_ho
  rw [if_neg (by omega), if_neg (by omega), ss_un_s, ss_G_s]
/-- logged -/
theorem ss_srv_XC (X : ss_XC n lg au lo rc oc ol oa) (hrc : ∀ c, rc c ≤ lg) {c x : Nat} (hxc : au x = c) : ss_XC n (lg + 1) au (ss_un lo lg x) rc oc (ss_un ol c (ol c + 1)) oa := by
  have hcn : ∀ d i, i ≤ lg → ss_cn (fun j => au (ss_un lo lg x j)) d i = ss_cn (fun j => au (lo j)) d i := fun d i hi => ss_cn_congr (fun j hj => by
    show au (ss_un lo lg x j) = _
    rw [ss_un_lt j (by omega)])
  intro d hd
  obtain ⟨h1, h2, h3⟩ := X d hd
  refine ⟨h1, ?_, by rw [hcn _ _ (hrc d)]; exact h3⟩
  by_cases ed : d = c
  · subst ed
    rw [ss_un_s, ss_cn_t (f := fun j => au (ss_un lo lg x j)) (by show au (ss_un lo lg x lg) = _; rw [ss_un_s]; exact hxc), hcn _ _ (Nat.le_refl _), h2]
  · rw [ss_un_n ed, ss_cn_f (f := fun j => au (ss_un lo lg x j)) (by show au (ss_un lo lg x lg) ≠ _; rw [ss_un_s, hxc]; exact Ne.symm ed), hcn _ _ (Nat.le_refl _), h2]
theorem ss_srv_XS (P : ss_P n lg kd au bs tg lo rc rl) (X : ss_XS n au bs tg lo rl sp) {x : Nat} : ss_XS n au bs tg (ss_un lo lg x) rl sp := by
  intro z hz
  have := ss_P_bs P z hz
  have := ss_P_rc P (au z)
  rw [X z hz]
  exact ss_pos_congr (fun y _ => (ss_pa_lo (fun j hj => ss_un_lt j (by omega))).symm)
theorem ss_srv_XP (P : ss_P n lg kd au bs tg lo rc rl) (X : ss_XP n au tg lo rc rl pp) {x : Nat} : ss_XP n au tg (ss_un lo lg x) rc rl pp := by
  intro z hz hk
  have h1 := ss_P_rc P (au z)
  rw [ss_cn_congr (g := fun j => au (lo j)) (fun j hj => by
    show au (ss_un lo lg x j) = _
    rw [ss_un_lt j (by omega)])] at hk
  rw [X z hz hk]
  exact ss_pos_congr (fun y _ => (ss_G_lo (fun j hj => ss_un_lt j (by omega))).symm)
theorem ss_srv_XL (X : ss_XL lg tg lo rl lc) {x : Nat} : ss_XL (lg + 1) tg (ss_un lo lg x) rl (ss_un lc lg (ss_pos (ss_inL lo lg) (tg x) rl)) := by
  intro i hi
  have hin : ∀ y, ss_inL (ss_un lo lg x) i y = ss_inL lo i y := fun y => ss_inL_congr (fun j hj => ss_un_lt j (by omega))
  rcases Nat.lt_or_ge i lg with y | y
  · rw [ss_un_lt i y, ss_un_lt i y, X i y]
    exact ss_pos_congr (fun y _ => (hin y).symm)
  · have : i = lg := by omega
    subst this
    rw [ss_un_s, ss_un_s]
    exact ss_pos_congr (fun y _ => (hin y).symm)
theorem ss_srv_XB (P : ss_P n lg kd au bs tg lo rc rl) (X : ss_XB lg au bs tg lo rl br) {c x : Nat} {br' br'' : Nat → Nat} (hx : x < n) (hxc : au x = c) (hlg : lg < 64) (hc : c < 3)
    (hkx : ss_cn au c x = ss_cn (fun j => au (lo j)) c lg)
    (h1 : ∀ j, bs x ≤ j → j < lg → au (lo j) ≠ c → br' (c * 64 + j) = ss_pos (ss_G au lo c j (ss_cn au c x + 1)) (tg (lo j)) rl)
    (h2 : ∀ m, (∀ j, bs x ≤ j → j < lg → m ≠ c * 64 + j) → br' m = br m)
    (h3 : ∀ o', o' < 3 → o' ≠ c → br'' (o' * 64 + lg) = ss_pos (ss_inL lo lg) (tg x) rl) (h4 : ∀ m, (∀ o', o' < 3 → o' ≠ c → m ≠ o' * 64 + lg) → br'' m = br' m) :
    ss_XB (lg + 1) au bs tg (ss_un lo lg x) rl br'' := by
  have hcn : ∀ d i, i ≤ lg → ss_cn (fun j => au (ss_un lo lg x j)) d i = ss_cn (fun j => au (lo j)) d i := fun d i hi => ss_cn_congr (fun j hj => by
    show au (ss_un lo lg x j) = _
    rw [ss_un_lt j (by omega)])
  have hc1 : ss_cn (fun j => au (ss_un lo lg x j)) c (lg + 1) = ss_cn au c x + 1 := by
    rw [ss_cn_t (f := fun j => au (ss_un lo lg x j)) (by show au (ss_un lo lg x lg) = _; rw [ss_un_s]; exact hxc), hcn _ _ (Nat.le_refl _), hkx]
  have hc2 : ∀ d, d ≠ c → ss_cn (fun j => au (ss_un lo lg x j)) d (lg + 1) = ss_cn (fun j => au (lo j)) d lg := fun d ed => by
    rw [ss_cn_f (f := fun j => au (ss_un lo lg x j)) (by show au (ss_un lo lg x lg) ≠ _; rw [ss_un_s, hxc]; exact Ne.symm ed), hcn _ _ (Nat.le_refl _)]
  intro d i hd hi ha hb
  have hG : ∀ k y, ss_G au (ss_un lo lg x) d i k y = ss_G au lo d i k y := fun k y => ss_G_lo (fun j hj => ss_un_lt j (by omega))
  rcases Nat.lt_or_ge i lg with y | y
  · rw [ss_un_lt i y] at ha ⊢
    have hb' : ∀ k, k < lg → au (lo k) = d → bs (lo k) ≤ i := fun k hk e => by
      have := hb k (by omega)
      rw [ss_un_lt k hk] at this
      exact this e
    by_cases ed : d = c
    · subst ed
      have hbx : bs x ≤ i := by
        have := hb lg (by omega)
        rw [ss_un_s] at this
        exact this hxc
      rw [h4 _ (fun o' _ g2 => by omega), h1 i hbx y ha, hc1]
      exact ss_pos_congr (fun y _ => (hG _ y).symm)
    · rw [h4 _ (fun o' _ g2 => by omega), h2 _ (fun j _ g2 => by omega), X d i hd y ha hb', hc2 d ed]
      exact ss_pos_congr (fun y _ => (hG _ y).symm)
  · have : i = lg := by omega
    subst this
    rw [ss_un_s] at ha ⊢
    have ed : d ≠ c := fun q => ha (by rw [q]; exact hxc)
    rw [h3 d hd ed, hc2 d ed]
    refine ss_pos_congr (fun y hy => ?_)
    have hy' := ((ss_P_rl P y).mp hy).1
    rw [hG]
    refine ss_be ?_
    rw [ss_G_iff]
    constructor
    · exact Or.inl
    · rintro (q | ⟨q1, q2⟩)
      · exact q
      · rw [ss_inLog P (Nat.le_refl _) hy', q1]; exact q2
theorem ss_srv_hbr (P : ss_P n lg kd au bs tg lo rc rl) (X : ss_XB lg au bs tg lo rl br) {c x : Nat} (hx : x < n) (hxc : au x = c) (hc : c < 3)
    (hkx : ss_cn au c x = ss_cn (fun j => au (lo j)) c lg) :
    ∀ j, bs x ≤ j → j < lg → au (lo j) ≠ c → br (c * 64 + j) = ss_pos (ss_G au lo c j (ss_cn au c x)) (tg (lo j)) rl := by
  intro j h1 h2 h3
  rw [hkx]
  refine X c j hc h2 h3 (fun k hk e => Nat.le_trans ?_ h1)
  have hq := (ss_P_log P k hk).1
  have h4 := (ss_inLog P (Nat.le_refl lg) hq).mp (ss_inL_iff.mpr ⟨k, hk, rfl⟩)
  rw [e, ← hkx] at h4
  exact ss_P_bm P _ _ ((ss_cn_lti e).mp h4) hx (by rw [e, hxc])
theorem ss_srv_ho (hrc : ∀ c, rc c ≤ lg) {x : Nat} (s : Nat) (hs : s ≠ 3) : ss_ho n (lg + 1) au (ss_un lo lg x) rc s = ss_ho n lg au lo rc s := by
  funext y
  unfold ss_ho
  rw [if_neg hs, if_neg hs]
  exact ss_G_lo (fun j hj => ss_un_lt j (by have := hrc s; omega))
theorem ss_srv_ho3 {x : Nat} (y : Nat) : ss_ho n (lg + 1) au (ss_un lo lg x) rc 3 y = (ss_ho n lg au lo rc 3 y || y == x) := by
  unfold ss_ho
  rw [if_pos rfl, if_pos rfl, ss_inL_s, ss_un_s, ss_inL_congr (fun j hj => ss_un_lt j hj), BEq.comm]
end
end
section
/-! an operation is accepted: the component's side -/
section
variable {n lg : Nat} {kd au bs tg lo rc : Nat → Nat} {rl rl' : List Nat} {sp pp ow oc ol oa lc br cm ch cc vc : Nat → Nat} {c k0 t0 : Nat}
theorem ss_acc_pos (P : ss_P n lg kd au bs tg lo rc rl) (EXT : ∀ (H : Nat → Bool) (t : Nat), H n = false → t ≠ n → ss_pos H t rl' = ss_pos H t rl) (hle : ∀ y, y ∈ rl' → y ≤ n)
    {c' i k t : Nat} (hi : i ≤ lg) (hk : k ≤ ss_cn au c' n) (ht : t ≠ n) : ss_pos (ss_G (ss_un au n c) lo c' i k) t rl' = ss_pos (ss_G au lo c' i k) t rl := by
  rw [ss_pos_congr (fun y hy => ss_G_acc (hle y hy) hk), EXT _ _ (ss_G_n0 P hi hk) ht]
theorem ss_tg_ne (P : ss_P n lg kd au bs tg lo rc rl) {z : Nat} (hz : z < n) : tg z ≠ n := by
  have := ((ss_P_rl P _).mp (ss_P_tg P hz)).1
  omega
theorem ss_acc_XO (X : ss_XO n au ow) (hn : n < 64) : ss_XO (n + 1) (ss_un au n c) (ss_un ow (c * 64 + ss_cn au c n) n) := by
  have hcn : ∀ c' y, y ≤ n → ss_cn (ss_un au n c) c' y = ss_cn au c' y := fun c' y hy => ss_cn_congr (fun j hj => ss_un_lt j (by omega))
  intro z hz
  rcases Nat.lt_or_ge z n with y | y
  · rw [ss_un_lt z y, hcn _ _ (by omega), ss_un_n]
    · exact X z y
    · have h1 := ss_cn_le au (au z) z
      have h2 := ss_cn_le au c n
      by_cases e : au z = c
      · have := ss_cn_lt y e
        rw [e]; omega
      · omega
  · have : z = n := by omega
    subst this
    rw [ss_un_s, hcn _ _ (by omega), ss_un_s]
theorem ss_acc_XC (P : ss_P n lg kd au bs tg lo rc rl) (X : ss_XC n lg au lo rc oc ol oa) (hc : c < 3) : ss_XC (n + 1) lg (ss_un au n c) lo rc (ss_un oc c (oc c + 1)) ol oa := by
  have hcn : ∀ c' y, y ≤ n → ss_cn (ss_un au n c) c' y = ss_cn au c' y := fun c' y hy => ss_cn_congr (fun j hj => ss_un_lt j (by omega))
  have hal : ∀ c' i, i ≤ lg → ss_cn (fun j => ss_un au n c (lo j)) c' i = ss_cn (fun j => au (lo j)) c' i := fun c' i hi => ss_cn_congr (fun j hj => by
    show ss_un au n c (lo j) = _
    rw [ss_un_lt _ (ss_P_log P j (by omega)).1])
  intro d hd
  obtain ⟨h1, h2, h3⟩ := X d hd
  refine ⟨?_, by rw [hal _ _ (Nat.le_refl _)]; exact h2, by rw [hal _ _ (ss_P_rc P d)]; exact h3⟩
  by_cases ed : d = c
  · subst ed; rw [ss_un_s, ss_cn_t ss_un_s, hcn _ _ (Nat.le_refl _), h1]
  · rw [ss_un_n ed, ss_cn_f (by rw [ss_un_s]; exact Ne.symm ed), hcn _ _ (Nat.le_refl _), h1]
theorem ss_acc_XS (P : ss_P n lg kd au bs tg lo rc rl) (EXT : ∀ (H : Nat → Bool) (t : Nat), H n = false → t ≠ n → ss_pos H t rl' = ss_pos H t rl) (hle : ∀ y, y ∈ rl' → y ≤ n)
    (X : ss_XS n au bs tg lo rl sp) : ss_XS (n + 1) (ss_un au n c) (ss_un bs n (rc c)) (ss_un tg n t0) lo rl' (ss_un sp n (ss_pos (ss_G au lo c (rc c) (ss_cn au c n)) t0 rl')) := by
  have hcn : ∀ c' y, y ≤ n → ss_cn (ss_un au n c) c' y = ss_cn au c' y := fun c' y hy => ss_cn_congr (fun j hj => ss_un_lt j (by omega))
  intro z hz
  unfold ss_pa
  rcases Nat.lt_or_ge z n with y | y
  · rw [ss_un_lt z y, ss_un_lt z y, ss_un_lt z y, ss_un_lt z y, hcn _ z (by omega), X z y]
    exact (ss_acc_pos P EXT hle (Nat.le_trans (ss_P_bs P z y) (ss_P_rc P _)) (ss_cn_mono (by omega)) (ss_tg_ne P y)).symm
  · have : z = n := by omega
    subst this
    rw [ss_un_s, ss_un_s, ss_un_s, ss_un_s, hcn _ _ (Nat.le_refl _)]
    exact ss_pos_congr (fun y hy => (ss_G_acc (hle y hy) (Nat.le_refl _)).symm)
theorem ss_acc_XP (P : ss_P n lg kd au bs tg lo rc rl) (EXT : ∀ (H : Nat → Bool) (t : Nat), H n = false → t ≠ n → ss_pos H t rl' = ss_pos H t rl) (hle : ∀ y, y ∈ rl' → y ≤ n)
    (X : ss_XP n au tg lo rc rl pp) : ss_XP (n + 1) (ss_un au n c) (ss_un tg n t0) lo rc rl' (ss_un pp n (ss_pos (ss_G au lo c (rc c) (ss_cn au c n)) t0 rl')) := by
  have hcn : ∀ c' y, y ≤ n → ss_cn (ss_un au n c) c' y = ss_cn au c' y := fun c' y hy => ss_cn_congr (fun j hj => ss_un_lt j (by omega))
  have hal : ∀ c' i, i ≤ lg → ss_cn (fun j => ss_un au n c (lo j)) c' i = ss_cn (fun j => au (lo j)) c' i := fun c' i hi => ss_cn_congr (fun j hj => by
    show ss_un au n c (lo j) = _
    rw [ss_un_lt _ (ss_P_log P j (by omega)).1])
  intro z hz hk
  rw [hal _ _ (ss_P_rc P _), hcn _ z (by omega)] at hk
  rw [hcn _ z (by omega)]
  rcases Nat.lt_or_ge z n with y | y
  · rw [ss_un_lt z y] at hk ⊢
    rw [ss_un_lt z y, ss_un_lt z y, X z y hk]
    exact (ss_acc_pos P EXT hle (ss_P_rc P _) (ss_cn_mono (by omega)) (ss_tg_ne P y)).symm
  · have : z = n := by omega
    subst this
    rw [ss_un_s, ss_un_s, ss_un_s]
    exact ss_pos_congr (fun y hy => (ss_G_acc (hle y hy) (Nat.le_refl _)).symm)
theorem ss_acc_XL (P : ss_P n lg kd au bs tg lo rc rl) (EXT : ∀ (H : Nat → Bool) (t : Nat), H n = false → t ≠ n → ss_pos H t rl' = ss_pos H t rl)
    (X : ss_XL lg tg lo rl lc) : ss_XL lg (ss_un tg n t0) lo rl' lc := by
  intro i hi
  have hq := (ss_P_log P i hi).1
  rw [ss_un_lt _ hq, X i hi, EXT _ _ (ss_inL_n0 P (by omega)) (ss_tg_ne P hq)]
theorem ss_acc_XB (P : ss_P n lg kd au bs tg lo rc rl) (EXT : ∀ (H : Nat → Bool) (t : Nat), H n = false → t ≠ n → ss_pos H t rl' = ss_pos H t rl) (hle : ∀ y, y ∈ rl' → y ≤ n)
    (X : ss_XB lg au bs tg lo rl br) : ss_XB lg (ss_un au n c) (ss_un bs n (rc c)) (ss_un tg n t0) lo rl' br := by
  have hal : ∀ c' i, i ≤ lg → ss_cn (fun j => ss_un au n c (lo j)) c' i = ss_cn (fun j => au (lo j)) c' i := fun c' i hi => ss_cn_congr (fun j hj => by
    show ss_un au n c (lo j) = _
    rw [ss_un_lt _ (ss_P_log P j (by omega)).1])
  intro d i hd hi ha hb
  have hq := (ss_P_log P i hi).1
  rw [ss_un_lt _ hq] at ha
  rw [hal _ _ (Nat.le_refl _), ss_un_lt _ hq, ss_acc_pos P EXT hle (by omega) (ss_ol_le P (Nat.le_refl _)) (ss_tg_ne P hq)]
  refine X d i hd hi ha (fun k hk e => ?_)
  have h1 := (ss_P_log P k hk).1
  have h2 := hb k hk
  rw [ss_un_lt _ h1, ss_un_lt _ h1] at h2
  exact h2 e
theorem ss_hd_acc {H : Nat → Bool} (h : H n = false) (z : Nat) : ss_hd (n + 1) (ss_un kd n k0) (ss_un tg n t0) H z = ss_hd n kd tg H z := by
  unfold ss_hd
  rw [ss_ex, h, Bool.and_false, Bool.and_false, Bool.or_false]
  exact ss_ex_congr (fun i hi => by rw [ss_un_lt i hi, ss_un_lt i hi])
theorem ss_ho_n0 (P : ss_P n lg kd au bs tg lo rc rl) (s : Nat) : ss_ho n lg au lo rc s n = false := by
  unfold ss_ho
  by_cases e : s = 3
  · rw [if_pos e]; exact ss_inL_n0 P (Nat.le_refl _)
  · rw [if_neg e]; exact ss_G_n0 P (ss_P_rc P s) (Nat.le_refl _)
theorem ss_acc_ho {s y : Nat} (hs : s ≠ c) (hy : y ≤ n) : ss_ho (n + 1) lg (ss_un au n c) lo rc s y = ss_ho n lg au lo rc s y := by
  unfold ss_ho
  by_cases e : s = 3
  · rw [if_pos e, if_pos e]
  · rw [if_neg e, if_neg e, ss_cn_f (by rw [ss_un_s]; exact Ne.symm hs), ss_cn_congr (g := au) (fun j hj => ss_un_lt j (by omega))]
    exact ss_G_acc hy (Nat.le_refl _)
theorem ss_acc_hoc {y : Nat} (hc : c < 3) (hy : y ≤ n) : ss_ho (n + 1) lg (ss_un au n c) lo rc c y = (ss_ho n lg au lo rc c y || y == n) := by
  unfold ss_ho
  rw [if_neg (by omega), if_neg (by omega), ss_cn_t ss_un_s]
  have h := ss_G_k (au := ss_un au n c) (lo := lo) (x := n) (rc c) y
  rw [ss_un_s] at h
  rw [h, ss_cn_congr (g := au) (fun j hj => ss_un_lt j (by omega)), ss_G_acc hy (Nat.le_refl _)]
theorem ss_acc_XK (P : ss_P n lg kd au bs tg lo rc rl) (EXT2 : ∀ H : Nat → Bool, H n = false → rl'.filter H = rl.filter H) (hle : ∀ y, y ∈ rl' → y ≤ n)
    (X : ss_XK n lg kd au tg lo rc rl cm ch cc vc) {s : Nat} (hs : s < 4) (hsc : s ≠ c) :
    ss_S cm ch cc vc s (rl'.filter (ss_ho (n + 1) lg (ss_un au n c) lo rc s)) (ss_hd (n + 1) (ss_un kd n k0) (ss_un tg n t0) (ss_ho (n + 1) lg (ss_un au n c) lo rc s)) := by
  have h0 := ss_ho_n0 P s
  have e1 : rl'.filter (ss_ho (n + 1) lg (ss_un au n c) lo rc s) = rl.filter (ss_ho n lg au lo rc s) := by
    rw [← EXT2 _ h0]
    exact List.filter_congr (fun y hy => ss_acc_ho hsc (hle y hy))
  refine ss_S_congr (X s hs) e1 (fun z _ => ?_)
  rw [ss_hd_acc (by rw [ss_acc_ho hsc (Nat.le_refl _)]; exact h0)]
  exact ss_ex_congr (fun i hi => by rw [ss_acc_ho hsc (by omega)])
end
section
variable {oL cL wL bL n lg : Nat} {kd au pl bs tg sp pp ow oc ol oa lo lc rc br cm ch cc vc : Nat → Nat} {cd la : Nat → Int32} {rl : List Nat}
theorem ss_x_accept0 {post : SX → Prop} {c k0 p0 p : Nat} {cm' ch' cc' vc' : Nat → Nat} (hn : n < 64) (hc : c < 3) (hoc : oc c < 64)
    (hA : ∀ post : SX → Prop, post ((nI oL), (nI cL), (nI wL), (nI bL), (nI (n + 1)), (nI (rl.length)), (nI lg), (ss_li (ss_un kd n k0)), (ss_li (ss_un au n c)), (ss_li (ss_un pl n p0)), (ss_li (ss_un bs n (rc c))), (ss_li tg), cd, (ss_li (ss_un sp n p)), (ss_li (ss_un pp n p)), (ss_li (ss_un ow (c * 64 + oc c) n)), (ss_li (ss_un oc c (oc c + 1))), (ss_li ol), (ss_li oa), (ss_li lo), la, (ss_li lc), (ss_li rc), (ss_li br), (ss_li cm'), (ss_li ch'), (ss_li cc'), (ss_li vc')) →
      wpX_apply post ((nI oL), (nI cL), (nI wL), (nI bL), (nI (n + 1)), (nI (rl.length)), (nI lg), (ss_li (ss_un kd n k0)), (ss_li (ss_un au n c)), (ss_li (ss_un pl n p0)), (ss_li (ss_un bs n (rc c))), (ss_li tg), cd, (ss_li (ss_un sp n p)), (ss_li (ss_un pp n p)), (ss_li (ss_un ow (c * 64 + oc c) n)), (ss_li (ss_un oc c (oc c + 1))), (ss_li ol), (ss_li oa), (ss_li lo), la, (ss_li lc), (ss_li rc), (ss_li br), (ss_li cm), (ss_li ch), (ss_li cc), (ss_li vc)) (nI c) (nI n) (nI p))
    (hp : post ((nI oL), (nI cL), (nI wL), (nI bL), (nI (n + 1)), (nI (rl.length)), (nI lg), (ss_li (ss_un kd n k0)), (ss_li (ss_un au n c)), (ss_li (ss_un pl n p0)), (ss_li (ss_un bs n (rc c))), (ss_li tg), cd, (ss_li (ss_un sp n p)), (ss_li (ss_un pp n p)), (ss_li (ss_un ow (c * 64 + oc c) n)), (ss_li (ss_un oc c (oc c + 1))), (ss_li ol), (ss_li oa), (ss_li lo), la, (ss_li lc), (ss_li rc), (ss_li br), (ss_li cm'), (ss_li ch'), (ss_li cc'), (ss_li vc'))) :
    wpX_accept post ((nI oL), (nI cL), (nI wL), (nI bL), (nI n), (nI (rl.length)), (nI lg), (ss_li kd), (ss_li au), (ss_li pl), (ss_li bs), (ss_li tg), cd, (ss_li sp), (ss_li pp), (ss_li ow), (ss_li oc), (ss_li ol), (ss_li oa), (ss_li lo), la, (ss_li lc), (ss_li rc), (ss_li br), (ss_li cm), (ss_li ch), (ss_li cc), (ss_li vc)) (nI c) (nI k0) (nI p0) (nI p) := by
  have v1 : vp_in (nI n) 64 := vp_in_nI (by omega) (by omega)
  have v2 : vp_in (nI c) 3 := vp_in_nI (by omega) (by omega)
  have hix : nI c * 64 + ss_li oc (nI c).toNatClampNeg = nI (c * 64 + oc c) := by
    rw [ss_li_r oc (by omega), ← nI_add, ← pk_mul]; rfl
  have v3 : vp_in (nI c * 64 + ss_li oc (nI c).toNatClampNeg) 192 := by rw [hix]; exact vp_in_nI (by omega) (by omega)
  refine ⟨v1, nm_r (ss_li_u kd (by omega) k0) ⟨v1, nm_r (ss_li_u au (by omega) c) ⟨v1, nm_r (ss_li_u pl (by omega) p0) ⟨v2, v1, nm_r (by rw [ss_li_r rc (by omega)]; exact ss_li_u bs (by omega) _) ⟨v1, nm_r (ss_li_u sp (by omega) p) ⟨v1, nm_r (ss_li_u pp (by omega) p) (nm_r (nI_1 n) ⟨v2, v3, nm_r (by rw [hix]; exact ss_li_u ow (by omega) n) ⟨v2, v2, nm_r (by rw [ss_li_r oc (by omega), nI_1]; exact ss_li_u oc (by omega) _) (hA _ hp)⟩⟩)⟩⟩⟩⟩⟩⟩
end
end
section
/-! the reference's insert -/
def ss_p (i : Nat) : Int32 := nI i - 1
theorem ss_p_s (i : Nat) : ss_p (i + 1) = nI i := nI_pred i
theorem ss_p_i {i : Nat} (h : i < 2 ^ 30) : (ss_p i).toInt = (i : Int) - 1 := pk_sub_toInt (b := 1) h (by omega)
theorem ss_p_le {i j : Nat} (hi : i < 2 ^ 30) (hj : j < 2 ^ 30) : ss_p i ≤ ss_p j ↔ i ≤ j := by
  rw [Int32.le_iff_toInt_le, ss_p_i hi, ss_p_i hj]; omega
theorem ss_p_d (i : Nat) : ss_p (i + 1) + (-1) = ss_p i := by
  rw [ss_p_s]; unfold ss_p; rw [Int32.sub_eq_add_neg]
theorem ss_p_u (i : Nat) : ss_p i + 1 = nI i := by
  unfold ss_p; exact Int32.sub_add_cancel _ _
section
variable {oL cL wL bL n lg : Nat} {kd au pl bs tg ro lo rc : Nat → Nat} {yc la : Nat → Int32} {rl : List Nat}
theorem ss_y_ins124 {c L0 : Nat} {x2 x3 : Int32} (B : ss_BY n lg kd au bs tg lo rc) (R : ss_R ro rl) (hb : ∀ y, y ∈ rl → y < n) (hc : c < 3) :
    ∀ d i, L0 + d = i → i ≤ rl.length → ∀ R1, i ≤ R1 → R1 ≤ rl.length → (∀ j, i ≤ j → j < R1 → ss_ho n lg au lo rc c (ro j) = false) → (R1 = rl.length ∨ (R1 < rl.length ∧ ss_ho n lg au lo rc c (ro R1) = true)) →
      ∃ R0, L0 ≤ R0 ∧ R0 ≤ rl.length ∧ (∀ j, L0 ≤ j → j < R0 → ss_ho n lg au lo rc c (ro j) = false) ∧ (R0 = rl.length ∨ (R0 < rl.length ∧ ss_ho n lg au lo rc c (ro R0) = true)) ∧
        ∀ f, d < f → ∀ post : Int32 → SY → Prop, (∃ m : Nat, wY_insert_159 post (nI c) x2 x3 (nI oL) (nI cL) (nI wL) (nI bL) (nI n) (nI (rl.length)) (nI lg) (ss_li kd) (ss_li au) (ss_li pl) (ss_li bs) (ss_li tg) yc (ss_li ro) (ss_li lo) la (ss_li rc) m (ss_p L0) (nI R0) 0) → wY_insert_124 post (nI c) x2 x3 (ss_p L0) (nI oL) (nI cL) (nI wL) (nI bL) (nI n) (nI (rl.length)) (nI lg) (ss_li kd) (ss_li au) (ss_li pl) (ss_li bs) (ss_li tg) yc (ss_li ro) (ss_li lo) la (ss_li rc) f (nI R1) (ss_p i) := by
  have h48 := R.1
  intro d
  induction d with
  | zero =>
    intro i hi hil R1 h1 h2 h3 h4
    have : i = L0 := by omega
    subst this
    refine ⟨R1, h1, h2, h3, h4, fun f hf post hp => ?_⟩
    obtain ⟨f, rfl, _⟩ := ss_fu hf
    exact br_t ((ss_p_le (by omega) (by omega)).mpr (Nat.le_refl _)) hp
  | succ d ih =>
    intro i hi hil R1 h1 h2 h3 h4
    obtain ⟨i, rfl⟩ : ∃ j, i = j + 1 := ⟨i - 1, by omega⟩
    have hlt : i < rl.length := by omega
    have hn1 : ¬ ss_p (i + 1) ≤ ss_p L0 := fun q => by
      have := (ss_p_le (by omega) (by omega)).mp q
      omega
    have v : vp_in (ss_p (i + 1)) 48 := by rw [ss_p_s]; exact vp_in_nI (by omega) (by omega)
    cases hh : ss_ho n lg au lo rc c (ro i) with
    | false =>
      obtain ⟨R0, g1, g2, g3, g4, g5⟩ := ih i (by omega) (by omega) R1 (by omega) h2 (fun j q1 q2 => by
        rcases Nat.lt_or_ge i j with y | y
        · exact h3 j y q2
        · have : j = i := by omega
          subst this; exact hh) h4
      refine ⟨R0, g1, g2, g3, g4, fun f hf post hp => ?_⟩
      obtain ⟨f, rfl, hg⟩ := ss_fu hf
      refine br_f hn1 ⟨v, ?_⟩
      rw [ss_p_s, ss_li_r ro (by omega)]
      refine ss_y_holds B (by omega) (hb _ (ss_R_mem R hlt)) ?_
      rw [hh]
      refine br_t rfl (nm_r ?_ (g5 f (by omega) post hp))
      rw [← ss_p_s]; exact ss_p_d i
    | true =>
      obtain ⟨R0, g1, g2, g3, g4, g5⟩ := ih i (by omega) (by omega) i (Nat.le_refl _) (by omega) (fun j q1 q2 => absurd q1 (by omega)) (Or.inr ⟨hlt, hh⟩)
      refine ⟨R0, g1, g2, g3, g4, fun f hf post hp => ?_⟩
      obtain ⟨f, rfl, hg⟩ := ss_fu hf
      refine br_f hn1 ⟨v, ?_⟩
      rw [ss_p_s, ss_li_r ro (by omega)]
      refine ss_y_holds B (by omega) (hb _ (ss_R_mem R hlt)) ?_
      rw [hh]
      refine br_f (by decide) (nm_r ?_ (g5 f (by omega) post hp))
      rw [← ss_p_s]; exact ss_p_d i
theorem ss_y_ins159 {c L0 R0 : Nat} {x2 x3 : Int32} (P : ss_P n lg kd au bs tg lo rc rl) (B : ss_BY n lg kd au bs tg lo rc) (R : ss_R ro rl) (hc : c < 3) (hR : R0 ≤ rl.length)
    (hgap : ∀ z, z ∈ rl → ss_ho n lg au lo rc c z = true → ¬ (L0 ≤ ss_ix z rl ∧ ss_ix z rl < R0)) :
    ∀ d m, m + d = n → ∀ L1 R1, ss_J n kd au (ss_ho n lg au lo rc c) c rl L0 R0 m L1 R1 →
      ∃ L, ss_J n kd au (ss_ho n lg au lo rc c) c rl L0 R0 n L L ∧
        ∀ f, d < f → ∀ post : Int32 → SY → Prop, (∃ g : Nat, wY_insert_245 post (nI c) x2 x3 (ss_p L) (nI oL) (nI cL) (nI wL) (nI bL) (nI n) (nI (rl.length)) (nI lg) g (nI rl.length) (ss_li kd) (ss_li au) (ss_li pl) (ss_li bs) (ss_li tg) yc (ss_li ro) (ss_li lo) la (ss_li rc)) → wY_insert_159 post (nI c) x2 x3 (nI oL) (nI cL) (nI wL) (nI bL) (nI n) (nI (rl.length)) (nI lg) (ss_li kd) (ss_li au) (ss_li pl) (ss_li bs) (ss_li tg) yc (ss_li ro) (ss_li lo) la (ss_li rc) f (ss_p L1) (nI R1) (nI m) := by
  have h48 := R.1
  have B' := B
  obtain ⟨hn, hlg, hrc, hlo, hau, hkd, htg, _⟩ := B'
  have hb : ∀ y, y ∈ rl → y < 256 := fun y hy => by have := ((ss_P_rl P y).mp hy).1; omega
  intro d
  induction d with
  | zero =>
    intro m hm L1 R1 J
    have : m = n := by omega
    subst this
    have e := ss_J_end J (ss_P_nd P) (fun z hz => (ss_P_rl P z).mp hz) hR
    subst e
    refine ⟨L1, J, fun f hf post hp => ?_⟩
    obtain ⟨f, rfl, _⟩ := ss_fu hf
    exact br_t (nI_le (by omega) (by omega)) hp
  | succ d ih =>
    intro m hm L1 R1 J
    have hmn : m < n := by omega
    have hL1 := J.1
    have hLR := J.2.1
    have hRR := J.2.2.1
    have v : vp_in (nI m) 64 := vp_in_nI (by omega) (by omega)
    have hc1 : ¬ nI n ≤ nI m := nI_ge (by omega) (by omega)
    by_cases k : kd m = 1
    · have hmr : m ∈ rl := (ss_P_rl P m).mpr ⟨hmn, k⟩
      have hil := ss_ix_lt hmr
      have ek : ss_li kd (nI m).toNatClampNeg = 1 := by rw [ss_li_r kd (by omega), k]; rfl
      cases hh : ss_ho n lg au lo rc c m with
      | true =>
        obtain ⟨L, g1, g2⟩ := ih (m + 1) (by omega) L1 R1 (ss_J_skip J (fun _ q => hgap m hmr hh ⟨by omega, by omega⟩))
        refine ⟨L, g1, fun f hf post hp => ?_⟩
        obtain ⟨f, rfl, hg⟩ := ss_fu hf
        refine br_f hc1 ⟨v, br_t ek (ss_y_holds B (by omega) hmn ?_)⟩
        rw [hh]
        exact br_f (by decide) (nm_r (nI_1 m) (g2 f (by omega) post hp))
      | false =>
        have hac : au m ≠ c := fun q => by
          unfold ss_ho at hh
          rw [if_neg (by omega), ss_G_iff.mpr (Or.inr ⟨q, ss_cn_lt hmn q⟩)] at hh
          cases hh
        have ham := hau m
        rcases Nat.lt_or_ge (ss_ix m rl) L1 with y1 | y1
        · obtain ⟨L, g1, g2⟩ := ih (m + 1) (by omega) L1 R1 (ss_J_skip J (fun _ q => by omega))
          refine ⟨L, g1, fun f hf post hp => ?_⟩
          obtain ⟨f, rfl, hg⟩ := ss_fu hf
          refine br_f hc1 ⟨v, br_t ek (ss_y_holds B (by omega) hmn ?_)⟩
          rw [hh]
          refine br_t rfl (ss_y_rollIndex R (ss_P_nd P) hb hmr ?_)
          refine br_t ?_ (nm_r (nI_1 m) (g2 f (by omega) post hp))
          rw [← ss_p_s]; exact (ss_p_le (by omega) (by omega)).mpr y1
        · have hn2 : ¬ nI (ss_ix m rl) ≤ ss_p L1 := fun q => by
            rw [← ss_p_s] at q
            have := (ss_p_le (by omega) (by omega)).mp q
            omega
          rcases Nat.lt_or_ge (ss_ix m rl) R1 with y2 | y2
          · have hn3 : ¬ nI R1 ≤ nI (ss_ix m rl) := nI_ge y2 (by omega)
            rcases Nat.lt_or_ge (au m) c with y3 | y3
            · obtain ⟨L, g1, g2⟩ := ih (m + 1) (by omega) _ R1 (ss_J_left J k hh y1 y2 y3)
              refine ⟨L, g1, fun f hf post hp => ?_⟩
              obtain ⟨f, rfl, hg⟩ := ss_fu hf
              have g3 := g2 f (by omega) post hp
              rw [ss_p_s] at g3
              refine br_f hc1 ⟨v, br_t ek (ss_y_holds B (by omega) hmn ?_)⟩
              rw [hh]
              refine br_t rfl (ss_y_rollIndex R (ss_P_nd P) hb hmr ?_)
              refine br_f hn2 (br_f hn3 ⟨v, br_f ?_ (nm_r (nI_1 m) g3)⟩)
              rw [ss_li_r au (by omega)]; exact nI_ge y3 (by omega)
            · obtain ⟨L, g1, g2⟩ := ih (m + 1) (by omega) L1 _ (ss_J_right J k hh y1 y2 (by omega))
              refine ⟨L, g1, fun f hf post hp => ?_⟩
              obtain ⟨f, rfl, hg⟩ := ss_fu hf
              have g3 := g2 f (by omega) post hp
              refine br_f hc1 ⟨v, br_t ek (ss_y_holds B (by omega) hmn ?_)⟩
              rw [hh]
              refine br_t rfl (ss_y_rollIndex R (ss_P_nd P) hb hmr ?_)
              refine br_f hn2 (br_f hn3 ⟨v, br_t ?_ (nm_r (nI_1 m) g3)⟩)
              rw [ss_li_r au (by omega)]; exact nI_le y3 (by omega)
          · obtain ⟨L, g1, g2⟩ := ih (m + 1) (by omega) L1 R1 (ss_J_skip J (fun _ q => by omega))
            refine ⟨L, g1, fun f hf post hp => ?_⟩
            obtain ⟨f, rfl, hg⟩ := ss_fu hf
            refine br_f hc1 ⟨v, br_t ek (ss_y_holds B (by omega) hmn ?_)⟩
            rw [hh]
            refine br_t rfl (ss_y_rollIndex R (ss_P_nd P) hb hmr ?_)
            exact br_f hn2 (br_t (nI_le y2 (by omega)) (nm_r (nI_1 m) (g2 f (by omega) post hp)))
    · obtain ⟨L, g1, g2⟩ := ih (m + 1) (by omega) L1 R1 (ss_J_skip J (fun q => absurd q k))
      refine ⟨L, g1, fun f hf post hp => ?_⟩
      obtain ⟨f, rfl, hg⟩ := ss_fu hf
      refine br_f hc1 ⟨v, br_f ?_ (nm_r (nI_1 m) (g2 f (by omega) post hp))⟩
      rw [ss_li_r kd (by omega)]
      exact fun q => k ((nI_eq (b := 1) (by have := hkd m; omega) (by omega)).mp q)
theorem ss_y_accept {post : SY → Prop} {c k0 p0 t0 rn : Nat} (hn : n < 64) (hc : c < 3)
    (hp : post ((nI oL), (nI cL), (nI wL), (nI bL), (nI (n + 1)), (nI rn), (nI lg), (ss_li (ss_un kd n k0)), (ss_li (ss_un au n c)), (ss_li (ss_un pl n p0)), (ss_li (ss_un bs n (rc c))), (ss_li (ss_un tg n t0)), yc, (ss_li ro), (ss_li lo), la, (ss_li rc))) : wpY_accept post ((nI oL), (nI cL), (nI wL), (nI bL), (nI n), (nI rn), (nI lg), (ss_li kd), (ss_li au), (ss_li pl), (ss_li bs), (ss_li tg), yc, (ss_li ro), (ss_li lo), la, (ss_li rc)) (nI k0) (nI c) (nI p0) (nI t0) := by
  have v1 : vp_in (nI n) 64 := vp_in_nI (by omega) (by omega)
  have v2 : vp_in (nI c) 3 := vp_in_nI (by omega) (by omega)
  exact ⟨v1, nm_r (ss_li_u kd (by omega) k0) ⟨v1, nm_r (ss_li_u au (by omega) c) ⟨v1, nm_r (ss_li_u pl (by omega) p0) ⟨v2, v1, nm_r (by rw [ss_li_r rc (by omega)]; exact ss_li_u bs (by omega) _) ⟨v1, nm_r (ss_li_u tg (by omega) t0) (nm_r (nI_1 n) hp)⟩⟩⟩⟩⟩
theorem ss_y_ins245 {post : Int32 → SY → Prop} {c p0 L : Nat} {x3 : Int32} (hn : n < 64) (hc : c < 3) (hl : rl.length < 48) (hL : L ≤ rl.length)
    (hp : post (nI n) ((nI oL), (nI cL), (nI wL), (nI bL), (nI (n + 1)), (nI (rl.length + 1)), (nI lg), (ss_li (ss_un kd n 1)), (ss_li (ss_un au n c)), (ss_li (ss_un pl n p0)), (ss_li (ss_un bs n (rc c))), (ss_li (ss_un tg n n)), (upd yc n x3), (ss_li (ss_un (ss_sh L rl.length ro) L n)), (ss_li lo), la, (ss_li rc))) :
    ∀ d i, L + d = i → i ≤ rl.length → ∀ f, d < f → wY_insert_245 post (nI c) (nI p0) x3 (ss_p L) (nI oL) (nI cL) (nI wL) (nI bL) (nI n) (nI (rl.length)) (nI lg) f (nI i) (ss_li kd) (ss_li au) (ss_li pl) (ss_li bs) (ss_li tg) yc (ss_li (ss_sh i rl.length ro)) (ss_li lo) la (ss_li rc) := by
  intro d
  induction d with
  | zero =>
    intro i hi hil f hf
    obtain ⟨f, rfl, _⟩ := ss_fu hf
    have : i = L := by omega
    subst this
    have e1 := ss_p_u i
    refine br_t (by rw [e1]; exact nI_le (Nat.le_refl _) (by omega)) ⟨by rw [e1]; exact vp_in_nI (by omega) (by omega), nm_r (e' := ss_li (ss_un (ss_sh i rl.length ro) i n)) (by rw [e1]; exact ss_li_u _ (by omega) n) (nm_r (nI_1 _) ⟨vp_in_nI (by omega) (by omega), nm_r (e' := upd yc n x3) (by rw [nI_clamp (by omega)]) ?_⟩)⟩
    refine ss_y_accept (k0 := 1) hn hc ?_
    show post (nI (n + 1) - 1) _
    rw [nI_pred]
    exact hp
  | succ d ih =>
    intro i hi hil f hf
    obtain ⟨f, rfl, hg⟩ := ss_fu hf
    obtain ⟨i, rfl⟩ : ∃ j, i = j + 1 := ⟨i - 1, by omega⟩
    have ih' := ih i (by omega) (by omega) f (by omega)
    have e1 := ss_p_u L
    have e2 := nI_pred i
    refine br_f (by rw [e1]; exact nI_ge (by omega) (by omega)) ⟨by rw [e2]; exact vp_in_nI (by omega) (by omega), vp_in_nI (by omega) (by omega), nm_r ?_ (nm_r (pk_m1 i) ih')⟩
    rw [e2, ss_li_r _ (by omega), ss_sh_l (by omega), ss_li_u _ (by omega), ss_sh_s (by omega)]
theorem ss_y_ins110 {c p0 L0 : Nat} {x3 : Int32} (P : ss_P n lg kd au bs tg lo rc rl) (B : ss_BY n lg kd au bs tg lo rc) (R : ss_R ro rl) (hc : c < 3) (hn : n < 64) (hl : rl.length < 48) (hL0 : L0 ≤ rl.length) :
    ∃ R0 L, L0 ≤ L ∧ L ≤ R0 ∧ R0 ≤ rl.length ∧ (∀ j, L0 ≤ j → j < R0 → ss_ho n lg au lo rc c (ro j) = false) ∧ (R0 = rl.length ∨ (R0 < rl.length ∧ ss_ho n lg au lo rc c (ro R0) = true)) ∧
      ss_J n kd au (ss_ho n lg au lo rc c) c rl L0 R0 n L L ∧
      ∀ post : Int32 → SY → Prop, post (nI n) ((nI oL), (nI cL), (nI wL), (nI bL), (nI (n + 1)), (nI (rl.length + 1)), (nI lg), (ss_li (ss_un kd n 1)), (ss_li (ss_un au n c)), (ss_li (ss_un pl n p0)), (ss_li (ss_un bs n (rc c))), (ss_li (ss_un tg n n)), (upd yc n x3), (ss_li (ss_un (ss_sh L rl.length ro) L n)), (ss_li lo), la, (ss_li rc)) →
        wY_insert_110 post (nI c) (nI p0) x3 (ss_p L0) (nI oL) (nI cL) (nI wL) (nI bL) (nI n) (nI (rl.length)) (nI lg) (ss_li kd) (ss_li au) (ss_li pl) (ss_li bs) (ss_li tg) yc (ss_li ro) (ss_li lo) la (ss_li rc) := by
  have hb : ∀ y, y ∈ rl → y < n := fun y hy => ((ss_P_rl P y).mp hy).1
  obtain ⟨R0, g1, g2, g3, g4, g5⟩ := ss_y_ins124 (oL := oL) (cL := cL) (wL := wL) (bL := bL) (pl := pl) (yc := yc) (la := la) (x2 := nI p0) (x3 := x3) (L0 := L0) B R hb hc (rl.length - L0) rl.length (by omega) (Nat.le_refl _) rl.length (Nat.le_refl _) (Nat.le_refl _) (fun j q1 q2 => absurd q1 (by omega)) (Or.inl rfl)
  obtain ⟨L, J, g6⟩ := ss_y_ins159 (oL := oL) (cL := cL) (wL := wL) (bL := bL) (pl := pl) (yc := yc) (la := la) (x2 := nI p0) (x3 := x3) P B R hc g2 (fun z hz ho q => by
    have := g3 _ q.1 q.2
    rw [ss_R_ix R hz, ho] at this; cases this) n 0 (by omega) L0 R0 (ss_J_0 g1)
  have hLR := J.2.1
  have hL := J.1
  have hRR := J.2.2.1
  refine ⟨R0, L, J.1, J.2.2.1, g2, g3, g4, J, fun post hp => ?_⟩
  have g7 := ss_y_ins245 (pl := pl) hn hc hl (by omega) hp (rl.length - L) rl.length (by omega) (Nat.le_refl _) 49 (by omega)
  rw [ss_sh_0] at g7
  exact nm_e ⟨49, g5 49 (by omega) post ⟨65, g6 65 (by omega) post ⟨49, g7⟩⟩⟩
end
section
variable {n lg : Nat} {kd au bs tg lo rc ro : Nat → Nat} {rl : List Nat}
theorem ss_R_ins {L x : Nat} (R : ss_R ro rl) (hL : L ≤ rl.length) (hl : rl.length < 48) : ss_R (ss_un (ss_sh L rl.length ro) L x) (rl.take L ++ x :: rl.drop L) := by
  have hlen : (rl.take L ++ x :: rl.drop L).length = rl.length + 1 := by
    rw [List.length_append, List.length_cons, List.length_take, List.length_drop]; omega
  refine ⟨by omega, fun j hj => ?_⟩
  rw [hlen] at hj
  rcases Nat.lt_trichotomy j L with q | q | q
  · have e : (rl.take L ++ x :: rl.drop L)[j]'(by omega) = rl[j]'(by omega) := by
      rw [List.getElem_append_left (by rw [List.length_take]; omega), List.getElem_take]
    rw [e, ss_un_n (by omega), ss_sh_l (by omega)]
    exact R.2 j (by omega)
  · subst q
    have e : (rl.take j ++ x :: rl.drop j)[j]'(by omega) = x := by
      rw [List.getElem_append_right (by rw [List.length_take]; omega)]
      simp only [List.length_take, Nat.min_eq_left hL, Nat.sub_self]
      rfl
    rw [e, ss_un_s]
  · have e : (rl.take L ++ x :: rl.drop L)[j]'(by omega) = rl[j - 1]'(by omega) := by
      rw [List.getElem_append_right (by rw [List.length_take]; omega)]
      have e1 : j - (rl.take L).length = (j - 1 - L) + 1 := by rw [List.length_take]; omega
      simp only [e1, List.getElem_cons_succ, List.getElem_drop]
      congr 1; omega
    rw [e, ss_un_n (by omega)]
    unfold ss_sh
    rw [if_pos (by omega)]
    exact R.2 (j - 1) (by omega)
theorem ss_P_ins (P : ss_P n lg kd au bs tg lo rc rl) (R : ss_R ro rl) {c L0 R0 L : Nat} (hc : c < 3) (hL : L ≤ rl.length) (J : ss_J n kd au (ss_ho n lg au lo rc c) c rl L0 R0 n L L)
    (hL0 : L0 = 0 ∨ ∃ t, t ∈ rl ∧ ss_ho n lg au lo rc c t = true ∧ ss_ix t rl + 1 = L0)
    (hR0 : R0 = rl.length ∨ (R0 < rl.length ∧ ss_ho n lg au lo rc c (ro R0) = true)) :
    ss_P (n + 1) lg (ss_un kd n 1) (ss_un au n c) (ss_un bs n (rc c)) (ss_un tg n n) lo rc (rl.take L ++ n :: rl.drop L) := by
  have hG : ∀ y, ss_ho n lg au lo rc c y = ss_G au lo c (rc c) (ss_cn au c n) y := fun y => if_neg (by omega)
  have hnr : n ∉ rl := fun q => by have := ((ss_P_rl P n).mp q).1; omega
  have el : rl = rl.take L ++ rl.drop L := (List.take_append_drop L rl).symm
  have hA : n ∉ rl.take L := fun q => hnr (List.mem_of_mem_take q)
  have hB : n ∉ rl.drop L := fun q => hnr (List.mem_of_mem_drop q)
  have lA : (rl.take L).length = L := by rw [List.length_take]; omega
  have hin : ss_ix n (rl.take L ++ n :: rl.drop L) = L := by rw [ss_ix_at _ _ hA, lA]
  have hixe : ∀ a, a ∈ rl → ss_ix a (rl.take L ++ n :: rl.drop L) = if ss_ix a rl < L then ss_ix a rl else ss_ix a rl + 1 := fun a ha => by
    have := ss_ix_ins (x := n) (t := a) (fun q => hnr (q ▸ ha)) (rl.take L) (rl.drop L)
    rw [← el, lA] at this
    exact this
  have hlt1 : ∀ a, a ∈ rl → (ss_ix a (rl.take L ++ n :: rl.drop L) < L ↔ ss_ix a rl < L) := fun a ha => by
    rw [hixe a ha]
    by_cases q : ss_ix a rl < L
    · rw [if_pos q]
    · rw [if_neg q]; omega
  have hlt2 : ∀ a, a ∈ rl → (L < ss_ix a (rl.take L ++ n :: rl.drop L) ↔ L ≤ ss_ix a rl) := fun a ha => by
    rw [hixe a ha]
    by_cases q : ss_ix a rl < L
    · rw [if_pos q]; omega
    · rw [if_neg q]; omega
  have hix : ∀ a b, a ∈ rl → b ∈ rl → (ss_ix a (rl.take L ++ n :: rl.drop L) < ss_ix b (rl.take L ++ n :: rl.drop L) ↔ ss_ix a rl < ss_ix b rl) := fun a b ha hb => by
    rw [hixe a ha, hixe b hb]
    by_cases q : ss_ix a rl < L
    · by_cases w : ss_ix b rl < L
      · rw [if_pos q, if_pos w]
      · rw [if_pos q, if_neg w]; omega
    · by_cases w : ss_ix b rl < L
      · rw [if_neg q, if_pos w]; omega
      · rw [if_neg q, if_neg w]; omega
  refine ss_P_acc P (fun z => ?_) ?_ (Or.inl ⟨rfl, rfl⟩) hix (fun _ m hm km gm => ⟨fun hb hlt => ?_, fun hb hlt => ?_⟩)
  · have h1 : z ∈ rl.take L ++ n :: rl.drop L ↔ z = n ∨ z ∈ rl := by
      have h2 : z ∈ rl ↔ z ∈ rl.take L ∨ z ∈ rl.drop L := by rw [← List.mem_append, List.take_append_drop]
      rw [List.mem_append, List.mem_cons, h2]
      constructor
      · rintro (q | q | q)
        · exact Or.inr (Or.inl q)
        · exact Or.inl q
        · exact Or.inr (Or.inr q)
      · rintro (q | q | q)
        · exact Or.inr (Or.inl q)
        · exact Or.inl q
        · exact Or.inr (Or.inr q)
    rw [h1]
    constructor
    · rintro (q | q)
      · subst q; exact ⟨by omega, ss_un_s⟩
      · have h3 := (ss_P_rl P z).mp q
        exact ⟨by omega, by rw [ss_un_lt z h3.1]; exact h3.2⟩
    · rintro ⟨q1, q2⟩
      rcases Nat.lt_or_ge z n with y | y
      · rw [ss_un_lt z y] at q2
        exact Or.inr ((ss_P_rl P z).mpr ⟨y, q2⟩)
      · exact Or.inl (by omega)
  · have hN := ss_P_nd P
    rw [el, List.nodup_append] at hN
    rw [List.nodup_append]
    refine ⟨hN.1, List.nodup_cons.mpr ⟨hB, hN.2.1⟩, fun a ha b hb e => ?_⟩
    rcases List.mem_cons.mp hb with q | q
    · subst q; subst e; exact hA ha
    · exact hN.2.2 a ha b q e
  · have mr : m ∈ rl := (ss_P_rl P m).mpr ⟨hm, km⟩
    rw [hin] at hb hlt
    refine ss_tie_l P J hL0 hm km (by rw [hG]; exact gm) (fun z hz hp q => ?_) ((hlt1 m mr).mp hlt)
    rw [hG] at hp
    exact hb z hz hp ⟨(hix m z mr hz).mpr q.1, (hlt1 z hz).mpr q.2⟩
  · have mr : m ∈ rl := (ss_P_rl P m).mpr ⟨hm, km⟩
    rw [hin] at hb hlt
    have hR0' : R0 = rl.length ∨ ∃ t, t ∈ rl ∧ ss_ho n lg au lo rc c t = true ∧ ss_ix t rl = R0 := by
      rcases hR0 with q | ⟨q1, q2⟩
      · exact Or.inl q
      · refine Or.inr ⟨ro R0, ss_R_mem R q1, q2, ?_⟩
        rw [R.2 _ q1]; exact ss_ix_ex (ss_P_nd P) q1
    refine ss_tie_r P J hR0' hm km (by rw [hG]; exact gm) (fun z hz hp q => ?_) ((hlt2 m mr).mp hlt)
    rw [hG] at hp
    exact hb z hz hp ⟨(hlt2 z hz).mpr q.1, (hix z m hz mr).mpr q.2⟩
end
end
section
/-! the relation -/
def ss_INV (oL cL wL bL n lg : Nat) (kd au bs tg sp pp ow oc ol oa lo lc rc br cm ch cc vc ro : Nat → Nat) (cd yc : Nat → Int32) (rl : List Nat) : Prop :=
  ss_P n lg kd au bs tg lo rc rl ∧ ss_BY n lg kd au bs tg lo rc ∧ ss_R ro rl ∧ ss_XO n au ow ∧ ss_XC n lg au lo rc oc ol oa ∧ ss_XS n au bs tg lo rl sp ∧ ss_XP n au tg lo rc rl pp ∧
  ss_XL lg tg lo rl lc ∧ ss_XB lg au bs tg lo rl br ∧ ss_XK n lg kd au tg lo rc rl cm ch cc vc ∧ (∀ j, ch j ≤ 1) ∧ (∀ z, z < n → cd z = yc (tg z)) ∧
  n ≤ oL ∧ oL ≤ 64 ∧ rl.length ≤ cL ∧ cL ≤ 48 ∧ wL ≤ 8 ∧ bL ≤ 16
def ss_RR (lg : Nat) (rc : Nat → Nat) (u : SX) (v : SY) : Prop := ∃ oL cL wL bL n : Nat, ∃ kd au pl bs tg sp pp ow oc ol oa lo lc br cm ch cc vc ro : Nat → Nat, ∃ cd la yc : Nat → Int32, ∃ rl : List Nat, u = ((nI oL), (nI cL), (nI wL), (nI bL), (nI n), (nI (rl.length)), (nI lg), (ss_li kd), (ss_li au), (ss_li pl), (ss_li bs), (ss_li tg), cd, (ss_li sp), (ss_li pp), (ss_li ow), (ss_li oc), (ss_li ol), (ss_li oa), (ss_li lo), la, (ss_li lc), (ss_li rc), (ss_li br), (ss_li cm), (ss_li ch), (ss_li cc), (ss_li vc)) ∧ v = ((nI oL), (nI cL), (nI wL), (nI bL), (nI n), (nI (rl.length)), (nI lg), (ss_li kd), (ss_li au), (ss_li pl), (ss_li bs), (ss_li tg), yc, (ss_li ro), (ss_li lo), la, (ss_li rc)) ∧ (ss_INV oL cL wL bL n lg kd au bs tg sp pp ow oc ol oa lo lc rc br cm ch cc vc ro cd yc rl)
theorem ss_el {lg : Nat} {rc : Nat → Nat} {u : SX} {v : SY} {Q : SX → SY → Prop} (h : ∀ (oL cL wL bL n : Nat) (kd au pl bs tg sp pp ow oc ol oa lo lc br cm ch cc vc ro : Nat → Nat) (cd la yc : Nat → Int32) (rl : List Nat), (ss_INV oL cL wL bL n lg kd au bs tg sp pp ow oc ol oa lo lc rc br cm ch cc vc ro cd yc rl) → Q ((nI oL), (nI cL), (nI wL), (nI bL), (nI n), (nI (rl.length)), (nI lg), (ss_li kd), (ss_li au), (ss_li pl), (ss_li bs), (ss_li tg), cd, (ss_li sp), (ss_li pp), (ss_li ow), (ss_li oc), (ss_li ol), (ss_li oa), (ss_li lo), la, (ss_li lc), (ss_li rc), (ss_li br), (ss_li cm), (ss_li ch), (ss_li cc), (ss_li vc)) ((nI oL), (nI cL), (nI wL), (nI bL), (nI n), (nI (rl.length)), (nI lg), (ss_li kd), (ss_li au), (ss_li pl), (ss_li bs), (ss_li tg), yc, (ss_li ro), (ss_li lo), la, (ss_li rc))) (I : ss_RR lg rc u v) : Q u v :=
  I.elim fun oL I => I.elim fun cL I => I.elim fun wL I => I.elim fun bL I => I.elim fun n I => I.elim fun kd I => I.elim fun au I => I.elim fun pl I => I.elim fun bs I => I.elim fun tg I => I.elim fun sp I => I.elim fun pp I => I.elim fun ow I => I.elim fun oc I => I.elim fun ol I => I.elim fun oa I => I.elim fun lo I => I.elim fun lc I => I.elim fun br I => I.elim fun cm I => I.elim fun ch I => I.elim fun cc I => I.elim fun vc I => I.elim fun ro I => I.elim fun cd I => I.elim fun la I => I.elim fun yc I => I.elim fun rl I => by
    rw [I.1, I.2.1]; exact h oL cL wL bL n kd au pl bs tg sp pp ow oc ol oa lo lc br cm ch cc vc ro cd la yc rl I.2.2
section
variable {oL cL wL bL n lg : Nat} {kd au bs tg sp pp ow oc ol oa lo lc rc br cm ch cc vc ro pl : Nat → Nat} {cd yc la : Nat → Int32} {rl : List Nat}
theorem ss_mk (I : (ss_INV oL cL wL bL n lg kd au bs tg sp pp ow oc ol oa lo lc rc br cm ch cc vc ro cd yc rl)) : ss_RR lg rc ((nI oL), (nI cL), (nI wL), (nI bL), (nI n), (nI (rl.length)), (nI lg), (ss_li kd), (ss_li au), (ss_li pl), (ss_li bs), (ss_li tg), cd, (ss_li sp), (ss_li pp), (ss_li ow), (ss_li oc), (ss_li ol), (ss_li oa), (ss_li lo), la, (ss_li lc), (ss_li rc), (ss_li br), (ss_li cm), (ss_li ch), (ss_li cc), (ss_li vc)) ((nI oL), (nI cL), (nI wL), (nI bL), (nI n), (nI (rl.length)), (nI lg), (ss_li kd), (ss_li au), (ss_li pl), (ss_li bs), (ss_li tg), yc, (ss_li ro), (ss_li lo), la, (ss_li rc)) := ⟨oL, cL, wL, bL, n, kd, au, pl, bs, tg, sp, pp, ow, oc, ol, oa, lo, lc, br, cm, ch, cc, vc, ro, cd, la, yc, rl, rfl, rfl, I⟩
theorem ss_I_P (I : (ss_INV oL cL wL bL n lg kd au bs tg sp pp ow oc ol oa lo lc rc br cm ch cc vc ro cd yc rl)) : ss_P n lg kd au bs tg lo rc rl := I.1
theorem ss_I_B (I : (ss_INV oL cL wL bL n lg kd au bs tg sp pp ow oc ol oa lo lc rc br cm ch cc vc ro cd yc rl)) : ss_BY n lg kd au bs tg lo rc := I.2.1
theorem ss_I_R (I : (ss_INV oL cL wL bL n lg kd au bs tg sp pp ow oc ol oa lo lc rc br cm ch cc vc ro cd yc rl)) : ss_R ro rl := I.2.2.1
theorem ss_I_O (I : (ss_INV oL cL wL bL n lg kd au bs tg sp pp ow oc ol oa lo lc rc br cm ch cc vc ro cd yc rl)) : ss_XO n au ow := I.2.2.2.1
theorem ss_I_C (I : (ss_INV oL cL wL bL n lg kd au bs tg sp pp ow oc ol oa lo lc rc br cm ch cc vc ro cd yc rl)) : ss_XC n lg au lo rc oc ol oa := I.2.2.2.2.1
theorem ss_I_S (I : (ss_INV oL cL wL bL n lg kd au bs tg sp pp ow oc ol oa lo lc rc br cm ch cc vc ro cd yc rl)) : ss_XS n au bs tg lo rl sp := I.2.2.2.2.2.1
theorem ss_I_Q (I : (ss_INV oL cL wL bL n lg kd au bs tg sp pp ow oc ol oa lo lc rc br cm ch cc vc ro cd yc rl)) : ss_XP n au tg lo rc rl pp := I.2.2.2.2.2.2.1
theorem ss_I_L (I : (ss_INV oL cL wL bL n lg kd au bs tg sp pp ow oc ol oa lo lc rc br cm ch cc vc ro cd yc rl)) : ss_XL lg tg lo rl lc := I.2.2.2.2.2.2.2.1
theorem ss_I_G (I : (ss_INV oL cL wL bL n lg kd au bs tg sp pp ow oc ol oa lo lc rc br cm ch cc vc ro cd yc rl)) : ss_XB lg au bs tg lo rl br := I.2.2.2.2.2.2.2.2.1
theorem ss_I_K (I : (ss_INV oL cL wL bL n lg kd au bs tg sp pp ow oc ol oa lo lc rc br cm ch cc vc ro cd yc rl)) : ss_XK n lg kd au tg lo rc rl cm ch cc vc := I.2.2.2.2.2.2.2.2.2.1
theorem ss_I_h (I : (ss_INV oL cL wL bL n lg kd au bs tg sp pp ow oc ol oa lo lc rc br cm ch cc vc ro cd yc rl)) : ∀ j, ch j ≤ 1 := I.2.2.2.2.2.2.2.2.2.2.1
theorem ss_I_d (I : (ss_INV oL cL wL bL n lg kd au bs tg sp pp ow oc ol oa lo lc rc br cm ch cc vc ro cd yc rl)) : ∀ z, z < n → cd z = yc (tg z) := I.2.2.2.2.2.2.2.2.2.2.2.1
theorem ss_I_n (I : (ss_INV oL cL wL bL n lg kd au bs tg sp pp ow oc ol oa lo lc rc br cm ch cc vc ro cd yc rl)) : n ≤ oL ∧ oL ≤ 64 ∧ rl.length ≤ cL ∧ cL ≤ 48 ∧ wL ≤ 8 ∧ bL ≤ 16 := I.2.2.2.2.2.2.2.2.2.2.2.2
theorem ss_I_lt (I : (ss_INV oL cL wL bL n lg kd au bs tg sp pp ow oc ol oa lo lc rc br cm ch cc vc ro cd yc rl)) {y : Nat} (hy : y ∈ rl) : y < n := ((ss_P_rl (ss_I_P I) y).mp hy).1
theorem ss_lgn (I : (ss_INV oL cL wL bL n lg kd au bs tg sp pp ow oc ol oa lo lc rc br cm ch cc vc ro cd yc rl)) : lg ≤ n ∧ ∀ c, c < 3 → ss_cn (fun j => au (lo j)) c lg < ss_cn au c n → lg < n := by
  have P := ss_I_P I
  have hau : ∀ i, au i < 3 := (ss_I_B I).2.2.2.2.1
  have h1 := ss_cn_3 (f := fun j => au (lo j)) (fun i => hau (lo i)) lg
  have h2 := ss_cn_3 hau n
  have g0 := ss_ol_le P (c := 0) (Nat.le_refl lg)
  have g1 := ss_ol_le P (c := 1) (Nat.le_refl lg)
  have g2 := ss_ol_le P (c := 2) (Nat.le_refl lg)
  refine ⟨by omega, fun c hc h => ?_⟩
  have : c = 0 ∨ c = 1 ∨ c = 2 := by omega
  rcases this with e | e | e
  · subst e; omega
  · subst e; omega
  · subst e; omega
/-- readers -/
theorem ss_m_length (I : (ss_INV oL cL wL bL n lg kd au bs tg sp pp ow oc ol oa lo lc rc br cm ch cc vc ro cd yc rl)) (v1 : Int32) : ∃ r : Int32, (∀ post : Int32 → Prop, post r → wpX_length post ((nI oL), (nI cL), (nI wL), (nI bL), (nI n), (nI (rl.length)), (nI lg), (ss_li kd), (ss_li au), (ss_li pl), (ss_li bs), (ss_li tg), cd, (ss_li sp), (ss_li pp), (ss_li ow), (ss_li oc), (ss_li ol), (ss_li oa), (ss_li lo), la, (ss_li lc), (ss_li rc), (ss_li br), (ss_li cm), (ss_li ch), (ss_li cc), (ss_li vc)) v1) ∧ (∀ post : Int32 → Prop, post r → wpY_length post ((nI oL), (nI cL), (nI wL), (nI bL), (nI n), (nI (rl.length)), (nI lg), (ss_li kd), (ss_li au), (ss_li pl), (ss_li bs), (ss_li tg), yc, (ss_li ro), (ss_li lo), la, (ss_li rc)) v1) := by
  rcases pk_ix v1 (n := 4) (by omega) with h | h | ⟨s, hs, rfl⟩
  · refine ⟨-2, fun post hp => ?_, fun post hp => ?_⟩
    · unfold wpX_length; dsimp only; exact ss_x_isSite0 (Or.inl h) (br_t rfl hp)
    · unfold wpY_length; dsimp only; exact ss_y_isSite0 (Or.inl h) (br_t rfl hp)
  · refine ⟨-2, fun post hp => ?_, fun post hp => ?_⟩
    · unfold wpX_length; dsimp only; exact ss_x_isSite0 (Or.inr h) (br_t rfl hp)
    · unfold wpY_length; dsimp only; exact ss_y_isSite0 (Or.inr h) (br_t rfl hp)
  · refine ⟨nI (rl.countP (ss_tx n kd tg (ss_ho n lg au lo rc s))), fun post hp => ?_, fun post hp => ss_y_length (ss_I_B I) (ss_I_R I) hs (fun y hy => ss_I_lt I hy) hp⟩
    unfold wpX_length; dsimp only
    refine ss_x_isSite hs (br_f (by decide) ⟨vp_in_nI (by omega) (by omega), ?_⟩)
    rw [ss_li_r vc (by omega), (ss_I_K I s hs).2.1, ss_vis_cnt]
    exact hp
theorem ss_fil48 (I : (ss_INV oL cL wL bL n lg kd au bs tg sp pp ow oc ol oa lo lc rc br cm ch cc vc ro cd yc rl)) (H : Nat → Bool) : (rl.filter H).length ≤ 48 := by
  have h1 := List.length_filter_le H rl
  have h2 := (ss_I_R I).1
  omega
theorem ss_m_find (I : (ss_INV oL cL wL bL n lg kd au bs tg sp pp ow oc ol oa lo lc rc br cm ch cc vc ro cd yc rl)) {s t : Nat} (hs : s < 4) (ht : t ∈ rl) (hx : ss_tx n kd tg (ss_ho n lg au lo rc s) t = true) {post : Int32 → Prop} (hp : post (nI (ss_pos (ss_ho n lg au lo rc s) t rl))) :
    wpX_findVisible post ((nI oL), (nI cL), (nI wL), (nI bL), (nI n), (nI (rl.length)), (nI lg), (ss_li kd), (ss_li au), (ss_li pl), (ss_li bs), (ss_li tg), cd, (ss_li sp), (ss_li pp), (ss_li ow), (ss_li oc), (ss_li ol), (ss_li oa), (ss_li lo), la, (ss_li lc), (ss_li rc), (ss_li br), (ss_li cm), (ss_li ch), (ss_li cc), (ss_li vc)) (nI s) (nI (ss_pos (ss_tx n kd tg (ss_ho n lg au lo rc s)) t rl)) := by
  unfold ss_tx at hx
  rw [Bool.and_eq_true] at hx
  obtain ⟨hq, hat⟩ := ss_fil_at ht hx.1
  rw [← ss_vis_pos ht]
  refine ss_x_findVisible (ss_I_K I s hs) hs (ss_fil48 I _) hq ?_ hp
  rw [hat]
  cases hh : ss_hd n kd tg (ss_ho n lg au lo rc s) t with
  | false => rfl
  | true => rw [hh] at hx; exact absurd hx.2 (by decide)
theorem ss_m_cell (I : (ss_INV oL cL wL bL n lg kd au bs tg sp pp ow oc ol oa lo lc rc br cm ch cc vc ro cd yc rl)) {s t : Nat} (hs : s < 4) (ht : t ∈ rl) (hx : ss_ho n lg au lo rc s t = true) :
    vp_in (nI s * 48 + nI (ss_pos (ss_ho n lg au lo rc s) t rl)) 192 ∧ ss_li cm (nI s * 48 + nI (ss_pos (ss_ho n lg au lo rc s) t rl)).toNatClampNeg = nI t := by
  obtain ⟨hq, hat⟩ := ss_fil_at ht hx
  have h48 := ss_fil48 I (ss_ho n lg au lo rc s)
  have hix : nI s * 48 + nI (ss_pos (ss_ho n lg au lo rc s) t rl) = nI (s * 48 + ss_pos (ss_ho n lg au lo rc s) t rl) := by
    rw [← nI_add, ← pk_mul]; rfl
  rw [hix, ss_li_r cm (by omega), ((ss_I_K I s hs).2.2 _ hq).1, hat]
  exact ⟨vp_in_nI (by omega) (by omega), rfl⟩
theorem ss_kth_t (I : (ss_INV oL cL wL bL n lg kd au bs tg sp pp ow oc ol oa lo lc rc br cm ch cc vc ro cd yc rl)) {s x : Nat} (hx : x < rl.countP (ss_tx n kd tg (ss_ho n lg au lo rc s))) :
    ∃ k, k < rl.length ∧ ro k ∈ rl ∧ ss_tx n kd tg (ss_ho n lg au lo rc s) (ro k) = true ∧ (rl.take k).countP (ss_tx n kd tg (ss_ho n lg au lo rc s)) = x ∧
      ss_ix (ro k) rl = k ∧ ss_pos (ss_tx n kd tg (ss_ho n lg au lo rc s)) (ro k) rl = x ∧ ss_ho n lg au lo rc s (ro k) = true := by
  obtain ⟨k, hk, h1, h2⟩ := ss_kth hx
  have hr := ss_R_mem (ss_I_R I) hk
  have hi : ss_ix (ro k) rl = k := by rw [(ss_I_R I).2 k hk]; exact ss_ix_ex (ss_P_nd (ss_I_P I)) hk
  have h3 : ss_tx n kd tg (ss_ho n lg au lo rc s) (ro k) = true := by rw [(ss_I_R I).2 k hk]; exact h1
  refine ⟨k, hk, hr, h3, h2, hi, by rw [ss_pos_tk hr, hi]; exact h2, ?_⟩
  unfold ss_tx at h3
  rw [Bool.and_eq_true] at h3
  exact h3.1
theorem ss_m_numberAt (I : (ss_INV oL cL wL bL n lg kd au bs tg sp pp ow oc ol oa lo lc rc br cm ch cc vc ro cd yc rl)) (v1 v2 : Int32) : ∃ r : Int32, ((r = -1 ∨ r = -2) ∨ ∃ t, t ∈ rl ∧ r = nI t) ∧ (∀ post : Int32 → Prop, post r → wpX_numberAt post ((nI oL), (nI cL), (nI wL), (nI bL), (nI n), (nI (rl.length)), (nI lg), (ss_li kd), (ss_li au), (ss_li pl), (ss_li bs), (ss_li tg), cd, (ss_li sp), (ss_li pp), (ss_li ow), (ss_li oc), (ss_li ol), (ss_li oa), (ss_li lo), la, (ss_li lc), (ss_li rc), (ss_li br), (ss_li cm), (ss_li ch), (ss_li cc), (ss_li vc)) v1 v2) ∧ (∀ post : Int32 → Prop, post r → wpY_numberAt post ((nI oL), (nI cL), (nI wL), (nI bL), (nI n), (nI (rl.length)), (nI lg), (ss_li kd), (ss_li au), (ss_li pl), (ss_li bs), (ss_li tg), yc, (ss_li ro), (ss_li lo), la, (ss_li rc)) v1 v2) := by
  rcases pk_ix v1 (n := 4) (by omega) with h | h | ⟨s, hs, rfl⟩
  · refine ⟨-2, Or.inl (Or.inr rfl), fun post hp => ?_, fun post hp => ?_⟩
    · unfold wpX_numberAt; dsimp only; exact ss_x_isSite0 (Or.inl h) (br_t rfl hp)
    · unfold wpY_numberAt; dsimp only; exact ss_y_isSite0 (Or.inl h) (br_t rfl hp)
  · refine ⟨-2, Or.inl (Or.inr rfl), fun post hp => ?_, fun post hp => ?_⟩
    · unfold wpX_numberAt; dsimp only; exact ss_x_isSite0 (Or.inr h) (br_t rfl hp)
    · unfold wpY_numberAt; dsimp only; exact ss_y_isSite0 (Or.inr h) (br_t rfl hp)
  · have hvc : ss_li vc (nI s).toNatClampNeg = nI (rl.countP (ss_tx n kd tg (ss_ho n lg au lo rc s))) := by
      rw [ss_li_r vc (by omega), (ss_I_K I s hs).2.1, ss_vis_cnt]
    have h48 := (ss_I_R I).1
    have hcl := List.countP_le_length (p := ss_tx n kd tg (ss_ho n lg au lo rc s)) (l := rl)
    have v : vp_in (nI s) 4 := vp_in_nI (by omega) (by omega)
    have hb : ∀ y, y ∈ rl → y < n := fun y hy => ss_I_lt I hy
    by_cases h0 : v2 < 0
    · refine ⟨-1, Or.inl (Or.inl rfl), fun post hp => ?_, fun post hp => ?_⟩
      · unfold wpX_numberAt; dsimp only; exact ss_x_isSite hs (br_f (by decide) (br_t h0 hp))
      · unfold wpY_numberAt; dsimp only
        exact ss_y_isSite hs (br_f (by decide) (br_f (fun q => absurd h0 (Int32.not_lt.mpr q)) hp))
    · obtain ⟨x, hx, rfl⟩ := nI_of h0
      rcases Nat.lt_or_ge x (rl.countP (ss_tx n kd tg (ss_ho n lg au lo rc s))) with y | y
      · obtain ⟨k, hk, hr, h1, h2, hi, h3, h4⟩ := ss_kth_t I y
        refine ⟨nI (ro k), Or.inr ⟨ro k, hr, rfl⟩, fun post hp => ?_, fun post hp => ?_⟩
        · unfold wpX_numberAt; dsimp only
          refine ss_x_isSite hs (br_f (by decide) (br_f h0 ⟨v, br_t (by rw [hvc]; exact nI_lt y (by omega)) ?_⟩))
          rw [← h3]
          obtain ⟨c1, c2⟩ := ss_m_cell I hs hr h4
          have h5 := ss_posle (H := ss_ho n lg au lo rc s) (t := ro k) (rl := rl) h48
          refine ss_m_find I hs hr h1 (br_t (nI_pos' (by omega)) ⟨c1, ?_⟩)
          rw [c2]; exact hp
        · rw [← h2]
          exact ss_y_numberAt (ss_I_B I) (ss_I_R I) hs hb hk h1 hp
      · refine ⟨-1, Or.inl (Or.inl rfl), fun post hp => ?_, fun post hp => ss_y_numberAtn (ss_I_B I) (ss_I_R I) hs hb hx y hp⟩
        unfold wpX_numberAt; dsimp only
        exact ss_x_isSite hs (br_f (by decide) (br_f h0 ⟨v, br_f (by rw [hvc]; exact nI_nlt y (by omega)) hp⟩))
theorem ss_m_charAt (I : (ss_INV oL cL wL bL n lg kd au bs tg sp pp ow oc ol oa lo lc rc br cm ch cc vc ro cd yc rl)) (v1 v2 : Int32) : ∃ r : Int32, (∀ post : Int32 → Prop, post r → wpX_charAt post ((nI oL), (nI cL), (nI wL), (nI bL), (nI n), (nI (rl.length)), (nI lg), (ss_li kd), (ss_li au), (ss_li pl), (ss_li bs), (ss_li tg), cd, (ss_li sp), (ss_li pp), (ss_li ow), (ss_li oc), (ss_li ol), (ss_li oa), (ss_li lo), la, (ss_li lc), (ss_li rc), (ss_li br), (ss_li cm), (ss_li ch), (ss_li cc), (ss_li vc)) v1 v2) ∧ (∀ post : Int32 → Prop, post r → wpY_charAt post ((nI oL), (nI cL), (nI wL), (nI bL), (nI n), (nI (rl.length)), (nI lg), (ss_li kd), (ss_li au), (ss_li pl), (ss_li bs), (ss_li tg), yc, (ss_li ro), (ss_li lo), la, (ss_li rc)) v1 v2) := by
  obtain ⟨r, hr, hX, hY⟩ := ss_m_numberAt I v1 v2
  rcases hr with h | ⟨t, ht, rfl⟩
  · have hn : ¬ (0 : Int32) ≤ r := by
      rcases h with e | e
      · subst e; decide
      · subst e; decide
    refine ⟨r, fun post hp => ?_, fun post hp => ?_⟩
    · unfold wpX_charAt; dsimp only; exact hX _ (br_f hn hp)
    · unfold wpY_charAt; dsimp only; exact hY _ (br_f hn hp)
  · have P := ss_I_P I
    have hn : n ≤ 64 := (ss_I_B I).1
    obtain ⟨h1, h2⟩ := (ss_P_rl P t).mp ht
    have h3 : cd t = yc t := by
      have h4 := ss_I_d I t h1
      rcases ss_P_kd P t h1 with ⟨_, e⟩ | ⟨e, _⟩
      · rw [e] at h4; exact h4
      · omega
    have hc : (nI t).toNatClampNeg = t := nI_clamp (by omega)
    have h0 : (0 : Int32) ≤ nI t := nI_pos' (by omega)
    have v : vp_in (nI t) 64 := vp_in_nI (by omega) (by omega)
    refine ⟨cd t, fun post hp => ?_, fun post hp => ?_⟩
    · unfold wpX_charAt; dsimp only; exact hX _ (br_t h0 ⟨v, by rw [hc]; exact hp⟩)
    · unfold wpY_charAt; dsimp only; exact hY _ (br_t h0 ⟨v, by rw [hc, ← h3]; exact hp⟩)
end
end
section
/-! further readers -/
section
variable {oL cL wL bL n lg : Nat} {kd au bs tg sp pp ow oc ol oa lo lc rc br cm ch cc vc ro pl : Nat → Nat} {cd yc la : Nat → Int32} {rl : List Nat}
theorem ss_m_uplink (I : (ss_INV oL cL wL bL n lg kd au bs tg sp pp ow oc ol oa lo lc rc br cm ch cc vc ro cd yc rl)) (v1 : Int32) : ∃ r : Int32, (∀ post : Int32 → Prop, post r → wpX_uplink post ((nI oL), (nI cL), (nI wL), (nI bL), (nI n), (nI (rl.length)), (nI lg), (ss_li kd), (ss_li au), (ss_li pl), (ss_li bs), (ss_li tg), cd, (ss_li sp), (ss_li pp), (ss_li ow), (ss_li oc), (ss_li ol), (ss_li oa), (ss_li lo), la, (ss_li lc), (ss_li rc), (ss_li br), (ss_li cm), (ss_li ch), (ss_li cc), (ss_li vc)) v1) ∧ (∀ post : Int32 → Prop, post r → wpY_uplink post ((nI oL), (nI cL), (nI wL), (nI bL), (nI n), (nI (rl.length)), (nI lg), (ss_li kd), (ss_li au), (ss_li pl), (ss_li bs), (ss_li tg), yc, (ss_li ro), (ss_li lo), la, (ss_li rc)) v1) := by
  rcases pk_ix v1 (n := 3) (by omega) with h | h | ⟨c, hc, rfl⟩
  · refine ⟨-2, fun post hp => ?_, fun post hp => ?_⟩
    · unfold wpX_uplink; dsimp only; exact ss_x_isClient0 (Or.inl h) (br_t rfl hp)
    · unfold wpY_uplink; dsimp only; exact ss_y_isClient0 (Or.inl h) (br_t rfl hp)
  · refine ⟨-2, fun post hp => ?_, fun post hp => ?_⟩
    · unfold wpX_uplink; dsimp only; exact ss_x_isClient0 (Or.inr h) (br_t rfl hp)
    · unfold wpY_uplink; dsimp only; exact ss_y_isClient0 (Or.inr h) (br_t rfl hp)
  · have v : vp_in (nI c) 3 := vp_in_nI (by omega) (by omega)
    obtain ⟨h1, h2, h3⟩ := ss_I_C I c hc
    refine ⟨nI (ss_cn au c n - ss_cn (fun j => au (lo j)) c lg), fun post hp => ?_, fun post hp => ss_y_uplink (ss_I_P I) (ss_I_B I) hc hp⟩
    unfold wpX_uplink; dsimp only
    refine ss_x_isClient hc (br_f (by decide) ⟨v, v, ?_⟩)
    rw [ss_li_r oc (by omega), ss_li_r ol (by omega), h1, h2, pk_sub (ss_ol_le (ss_I_P I) (Nat.le_refl _))]
    exact hp
theorem ss_m_unack (I : (ss_INV oL cL wL bL n lg kd au bs tg sp pp ow oc ol oa lo lc rc br cm ch cc vc ro cd yc rl)) (v1 : Int32) : ∃ r : Int32, (∀ post : Int32 → Prop, post r → wpX_unacknowledged post ((nI oL), (nI cL), (nI wL), (nI bL), (nI n), (nI (rl.length)), (nI lg), (ss_li kd), (ss_li au), (ss_li pl), (ss_li bs), (ss_li tg), cd, (ss_li sp), (ss_li pp), (ss_li ow), (ss_li oc), (ss_li ol), (ss_li oa), (ss_li lo), la, (ss_li lc), (ss_li rc), (ss_li br), (ss_li cm), (ss_li ch), (ss_li cc), (ss_li vc)) v1) ∧ (∀ post : Int32 → Prop, post r → wpY_unacknowledged post ((nI oL), (nI cL), (nI wL), (nI bL), (nI n), (nI (rl.length)), (nI lg), (ss_li kd), (ss_li au), (ss_li pl), (ss_li bs), (ss_li tg), yc, (ss_li ro), (ss_li lo), la, (ss_li rc)) v1) := by
  rcases pk_ix v1 (n := 3) (by omega) with h | h | ⟨c, hc, rfl⟩
  · refine ⟨-2, fun post hp => ?_, fun post hp => ?_⟩
    · unfold wpX_unacknowledged; dsimp only; exact ss_x_isClient0 (Or.inl h) (br_t rfl hp)
    · unfold wpY_unacknowledged; dsimp only; exact ss_y_isClient0 (Or.inl h) (br_t rfl hp)
  · refine ⟨-2, fun post hp => ?_, fun post hp => ?_⟩
    · unfold wpX_unacknowledged; dsimp only; exact ss_x_isClient0 (Or.inr h) (br_t rfl hp)
    · unfold wpY_unacknowledged; dsimp only; exact ss_y_isClient0 (Or.inr h) (br_t rfl hp)
  · have v : vp_in (nI c) 3 := vp_in_nI (by omega) (by omega)
    obtain ⟨h1, h2, h3⟩ := ss_I_C I c hc
    refine ⟨nI (ss_cn au c n - ss_cn (fun j => au (lo j)) c (rc c)), fun post hp => ?_, fun post hp => ss_y_unack (ss_I_P I) (ss_I_B I) hc hp⟩
    unfold wpX_unacknowledged; dsimp only
    refine ss_x_isClient hc (br_f (by decide) ⟨v, v, ?_⟩)
    rw [ss_li_r oc (by omega), ss_li_r oa (by omega), h1, h3, pk_sub (ss_ol_le (ss_I_P I) (ss_P_rc (ss_I_P I) c))]
    exact hp
theorem ss_m_downlink (I : (ss_INV oL cL wL bL n lg kd au bs tg sp pp ow oc ol oa lo lc rc br cm ch cc vc ro cd yc rl)) (v1 : Int32) : ∃ r : Int32, (∀ post : Int32 → Prop, post r → wpX_downlink post ((nI oL), (nI cL), (nI wL), (nI bL), (nI n), (nI (rl.length)), (nI lg), (ss_li kd), (ss_li au), (ss_li pl), (ss_li bs), (ss_li tg), cd, (ss_li sp), (ss_li pp), (ss_li ow), (ss_li oc), (ss_li ol), (ss_li oa), (ss_li lo), la, (ss_li lc), (ss_li rc), (ss_li br), (ss_li cm), (ss_li ch), (ss_li cc), (ss_li vc)) v1) ∧ (∀ post : Int32 → Prop, post r → wpY_downlink post ((nI oL), (nI cL), (nI wL), (nI bL), (nI n), (nI (rl.length)), (nI lg), (ss_li kd), (ss_li au), (ss_li pl), (ss_li bs), (ss_li tg), yc, (ss_li ro), (ss_li lo), la, (ss_li rc)) v1) := by
  rcases pk_ix v1 (n := 3) (by omega) with h | h | ⟨c, hc, rfl⟩
  · refine ⟨-2, fun post hp => ?_, fun post hp => ?_⟩
    · unfold wpX_downlink; dsimp only; exact ss_x_isClient0 (Or.inl h) (br_t rfl hp)
    · unfold wpY_downlink; dsimp only; exact ss_y_isClient0 (Or.inl h) (br_t rfl hp)
  · refine ⟨-2, fun post hp => ?_, fun post hp => ?_⟩
    · unfold wpX_downlink; dsimp only; exact ss_x_isClient0 (Or.inr h) (br_t rfl hp)
    · unfold wpY_downlink; dsimp only; exact ss_y_isClient0 (Or.inr h) (br_t rfl hp)
  · have v : vp_in (nI c) 3 := vp_in_nI (by omega) (by omega)
    have hr := ss_P_rc (ss_I_P I) c
    refine ⟨nI (lg - rc c), fun post hp => ?_, fun post hp => ss_y_downlink hr (ss_I_B I).2.1 hc hp⟩
    unfold wpX_downlink; dsimp only
    refine ss_x_isClient hc (br_f (by decide) ⟨v, ?_⟩)
    rw [ss_li_r rc (by omega), pk_sub hr]
    exact hp
theorem ss_m_isOp (hn : n ≤ 64) (v1 : Int32) : (∃ r : Int32, r = 0 ∧ (∀ post : Int32 → Prop, post r → wpX_isOperation post ((nI oL), (nI cL), (nI wL), (nI bL), (nI n), (nI (rl.length)), (nI lg), (ss_li kd), (ss_li au), (ss_li pl), (ss_li bs), (ss_li tg), cd, (ss_li sp), (ss_li pp), (ss_li ow), (ss_li oc), (ss_li ol), (ss_li oa), (ss_li lo), la, (ss_li lc), (ss_li rc), (ss_li br), (ss_li cm), (ss_li ch), (ss_li cc), (ss_li vc)) v1) ∧ (∀ post : Int32 → Prop, post r → wpY_isOperation post ((nI oL), (nI cL), (nI wL), (nI bL), (nI n), (nI (rl.length)), (nI lg), (ss_li kd), (ss_li au), (ss_li pl), (ss_li bs), (ss_li tg), yc, (ss_li ro), (ss_li lo), la, (ss_li rc)) v1)) ∨
    (∃ z, z < n ∧ v1 = nI z ∧ (∀ post : Int32 → Prop, post 1 → wpX_isOperation post ((nI oL), (nI cL), (nI wL), (nI bL), (nI n), (nI (rl.length)), (nI lg), (ss_li kd), (ss_li au), (ss_li pl), (ss_li bs), (ss_li tg), cd, (ss_li sp), (ss_li pp), (ss_li ow), (ss_li oc), (ss_li ol), (ss_li oa), (ss_li lo), la, (ss_li lc), (ss_li rc), (ss_li br), (ss_li cm), (ss_li ch), (ss_li cc), (ss_li vc)) v1) ∧ (∀ post : Int32 → Prop, post 1 → wpY_isOperation post ((nI oL), (nI cL), (nI wL), (nI bL), (nI n), (nI (rl.length)), (nI lg), (ss_li kd), (ss_li au), (ss_li pl), (ss_li bs), (ss_li tg), yc, (ss_li ro), (ss_li lo), la, (ss_li rc)) v1)) := by
  rcases pk_ix v1 (n := n) (by omega) with h | h | ⟨z, hz, rfl⟩
  · exact Or.inl ⟨0, rfl, fun post hp => br_t h hp, fun post hp => br_t h hp⟩
  · have h0 : ¬ v1 < 0 := fun q => absurd (Int32.lt_of_le_of_lt h q) (nI_pos (by omega))
    exact Or.inl ⟨0, rfl, fun post hp => br_f h0 (br_t h hp), fun post hp => br_f h0 (br_t h hp)⟩
  · exact Or.inr ⟨z, hz, rfl, fun post hp => br_f (nI_pos (by omega)) (br_f (nI_ge hz (by omega)) hp), fun post hp => br_f (nI_pos (by omega)) (br_f (nI_ge hz (by omega)) hp)⟩
theorem ss_m_opKind (I : (ss_INV oL cL wL bL n lg kd au bs tg sp pp ow oc ol oa lo lc rc br cm ch cc vc ro cd yc rl)) (v1 : Int32) : ∃ r : Int32, (∀ post : Int32 → Prop, post r → wpX_opKind post ((nI oL), (nI cL), (nI wL), (nI bL), (nI n), (nI (rl.length)), (nI lg), (ss_li kd), (ss_li au), (ss_li pl), (ss_li bs), (ss_li tg), cd, (ss_li sp), (ss_li pp), (ss_li ow), (ss_li oc), (ss_li ol), (ss_li oa), (ss_li lo), la, (ss_li lc), (ss_li rc), (ss_li br), (ss_li cm), (ss_li ch), (ss_li cc), (ss_li vc)) v1) ∧ (∀ post : Int32 → Prop, post r → wpY_opKind post ((nI oL), (nI cL), (nI wL), (nI bL), (nI n), (nI (rl.length)), (nI lg), (ss_li kd), (ss_li au), (ss_li pl), (ss_li bs), (ss_li tg), yc, (ss_li ro), (ss_li lo), la, (ss_li rc)) v1) := by
  have hn : n ≤ 64 := (ss_I_B I).1
  rcases ss_m_isOp (oL := oL) (cL := cL) (wL := wL) (bL := bL) (lg := lg) (kd := kd) (au := au) (bs := bs) (tg := tg) (sp := sp) (pp := pp) (ow := ow) (oc := oc) (ol := ol) (oa := oa) (lo := lo) (lc := lc) (rc := rc) (br := br) (cm := cm) (ch := ch) (cc := cc) (vc := vc) (ro := ro) (pl := pl) (cd := cd) (yc := yc) (la := la) (rl := rl) hn v1 with ⟨r, hr, hX, hY⟩ | ⟨z, hz, rfl, hX, hY⟩
  · subst hr
    refine ⟨-1, fun post hp => ?_, fun post hp => ?_⟩
    · unfold wpX_opKind; dsimp only; exact hX _ (br_t rfl hp)
    · unfold wpY_opKind; dsimp only; exact hY _ (br_t rfl hp)
  · have v : vp_in (nI z) 64 := vp_in_nI (by omega) (by omega)
    refine ⟨ss_li kd (nI z).toNatClampNeg, fun post hp => ?_, fun post hp => ?_⟩
    · unfold wpX_opKind; dsimp only; exact hX _ (br_f (by decide) ⟨v, hp⟩)
    · unfold wpY_opKind; dsimp only; exact hY _ (br_f (by decide) ⟨v, hp⟩)
theorem ss_m_opClient (I : (ss_INV oL cL wL bL n lg kd au bs tg sp pp ow oc ol oa lo lc rc br cm ch cc vc ro cd yc rl)) (v1 : Int32) : ∃ r : Int32, (∀ post : Int32 → Prop, post r → wpX_opClient post ((nI oL), (nI cL), (nI wL), (nI bL), (nI n), (nI (rl.length)), (nI lg), (ss_li kd), (ss_li au), (ss_li pl), (ss_li bs), (ss_li tg), cd, (ss_li sp), (ss_li pp), (ss_li ow), (ss_li oc), (ss_li ol), (ss_li oa), (ss_li lo), la, (ss_li lc), (ss_li rc), (ss_li br), (ss_li cm), (ss_li ch), (ss_li cc), (ss_li vc)) v1) ∧ (∀ post : Int32 → Prop, post r → wpY_opClient post ((nI oL), (nI cL), (nI wL), (nI bL), (nI n), (nI (rl.length)), (nI lg), (ss_li kd), (ss_li au), (ss_li pl), (ss_li bs), (ss_li tg), yc, (ss_li ro), (ss_li lo), la, (ss_li rc)) v1) := by
  have hn : n ≤ 64 := (ss_I_B I).1
  rcases ss_m_isOp (oL := oL) (cL := cL) (wL := wL) (bL := bL) (lg := lg) (kd := kd) (au := au) (bs := bs) (tg := tg) (sp := sp) (pp := pp) (ow := ow) (oc := oc) (ol := ol) (oa := oa) (lo := lo) (lc := lc) (rc := rc) (br := br) (cm := cm) (ch := ch) (cc := cc) (vc := vc) (ro := ro) (pl := pl) (cd := cd) (yc := yc) (la := la) (rl := rl) hn v1 with ⟨r, hr, hX, hY⟩ | ⟨z, hz, rfl, hX, hY⟩
  · subst hr
    refine ⟨-1, fun post hp => ?_, fun post hp => ?_⟩
    · unfold wpX_opClient; dsimp only; exact hX _ (br_t rfl hp)
    · unfold wpY_opClient; dsimp only; exact hY _ (br_t rfl hp)
  · have v : vp_in (nI z) 64 := vp_in_nI (by omega) (by omega)
    refine ⟨ss_li au (nI z).toNatClampNeg, fun post hp => ?_, fun post hp => ?_⟩
    · unfold wpX_opClient; dsimp only; exact hX _ (br_f (by decide) ⟨v, hp⟩)
    · unfold wpY_opClient; dsimp only; exact hY _ (br_f (by decide) ⟨v, hp⟩)
theorem ss_m_opPlace (I : (ss_INV oL cL wL bL n lg kd au bs tg sp pp ow oc ol oa lo lc rc br cm ch cc vc ro cd yc rl)) (v1 : Int32) : ∃ r : Int32, (∀ post : Int32 → Prop, post r → wpX_opPlace post ((nI oL), (nI cL), (nI wL), (nI bL), (nI n), (nI (rl.length)), (nI lg), (ss_li kd), (ss_li au), (ss_li pl), (ss_li bs), (ss_li tg), cd, (ss_li sp), (ss_li pp), (ss_li ow), (ss_li oc), (ss_li ol), (ss_li oa), (ss_li lo), la, (ss_li lc), (ss_li rc), (ss_li br), (ss_li cm), (ss_li ch), (ss_li cc), (ss_li vc)) v1) ∧ (∀ post : Int32 → Prop, post r → wpY_opPlace post ((nI oL), (nI cL), (nI wL), (nI bL), (nI n), (nI (rl.length)), (nI lg), (ss_li kd), (ss_li au), (ss_li pl), (ss_li bs), (ss_li tg), yc, (ss_li ro), (ss_li lo), la, (ss_li rc)) v1) := by
  have hn : n ≤ 64 := (ss_I_B I).1
  rcases ss_m_isOp (oL := oL) (cL := cL) (wL := wL) (bL := bL) (lg := lg) (kd := kd) (au := au) (bs := bs) (tg := tg) (sp := sp) (pp := pp) (ow := ow) (oc := oc) (ol := ol) (oa := oa) (lo := lo) (lc := lc) (rc := rc) (br := br) (cm := cm) (ch := ch) (cc := cc) (vc := vc) (ro := ro) (pl := pl) (cd := cd) (yc := yc) (la := la) (rl := rl) hn v1 with ⟨r, hr, hX, hY⟩ | ⟨z, hz, rfl, hX, hY⟩
  · subst hr
    refine ⟨-1, fun post hp => ?_, fun post hp => ?_⟩
    · unfold wpX_opPlace; dsimp only; exact hX _ (br_t rfl hp)
    · unfold wpY_opPlace; dsimp only; exact hY _ (br_t rfl hp)
  · have v : vp_in (nI z) 64 := vp_in_nI (by omega) (by omega)
    refine ⟨ss_li pl (nI z).toNatClampNeg, fun post hp => ?_, fun post hp => ?_⟩
    · unfold wpX_opPlace; dsimp only; exact hX _ (br_f (by decide) ⟨v, hp⟩)
    · unfold wpY_opPlace; dsimp only; exact hY _ (br_f (by decide) ⟨v, hp⟩)
theorem ss_m_opBase (I : (ss_INV oL cL wL bL n lg kd au bs tg sp pp ow oc ol oa lo lc rc br cm ch cc vc ro cd yc rl)) (v1 : Int32) : ∃ r : Int32, (∀ post : Int32 → Prop, post r → wpX_opBase post ((nI oL), (nI cL), (nI wL), (nI bL), (nI n), (nI (rl.length)), (nI lg), (ss_li kd), (ss_li au), (ss_li pl), (ss_li bs), (ss_li tg), cd, (ss_li sp), (ss_li pp), (ss_li ow), (ss_li oc), (ss_li ol), (ss_li oa), (ss_li lo), la, (ss_li lc), (ss_li rc), (ss_li br), (ss_li cm), (ss_li ch), (ss_li cc), (ss_li vc)) v1) ∧ (∀ post : Int32 → Prop, post r → wpY_opBase post ((nI oL), (nI cL), (nI wL), (nI bL), (nI n), (nI (rl.length)), (nI lg), (ss_li kd), (ss_li au), (ss_li pl), (ss_li bs), (ss_li tg), yc, (ss_li ro), (ss_li lo), la, (ss_li rc)) v1) := by
  have hn : n ≤ 64 := (ss_I_B I).1
  rcases ss_m_isOp (oL := oL) (cL := cL) (wL := wL) (bL := bL) (lg := lg) (kd := kd) (au := au) (bs := bs) (tg := tg) (sp := sp) (pp := pp) (ow := ow) (oc := oc) (ol := ol) (oa := oa) (lo := lo) (lc := lc) (rc := rc) (br := br) (cm := cm) (ch := ch) (cc := cc) (vc := vc) (ro := ro) (pl := pl) (cd := cd) (yc := yc) (la := la) (rl := rl) hn v1 with ⟨r, hr, hX, hY⟩ | ⟨z, hz, rfl, hX, hY⟩
  · subst hr
    refine ⟨-1, fun post hp => ?_, fun post hp => ?_⟩
    · unfold wpX_opBase; dsimp only; exact hX _ (br_t rfl hp)
    · unfold wpY_opBase; dsimp only; exact hY _ (br_t rfl hp)
  · have v : vp_in (nI z) 64 := vp_in_nI (by omega) (by omega)
    refine ⟨ss_li bs (nI z).toNatClampNeg, fun post hp => ?_, fun post hp => ?_⟩
    · unfold wpX_opBase; dsimp only; exact hX _ (br_f (by decide) ⟨v, hp⟩)
    · unfold wpY_opBase; dsimp only; exact hY _ (br_f (by decide) ⟨v, hp⟩)
theorem ss_m_opTarget (I : (ss_INV oL cL wL bL n lg kd au bs tg sp pp ow oc ol oa lo lc rc br cm ch cc vc ro cd yc rl)) (v1 : Int32) : ∃ r : Int32, (∀ post : Int32 → Prop, post r → wpX_opTarget post ((nI oL), (nI cL), (nI wL), (nI bL), (nI n), (nI (rl.length)), (nI lg), (ss_li kd), (ss_li au), (ss_li pl), (ss_li bs), (ss_li tg), cd, (ss_li sp), (ss_li pp), (ss_li ow), (ss_li oc), (ss_li ol), (ss_li oa), (ss_li lo), la, (ss_li lc), (ss_li rc), (ss_li br), (ss_li cm), (ss_li ch), (ss_li cc), (ss_li vc)) v1) ∧ (∀ post : Int32 → Prop, post r → wpY_opTarget post ((nI oL), (nI cL), (nI wL), (nI bL), (nI n), (nI (rl.length)), (nI lg), (ss_li kd), (ss_li au), (ss_li pl), (ss_li bs), (ss_li tg), yc, (ss_li ro), (ss_li lo), la, (ss_li rc)) v1) := by
  have hn : n ≤ 64 := (ss_I_B I).1
  rcases ss_m_isOp (oL := oL) (cL := cL) (wL := wL) (bL := bL) (lg := lg) (kd := kd) (au := au) (bs := bs) (tg := tg) (sp := sp) (pp := pp) (ow := ow) (oc := oc) (ol := ol) (oa := oa) (lo := lo) (lc := lc) (rc := rc) (br := br) (cm := cm) (ch := ch) (cc := cc) (vc := vc) (ro := ro) (pl := pl) (cd := cd) (yc := yc) (la := la) (rl := rl) hn v1 with ⟨r, hr, hX, hY⟩ | ⟨z, hz, rfl, hX, hY⟩
  · subst hr
    refine ⟨-1, fun post hp => ?_, fun post hp => ?_⟩
    · unfold wpX_opTarget; dsimp only; exact hX _ (br_t rfl hp)
    · unfold wpY_opTarget; dsimp only; exact hY _ (br_t rfl hp)
  · have v : vp_in (nI z) 64 := vp_in_nI (by omega) (by omega)
    refine ⟨ss_li tg (nI z).toNatClampNeg, fun post hp => ?_, fun post hp => ?_⟩
    · unfold wpX_opTarget; dsimp only; exact hX _ (br_f (by decide) ⟨v, hp⟩)
    · unfold wpY_opTarget; dsimp only; exact hY _ (br_f (by decide) ⟨v, hp⟩)
theorem ss_m_opCharacter (I : (ss_INV oL cL wL bL n lg kd au bs tg sp pp ow oc ol oa lo lc rc br cm ch cc vc ro cd yc rl)) (v1 : Int32) : ∃ r : Int32, (∀ post : Int32 → Prop, post r → wpX_opCharacter post ((nI oL), (nI cL), (nI wL), (nI bL), (nI n), (nI (rl.length)), (nI lg), (ss_li kd), (ss_li au), (ss_li pl), (ss_li bs), (ss_li tg), cd, (ss_li sp), (ss_li pp), (ss_li ow), (ss_li oc), (ss_li ol), (ss_li oa), (ss_li lo), la, (ss_li lc), (ss_li rc), (ss_li br), (ss_li cm), (ss_li ch), (ss_li cc), (ss_li vc)) v1) ∧ (∀ post : Int32 → Prop, post r → wpY_opCharacter post ((nI oL), (nI cL), (nI wL), (nI bL), (nI n), (nI (rl.length)), (nI lg), (ss_li kd), (ss_li au), (ss_li pl), (ss_li bs), (ss_li tg), yc, (ss_li ro), (ss_li lo), la, (ss_li rc)) v1) := by
  have hn : n ≤ 64 := (ss_I_B I).1
  rcases ss_m_isOp (oL := oL) (cL := cL) (wL := wL) (bL := bL) (lg := lg) (kd := kd) (au := au) (bs := bs) (tg := tg) (sp := sp) (pp := pp) (ow := ow) (oc := oc) (ol := ol) (oa := oa) (lo := lo) (lc := lc) (rc := rc) (br := br) (cm := cm) (ch := ch) (cc := cc) (vc := vc) (ro := ro) (pl := pl) (cd := cd) (yc := yc) (la := la) (rl := rl) hn v1 with ⟨r, hr, hX, hY⟩ | ⟨z, hz, rfl, hX, hY⟩
  · subst hr
    refine ⟨-1, fun post hp => ?_, fun post hp => ?_⟩
    · unfold wpX_opCharacter; dsimp only; exact hX _ (br_t rfl hp)
    · unfold wpY_opCharacter; dsimp only; exact hY _ (br_t rfl hp)
  · have v : vp_in (nI z) 64 := vp_in_nI (by omega) (by omega)
    have ht := ss_I_lt I (ss_P_tg (ss_I_P I) hz)
    refine ⟨cd z, fun post hp => ?_, fun post hp => ?_⟩
    · unfold wpX_opCharacter; dsimp only; exact hX _ (br_f (by decide) ⟨v, by rw [nI_clamp (by omega)]; exact hp⟩)
    · unfold wpY_opCharacter; dsimp only
      refine hY _ (br_f (by decide) ⟨v, ?_⟩)
      rw [ss_li_r tg (by omega), nI_clamp (by omega), ← ss_I_d I z hz]
      exact ⟨vp_in_nI (by omega) (by omega), hp⟩
theorem ss_m_logLength (I : (ss_INV oL cL wL bL n lg kd au bs tg sp pp ow oc ol oa lo lc rc br cm ch cc vc ro cd yc rl)) : ∃ r : Int32, (∀ post : Int32 → Prop, post r → wpX_logLength post ((nI oL), (nI cL), (nI wL), (nI bL), (nI n), (nI (rl.length)), (nI lg), (ss_li kd), (ss_li au), (ss_li pl), (ss_li bs), (ss_li tg), cd, (ss_li sp), (ss_li pp), (ss_li ow), (ss_li oc), (ss_li ol), (ss_li oa), (ss_li lo), la, (ss_li lc), (ss_li rc), (ss_li br), (ss_li cm), (ss_li ch), (ss_li cc), (ss_li vc))) ∧ (∀ post : Int32 → Prop, post r → wpY_logLength post ((nI oL), (nI cL), (nI wL), (nI bL), (nI n), (nI (rl.length)), (nI lg), (ss_li kd), (ss_li au), (ss_li pl), (ss_li bs), (ss_li tg), yc, (ss_li ro), (ss_li lo), la, (ss_li rc))) :=
  ⟨nI lg, fun _ hp => hp, fun _ hp => hp⟩
theorem ss_m_logOperation (I : (ss_INV oL cL wL bL n lg kd au bs tg sp pp ow oc ol oa lo lc rc br cm ch cc vc ro cd yc rl)) (v1 : Int32) : ∃ r : Int32, (∀ post : Int32 → Prop, post r → wpX_logOperation post ((nI oL), (nI cL), (nI wL), (nI bL), (nI n), (nI (rl.length)), (nI lg), (ss_li kd), (ss_li au), (ss_li pl), (ss_li bs), (ss_li tg), cd, (ss_li sp), (ss_li pp), (ss_li ow), (ss_li oc), (ss_li ol), (ss_li oa), (ss_li lo), la, (ss_li lc), (ss_li rc), (ss_li br), (ss_li cm), (ss_li ch), (ss_li cc), (ss_li vc)) v1) ∧ (∀ post : Int32 → Prop, post r → wpY_logOperation post ((nI oL), (nI cL), (nI wL), (nI bL), (nI n), (nI (rl.length)), (nI lg), (ss_li kd), (ss_li au), (ss_li pl), (ss_li bs), (ss_li tg), yc, (ss_li ro), (ss_li lo), la, (ss_li rc)) v1) := by
  have hlg : lg ≤ 64 := (ss_I_B I).2.1
  by_cases h0 : v1 < 0
  · exact ⟨-1, fun post hp => br_t h0 hp, fun post hp => br_t h0 hp⟩
  · by_cases h1 : v1 < nI lg
    · obtain ⟨z, hz, rfl⟩ := nI_of h0
      have h2 := (nI_ltI hz (by omega)).mp h1
      have v : vp_in (nI z) 64 := vp_in_nI (by omega) (by omega)
      exact ⟨ss_li lo (nI z).toNatClampNeg, fun post hp => br_f h0 (br_t h1 ⟨v, hp⟩), fun post hp => br_f h0 (br_t h1 ⟨v, hp⟩)⟩
    · exact ⟨-1, fun post hp => br_f h0 (br_f h1 hp), fun post hp => br_f h0 (br_f h1 hp)⟩
theorem ss_m_logPlace (I : (ss_INV oL cL wL bL n lg kd au bs tg sp pp ow oc ol oa lo lc rc br cm ch cc vc ro cd yc rl)) (v1 : Int32) : ∃ r : Int32, (∀ post : Int32 → Prop, post r → wpX_logPlace post ((nI oL), (nI cL), (nI wL), (nI bL), (nI n), (nI (rl.length)), (nI lg), (ss_li kd), (ss_li au), (ss_li pl), (ss_li bs), (ss_li tg), cd, (ss_li sp), (ss_li pp), (ss_li ow), (ss_li oc), (ss_li ol), (ss_li oa), (ss_li lo), la, (ss_li lc), (ss_li rc), (ss_li br), (ss_li cm), (ss_li ch), (ss_li cc), (ss_li vc)) v1) ∧ (∀ post : Int32 → Prop, post r → wpY_logPlace post ((nI oL), (nI cL), (nI wL), (nI bL), (nI n), (nI (rl.length)), (nI lg), (ss_li kd), (ss_li au), (ss_li pl), (ss_li bs), (ss_li tg), yc, (ss_li ro), (ss_li lo), la, (ss_li rc)) v1) := by
  have hlg : lg ≤ 64 := (ss_I_B I).2.1
  by_cases h0 : v1 < 0
  · exact ⟨-1, fun post hp => br_t h0 hp, fun post hp => br_t h0 hp⟩
  · by_cases h1 : v1 < nI lg
    · obtain ⟨z, hz, rfl⟩ := nI_of h0
      have h2 := (nI_ltI hz (by omega)).mp h1
      have v : vp_in (nI z) 64 := vp_in_nI (by omega) (by omega)
      exact ⟨la (nI z).toNatClampNeg, fun post hp => br_f h0 (br_t h1 ⟨v, hp⟩), fun post hp => br_f h0 (br_t h1 ⟨v, hp⟩)⟩
    · exact ⟨-1, fun post hp => br_f h0 (br_f h1 hp), fun post hp => br_f h0 (br_f h1 hp)⟩
end
end
section
/-! insert and remove -/
def ss_Rel (u : SX) (v : SY) : Prop := ∃ (lg : Nat) (rc : Nat → Nat), ss_RR lg rc u v
theorem ss_un_b {f : Nat → Nat} {k v b : Nat} (h : ∀ i, f i < b) (hv : v < b) : ∀ i, ss_un f k v i < b := fun i => by
  unfold ss_un
  by_cases e : i = k
  · rw [if_pos e]; exact hv
  · rw [if_neg e]; exact h i
section
variable {oL cL wL bL n lg : Nat} {kd au bs tg sp pp ow oc ol oa lo lc rc br cm ch cc vc ro pl : Nat → Nat} {cd yc la : Nat → Int32} {rl : List Nat}
theorem ss_ins_rl (I : (ss_INV oL cL wL bL n lg kd au bs tg sp pp ow oc ol oa lo lc rc br cm ch cc vc ro cd yc rl)) {c L0 R0 L : Nat} (hc : c < 3) (hl : rl.length < 48) (h1 : L0 ≤ L) (h2 : L ≤ R0) (h3 : R0 ≤ rl.length)
    (h4 : ∀ j, L0 ≤ j → j < R0 → ss_ho n lg au lo rc c (ro j) = false) (h5 : R0 = rl.length ∨ (R0 < rl.length ∧ ss_ho n lg au lo rc c (ro R0) = true))
    (J : ss_J n kd au (ss_ho n lg au lo rc c) c rl L0 R0 n L L)
    (hL0 : L0 = 0 ∨ ∃ t, t ∈ rl ∧ ss_ho n lg au lo rc c t = true ∧ ss_ix t rl + 1 = L0) :
    ∃ rl' : List Nat, rl'.length = rl.length + 1 ∧ (∀ (H : Nat → Bool) (t : Nat), H n = false → t ≠ n → ss_pos H t rl' = ss_pos H t rl) ∧ (∀ H : Nat → Bool, H n = false → rl'.filter H = rl.filter H) ∧ (∀ y, y ∈ rl' → y ≤ n) ∧
      ss_P (n + 1) lg (ss_un kd n 1) (ss_un au n c) (ss_un bs n (rc c)) (ss_un tg n n) lo rc rl' ∧ ss_R (ss_un (ss_sh L rl.length ro) L n) rl' ∧
      ss_pos (ss_ho n lg au lo rc c) n rl' = (rl.take L0).countP (ss_ho n lg au lo rc c) := by
  have P := ss_I_P I
  have R := ss_I_R I
  have P' := ss_P_ins P R hc (Nat.le_trans h2 h3) J hL0 h5
  have hnr : n ∉ rl := fun q => by have := ss_I_lt I q; omega
  refine ⟨rl.take L ++ n :: rl.drop L, ?_, fun H t hH ht => ?_, fun H hH => ?_, fun y hy => ?_, P', ss_R_ins R (by omega) hl, ?_⟩
  · rw [List.length_append, List.length_cons, List.length_take, List.length_drop]; omega
  · rw [ss_pos_ins ht hH, List.take_append_drop]
  · rw [List.filter_append, List.filter_cons_of_neg (by rw [hH]; decide), ← List.filter_append, List.take_append_drop]
  · have := ((ss_P_rl P' y).mp hy).1; omega
  · rw [ss_pos_at _ _ (fun q => hnr (List.mem_of_mem_take q))]
    have key : ∀ d i, L0 + d = i → i ≤ R0 → (rl.take i).countP (ss_ho n lg au lo rc c) = (rl.take L0).countP (ss_ho n lg au lo rc c) := by
      intro d
      induction d with
      | zero => intro i hi _; have : i = L0 := by omega
                subst this; rfl
      | succ d ih =>
        intro i hi hiR
        obtain ⟨i, rfl⟩ : ∃ j, i = j + 1 := ⟨i - 1, by omega⟩
        rw [ss_tk_f R (by omega) (h4 i (by omega) (by omega))]
        exact ih i (by omega) (by omega)
    exact key (L - L0) L (by omega) h2
theorem ss_acc (I : (ss_INV oL cL wL bL n lg kd au bs tg sp pp ow oc ol oa lo lc rc br cm ch cc vc ro cd yc rl)) {c k0 t0 p0 : Nat} {rl' : List Nat} {ro' : Nat → Nat} {cd' yc' : Nat → Int32} (hc : c < 3) (hn : n < 64)
    (P' : ss_P (n + 1) lg (ss_un kd n k0) (ss_un au n c) (ss_un bs n (rc c)) (ss_un tg n t0) lo rc rl')
    (EXT : ∀ (H : Nat → Bool) (t : Nat), H n = false → t ≠ n → ss_pos H t rl' = ss_pos H t rl) (EXT2 : ∀ H : Nat → Bool, H n = false → rl'.filter H = rl.filter H) (hle : ∀ y, y ∈ rl' → y ≤ n)
    (R' : ss_R ro' rl') (hk : (k0 = 1 ∧ t0 = n) ∨ (k0 = 2 ∧ ss_ho n lg au lo rc c t0 = true)) (ht0 : t0 < 256)
    (hcd : ∀ z, z < n + 1 → cd' z = yc' (ss_un tg n t0 z)) (h1 : n + 1 ≤ oL) (h2 : rl'.length ≤ cL) :
    ∃ cm' ch' cc' vc' : Nat → Nat, (ss_INV oL cL wL bL (n + 1) lg (ss_un kd n k0) (ss_un au n c) (ss_un bs n (rc c)) (ss_un tg n t0) (ss_un sp n (ss_pos (ss_ho n lg au lo rc c) t0 rl')) (ss_un pp n (ss_pos (ss_ho n lg au lo rc c) t0 rl')) (ss_un ow (c * 64 + oc c) n) (ss_un oc c (oc c + 1)) ol oa lo lc rc br cm' ch' cc' vc' ro' cd' yc' rl') ∧
      ∀ post : SX → Prop, post ((nI oL), (nI cL), (nI wL), (nI bL), (nI (n + 1)), (nI (rl'.length)), (nI lg), (ss_li (ss_un kd n k0)), (ss_li (ss_un au n c)), (ss_li (ss_un pl n p0)), (ss_li (ss_un bs n (rc c))), (ss_li (ss_un tg n t0)), cd', (ss_li (ss_un sp n (ss_pos (ss_ho n lg au lo rc c) t0 rl'))), (ss_li (ss_un pp n (ss_pos (ss_ho n lg au lo rc c) t0 rl'))), (ss_li (ss_un ow (c * 64 + oc c) n)), (ss_li (ss_un oc c (oc c + 1))), (ss_li ol), (ss_li oa), (ss_li lo), la, (ss_li lc), (ss_li rc), (ss_li br), (ss_li cm'), (ss_li ch'), (ss_li cc'), (ss_li vc')) →
        wpX_accept post ((nI oL), (nI cL), (nI wL), (nI bL), (nI n), (nI (rl'.length)), (nI lg), (ss_li kd), (ss_li au), (ss_li pl), (ss_li bs), (ss_li (ss_un tg n t0)), cd', (ss_li sp), (ss_li pp), (ss_li ow), (ss_li oc), (ss_li ol), (ss_li oa), (ss_li lo), la, (ss_li lc), (ss_li rc), (ss_li br), (ss_li cm), (ss_li ch), (ss_li cc), (ss_li vc)) (nI c) (nI k0) (nI p0) (nI (ss_pos (ss_ho n lg au lo rc c) t0 rl')) := by
  have P := ss_I_P I
  obtain ⟨hB1, hB2, hB3, hB4, hB5, hB6, hB7, hB8⟩ := ss_I_B I
  obtain ⟨hN1, hN2, hN3, hN4, hN5, hN6⟩ := ss_I_n I
  have hG : ∀ y, ss_ho n lg au lo rc c y = ss_G au lo c (rc c) (ss_cn au c n) y := fun y => if_neg (by omega)
  have hG' : ss_ho n lg au lo rc c = ss_G au lo c (rc c) (ss_cn au c n) := funext hG
  have h0 := ss_ho_n0 P c
  have hoc := (ss_I_C I c hc).1
  have hoc64 : oc c < 64 := by have := ss_cn_le au c n; omega
  have htg' : ss_un tg n t0 n = t0 := ss_un_s
  have hkd' : ss_un kd n k0 n = k0 := ss_un_s
  have hcl := ss_hcl P (s := c)
  obtain ⟨cm', ch', cc', vc', hS, hO, hch, hW⟩ := ss_x_apply (oL := oL) (cL := cL) (wL := wL) (bL := bL) (n := n + 1) (lg := lg) (kd := ss_un kd n k0) (au := ss_un au n c) (pl := ss_un pl n p0) (bs := ss_un bs n (rc c)) (tg := ss_un tg n t0) (cd := cd') (sp := ss_un sp n (ss_pos (ss_ho n lg au lo rc c) t0 rl')) (pp := ss_un pp n (ss_pos (ss_ho n lg au lo rc c) t0 rl')) (ow := ss_un ow (c * 64 + oc c) n) (oc := ss_un oc c (oc c + 1)) (ol := ol) (oa := oa) (lo := lo) (la := la) (lc := lc) (rc := rc) (br := br) (cm := cm) (ch := ch) (cc := cc) (vc := vc) (rl := rl')
    (s := c) (x := n) (m := n + 1) (H := ss_ho n lg au lo rc c) (H' := ss_ho (n + 1) lg (ss_un au n c) lo rc c) (by omega) hn (by omega) (ss_P_nd P') (by omega) (ss_P_tg P' (by omega))
    (by
      rw [hkd', htg']
      rcases hk with ⟨q1, q2⟩ | ⟨q1, q2⟩
      · exact Or.inl ⟨q1, q2, h0⟩
      · refine Or.inr ⟨q1, q2, fun q => ?_⟩
        have := ((ss_P_rl P' n).mp q).2
        rw [hkd'] at this; omega)
    (fun y hy => ss_acc_hoc hc (hle y hy)) (fun y hy => ss_acc_hoc hc (by omega))
    (fun r hr kr hh => by
      rcases Nat.lt_or_ge r n with y | y
      · rw [ss_un_lt r y] at kr ⊢
        exact hcl r y kr hh
      · have : r = n := by omega
        subst this
        rw [h0] at hh; cases hh)
    (ss_S_congr (ss_I_K I c (by omega)) (EXT2 _ h0) (fun z _ => ss_hd_acc h0 z)) (ss_I_h I)
  rw [htg'] at hW
  refine ⟨cm', ch', cc', vc', ⟨P', ⟨by omega, hB2, hB3, hB4, ss_un_b hB5 (by omega), ss_un_b hB6 (by omega), ss_un_b hB7 ht0, ss_un_b hB8 (by have := hB3 c; omega)⟩, R', ?_, ss_acc_XC P (ss_I_C I) hc, ?_, ?_, ss_acc_XL P EXT (ss_I_L I), ss_acc_XB P EXT hle (ss_I_G I), ?_, hch, hcd, h1, hN2, h2, hN4, hN5, hN6⟩, fun post hp => ?_⟩
  · rw [hoc]; exact ss_acc_XO (ss_I_O I) hn
  · rw [hG']; exact ss_acc_XS P EXT hle (ss_I_S I)
  · rw [hG']; exact ss_acc_XP P EXT hle (ss_I_Q I)
  · intro s hs
    by_cases e : s = c
    · subst e; exact hS
    · refine hO s e _ _ ?_ (ss_acc_XK P EXT2 hle (ss_I_K I) hs e)
      have := List.length_filter_le (ss_ho (n + 1) lg (ss_un au n c) lo rc s) rl'
      omega
  · exact ss_x_accept0 hn hc hoc64 hW hp
theorem ss_ins_core (I : (ss_INV oL cL wL bL n lg kd au bs tg sp pp ow oc ol oa lo lc rc br cm ch cc vc ro cd yc rl)) {c p L0 : Nat} {x3 : Int32} (hc : c < 3) (hn : n < oL) (hl : rl.length < cL) (hL0 : L0 ≤ rl.length)
    (hL1 : L0 = 0 ∨ ∃ t, t ∈ rl ∧ ss_ho n lg au lo rc c t = true ∧ ss_ix t rl + 1 = L0) :
    ∃ (u' : SX) (v' : SY), (ss_Rel u' v') ∧
      (∀ post : Int32 → SX → Prop, post (nI n) u' → wX_insert_101 post (nI c) (nI p) x3 (nI ((rl.take L0).countP (ss_ho n lg au lo rc c))) (nI oL) (nI cL) (nI wL) (nI bL) (nI n) (nI (rl.length)) (nI lg) (ss_li kd) (ss_li au) (ss_li pl) (ss_li bs) (ss_li tg) cd (ss_li sp) (ss_li pp) (ss_li ow) (ss_li oc) (ss_li ol) (ss_li oa) (ss_li lo) la (ss_li lc) (ss_li rc) (ss_li br) (ss_li cm) (ss_li ch) (ss_li cc) (ss_li vc)) ∧
      (∀ post : Int32 → SY → Prop, post (nI n) v' → wY_insert_110 post (nI c) (nI p) x3 (ss_p L0) (nI oL) (nI cL) (nI wL) (nI bL) (nI n) (nI (rl.length)) (nI lg) (ss_li kd) (ss_li au) (ss_li pl) (ss_li bs) (ss_li tg) yc (ss_li ro) (ss_li lo) la (ss_li rc)) := by
  obtain ⟨hN1, hN2, hN3, hN4, hN5, hN6⟩ := ss_I_n I
  have P := ss_I_P I
  obtain ⟨R0, L, g1, g2, g3, g4, g5, J, g6⟩ := ss_y_ins110 (oL := oL) (cL := cL) (wL := wL) (bL := bL) (pl := pl) (yc := yc) (la := la) (p0 := p) (x3 := x3) P (ss_I_B I) (ss_I_R I) hc (by omega) (by omega) hL0
  obtain ⟨rl', hlen, EXT, EXT2, hle, P', R', hpos⟩ := ss_ins_rl I hc (by omega) g1 g2 g3 g4 g5 J hL1
  obtain ⟨cm', ch', cc', vc', I', hW⟩ := ss_acc (pl := pl) (la := la) I (c := c) (k0 := 1) (t0 := n) (p0 := p) (cd' := upd cd n x3) (yc' := upd yc n x3) hc (by omega) P' EXT EXT2 hle R' (Or.inl ⟨rfl, rfl⟩) (by omega)
    (fun z hz => by
      rcases Nat.lt_or_ge z n with y | y
      · rw [ss_un_lt z y, pk_un (by omega), pk_un (ss_tg_ne P y)]
        exact ss_I_d I z y
      · have : z = n := by omega
        subst this
        rw [ss_un_s, pk_us, pk_us]) (by omega) (by omega)
  refine ⟨_, _, ⟨lg, rc, ss_mk (pl := ss_un pl n p) (la := la) I'⟩, fun post hp => ?_, fun post hp => ?_⟩
  · rw [← hpos]
    have v : vp_in (nI n) 64 := vp_in_nI (by omega) (by omega)
    refine ⟨v, nm_r (ss_li_u tg (by omega) n) ⟨v, nm_r (e' := upd cd n x3) (by rw [nI_clamp (by omega)]) (nm_r (e' := nI rl'.length) (by rw [nI_1, hlen]) ?_)⟩⟩
    exact hW _ hp
  · rw [hlen] at hp
    exact g6 post hp
theorem ss_x_window {post : Int32 → Prop} (I : (ss_INV oL cL wL bL n lg kd au bs tg sp pp ow oc ol oa lo lc rc br cm ch cc vc ro cd yc rl)) {c : Nat} (hc : c < 3) (h1 : ss_cn au c n - ss_cn (fun j => au (lo j)) c (rc c) < wL → post 0) (h2 : wL ≤ ss_cn au c n - ss_cn (fun j => au (lo j)) c (rc c) → post 1) :
    wpX_windowIsFull post ((nI oL), (nI cL), (nI wL), (nI bL), (nI n), (nI (rl.length)), (nI lg), (ss_li kd), (ss_li au), (ss_li pl), (ss_li bs), (ss_li tg), cd, (ss_li sp), (ss_li pp), (ss_li ow), (ss_li oc), (ss_li ol), (ss_li oa), (ss_li lo), la, (ss_li lc), (ss_li rc), (ss_li br), (ss_li cm), (ss_li ch), (ss_li cc), (ss_li vc)) (nI c) := by
  obtain ⟨g1, g2, g3⟩ := ss_I_C I c hc
  obtain ⟨hN1, hN2, hN3, hN4, hN5, hN6⟩ := ss_I_n I
  have h5 := ss_cn_le au c n
  have v : vp_in (nI c) 3 := vp_in_nI (by omega) (by omega)
  have e : ss_li oc (nI c).toNatClampNeg - ss_li oa (nI c).toNatClampNeg = nI (ss_cn au c n - ss_cn (fun j => au (lo j)) c (rc c)) := by
    rw [ss_li_r oc (by omega), ss_li_r oa (by omega), g1, g3, pk_sub (ss_ol_le (ss_I_P I) (ss_P_rc (ss_I_P I) c))]
  refine ⟨v, v, ?_⟩
  rw [e]
  exact pk_lt (ss_cn au c n - ss_cn (fun j => au (lo j)) c (rc c)) wL h1 h2
theorem ss_m_insert (I : (ss_INV oL cL wL bL n lg kd au bs tg sp pp ow oc ol oa lo lc rc br cm ch cc vc ro cd yc rl)) (v1 v2 v3 : Int32) : ∃ (r : Int32) (u' : SX) (v' : SY), (ss_Rel u' v') ∧
    (∀ post : Int32 → SX → Prop, post r u' → wpX_insert post ((nI oL), (nI cL), (nI wL), (nI bL), (nI n), (nI (rl.length)), (nI lg), (ss_li kd), (ss_li au), (ss_li pl), (ss_li bs), (ss_li tg), cd, (ss_li sp), (ss_li pp), (ss_li ow), (ss_li oc), (ss_li ol), (ss_li oa), (ss_li lo), la, (ss_li lc), (ss_li rc), (ss_li br), (ss_li cm), (ss_li ch), (ss_li cc), (ss_li vc)) v1 v2 v3) ∧ (∀ post : Int32 → SY → Prop, post r v' → wpY_insert post ((nI oL), (nI cL), (nI wL), (nI bL), (nI n), (nI (rl.length)), (nI lg), (ss_li kd), (ss_li au), (ss_li pl), (ss_li bs), (ss_li tg), yc, (ss_li ro), (ss_li lo), la, (ss_li rc)) v1 v2 v3) := by
  obtain ⟨hN1, hN2, hN3, hN4, hN5, hN6⟩ := ss_I_n I
  have P := ss_I_P I
  have B := ss_I_B I
  have R := ss_I_R I
  have hb : ∀ y, y ∈ rl → y < n := fun y hy => ss_I_lt I hy
  have same : ss_Rel ((nI oL), (nI cL), (nI wL), (nI bL), (nI n), (nI (rl.length)), (nI lg), (ss_li kd), (ss_li au), (ss_li pl), (ss_li bs), (ss_li tg), cd, (ss_li sp), (ss_li pp), (ss_li ow), (ss_li oc), (ss_li ol), (ss_li oa), (ss_li lo), la, (ss_li lc), (ss_li rc), (ss_li br), (ss_li cm), (ss_li ch), (ss_li cc), (ss_li vc)) ((nI oL), (nI cL), (nI wL), (nI bL), (nI n), (nI (rl.length)), (nI lg), (ss_li kd), (ss_li au), (ss_li pl), (ss_li bs), (ss_li tg), yc, (ss_li ro), (ss_li lo), la, (ss_li rc)) := ⟨lg, rc, ss_mk I⟩
  rcases pk_ix v1 (n := 3) (by omega) with h | h | ⟨c, hc, rfl⟩
  · refine ⟨-2, ((nI oL), (nI cL), (nI wL), (nI bL), (nI n), (nI (rl.length)), (nI lg), (ss_li kd), (ss_li au), (ss_li pl), (ss_li bs), (ss_li tg), cd, (ss_li sp), (ss_li pp), (ss_li ow), (ss_li oc), (ss_li ol), (ss_li oa), (ss_li lo), la, (ss_li lc), (ss_li rc), (ss_li br), (ss_li cm), (ss_li ch), (ss_li cc), (ss_li vc)), ((nI oL), (nI cL), (nI wL), (nI bL), (nI n), (nI (rl.length)), (nI lg), (ss_li kd), (ss_li au), (ss_li pl), (ss_li bs), (ss_li tg), yc, (ss_li ro), (ss_li lo), la, (ss_li rc)), same, fun post hp => ?_, fun post hp => ?_⟩
    · unfold wpX_insert; dsimp only; exact ss_x_isClient0 (Or.inl h) (br_t rfl hp)
    · unfold wpY_insert; dsimp only; exact ss_y_isClient0 (Or.inl h) (br_t rfl hp)
  · refine ⟨-2, ((nI oL), (nI cL), (nI wL), (nI bL), (nI n), (nI (rl.length)), (nI lg), (ss_li kd), (ss_li au), (ss_li pl), (ss_li bs), (ss_li tg), cd, (ss_li sp), (ss_li pp), (ss_li ow), (ss_li oc), (ss_li ol), (ss_li oa), (ss_li lo), la, (ss_li lc), (ss_li rc), (ss_li br), (ss_li cm), (ss_li ch), (ss_li cc), (ss_li vc)), ((nI oL), (nI cL), (nI wL), (nI bL), (nI n), (nI (rl.length)), (nI lg), (ss_li kd), (ss_li au), (ss_li pl), (ss_li bs), (ss_li tg), yc, (ss_li ro), (ss_li lo), la, (ss_li rc)), same, fun post hp => ?_, fun post hp => ?_⟩
    · unfold wpX_insert; dsimp only; exact ss_x_isClient0 (Or.inr h) (br_t rfl hp)
    · unfold wpY_insert; dsimp only; exact ss_y_isClient0 (Or.inr h) (br_t rfl hp)
  have hcl := List.countP_le_length (p := ss_tx n kd tg (ss_ho n lg au lo rc c)) (l := rl)
  have hvc : ss_li vc (nI c).toNatClampNeg = nI (rl.countP (ss_tx n kd tg (ss_ho n lg au lo rc c))) := by
    rw [ss_li_r vc (by omega), (ss_I_K I c (by omega)).2.1, ss_vis_cnt]
  have v : vp_in (nI c) 4 := vp_in_nI (by omega) (by omega)
  have hcn := ss_cn_le au c n
  by_cases h0 : v2 < 0
  · refine ⟨-3, ((nI oL), (nI cL), (nI wL), (nI bL), (nI n), (nI (rl.length)), (nI lg), (ss_li kd), (ss_li au), (ss_li pl), (ss_li bs), (ss_li tg), cd, (ss_li sp), (ss_li pp), (ss_li ow), (ss_li oc), (ss_li ol), (ss_li oa), (ss_li lo), la, (ss_li lc), (ss_li rc), (ss_li br), (ss_li cm), (ss_li ch), (ss_li cc), (ss_li vc)), ((nI oL), (nI cL), (nI wL), (nI bL), (nI n), (nI (rl.length)), (nI lg), (ss_li kd), (ss_li au), (ss_li pl), (ss_li bs), (ss_li tg), yc, (ss_li ro), (ss_li lo), la, (ss_li rc)), same, fun post hp => ?_, fun post hp => ?_⟩
    · unfold wpX_insert; dsimp only; exact ss_x_isClient hc (br_f (by decide) (br_t h0 hp))
    · unfold wpY_insert; dsimp only; exact ss_y_isClient hc (br_f (by decide) (br_t h0 hp))
  obtain ⟨p, hp31, rfl⟩ := nI_of h0
  rcases Nat.lt_or_ge (rl.countP (ss_tx n kd tg (ss_ho n lg au lo rc c))) p with hbig | hpl
  · have c1 : ¬ nI p ≤ nI (rl.countP (ss_tx n kd tg (ss_ho n lg au lo rc c))) := nI_ge hbig hp31
    refine ⟨-3, ((nI oL), (nI cL), (nI wL), (nI bL), (nI n), (nI (rl.length)), (nI lg), (ss_li kd), (ss_li au), (ss_li pl), (ss_li bs), (ss_li tg), cd, (ss_li sp), (ss_li pp), (ss_li ow), (ss_li oc), (ss_li ol), (ss_li oa), (ss_li lo), la, (ss_li lc), (ss_li rc), (ss_li br), (ss_li cm), (ss_li ch), (ss_li cc), (ss_li vc)), ((nI oL), (nI cL), (nI wL), (nI bL), (nI n), (nI (rl.length)), (nI lg), (ss_li kd), (ss_li au), (ss_li pl), (ss_li bs), (ss_li tg), yc, (ss_li ro), (ss_li lo), la, (ss_li rc)), same, fun post hp => ?_, fun post hp => ?_⟩
    · unfold wpX_insert; dsimp only; exact ss_x_isClient hc (br_f (by decide) (br_f h0 ⟨v, br_f (by rw [hvc]; exact c1) hp⟩))
    · unfold wpY_insert; dsimp only
      exact ss_y_isClient hc (br_f (by decide) (br_f h0 (ss_y_length B R (by omega) hb (br_f c1 hp))))
  have c1 : nI p ≤ nI (rl.countP (ss_tx n kd tg (ss_ho n lg au lo rc c))) := nI_le hpl (by omega)
  by_cases h32 : v3 < 32
  · refine ⟨-4, ((nI oL), (nI cL), (nI wL), (nI bL), (nI n), (nI (rl.length)), (nI lg), (ss_li kd), (ss_li au), (ss_li pl), (ss_li bs), (ss_li tg), cd, (ss_li sp), (ss_li pp), (ss_li ow), (ss_li oc), (ss_li ol), (ss_li oa), (ss_li lo), la, (ss_li lc), (ss_li rc), (ss_li br), (ss_li cm), (ss_li ch), (ss_li cc), (ss_li vc)), ((nI oL), (nI cL), (nI wL), (nI bL), (nI n), (nI (rl.length)), (nI lg), (ss_li kd), (ss_li au), (ss_li pl), (ss_li bs), (ss_li tg), yc, (ss_li ro), (ss_li lo), la, (ss_li rc)), same, fun post hp => ?_, fun post hp => ?_⟩
    · unfold wpX_insert; dsimp only; exact ss_x_isClient hc (br_f (by decide) (br_f h0 ⟨v, br_t (by rw [hvc]; exact c1) (br_t h32 hp)⟩))
    · unfold wpY_insert; dsimp only
      exact ss_y_isClient hc (br_f (by decide) (br_f h0 (ss_y_length B R (by omega) hb (br_t c1 (br_t h32 hp)))))
  by_cases h126 : v3 ≤ 126
  case neg =>
    refine ⟨-4, ((nI oL), (nI cL), (nI wL), (nI bL), (nI n), (nI (rl.length)), (nI lg), (ss_li kd), (ss_li au), (ss_li pl), (ss_li bs), (ss_li tg), cd, (ss_li sp), (ss_li pp), (ss_li ow), (ss_li oc), (ss_li ol), (ss_li oa), (ss_li lo), la, (ss_li lc), (ss_li rc), (ss_li br), (ss_li cm), (ss_li ch), (ss_li cc), (ss_li vc)), ((nI oL), (nI cL), (nI wL), (nI bL), (nI n), (nI (rl.length)), (nI lg), (ss_li kd), (ss_li au), (ss_li pl), (ss_li bs), (ss_li tg), yc, (ss_li ro), (ss_li lo), la, (ss_li rc)), same, fun post hp => ?_, fun post hp => ?_⟩
    · unfold wpX_insert; dsimp only; exact ss_x_isClient hc (br_f (by decide) (br_f h0 ⟨v, br_t (by rw [hvc]; exact c1) (br_f h32 (br_f h126 hp))⟩))
    · unfold wpY_insert; dsimp only
      exact ss_y_isClient hc (br_f (by decide) (br_f h0 (ss_y_length B R (by omega) hb (br_t c1 (br_f h32 (br_f h126 hp))))))
  rcases Nat.lt_or_ge (ss_cn au c n - ss_cn (fun j => au (lo j)) c (rc c)) wL with hw | hw
  case inr =>
    refine ⟨-5, ((nI oL), (nI cL), (nI wL), (nI bL), (nI n), (nI (rl.length)), (nI lg), (ss_li kd), (ss_li au), (ss_li pl), (ss_li bs), (ss_li tg), cd, (ss_li sp), (ss_li pp), (ss_li ow), (ss_li oc), (ss_li ol), (ss_li oa), (ss_li lo), la, (ss_li lc), (ss_li rc), (ss_li br), (ss_li cm), (ss_li ch), (ss_li cc), (ss_li vc)), ((nI oL), (nI cL), (nI wL), (nI bL), (nI n), (nI (rl.length)), (nI lg), (ss_li kd), (ss_li au), (ss_li pl), (ss_li bs), (ss_li tg), yc, (ss_li ro), (ss_li lo), la, (ss_li rc)), same, fun post hp => ?_, fun post hp => ?_⟩
    · unfold wpX_insert; dsimp only
      exact ss_x_isClient hc (br_f (by decide) (br_f h0 ⟨v, br_t (by rw [hvc]; exact c1) (br_f h32 (br_t h126 (ss_x_window I hc (fun q => absurd q (by omega)) (fun _ => br_f (by decide) hp))))⟩))
    · unfold wpY_insert; dsimp only
      exact ss_y_isClient hc (br_f (by decide) (br_f h0 (ss_y_length B R (by omega) hb (br_t c1 (br_f h32 (br_t h126 (ss_y_unack P B hc (br_f (nI_nlt hw (by omega)) hp))))))))
  have cw : nI (ss_cn au c n - ss_cn (fun j => au (lo j)) c (rc c)) < nI wL := nI_lt hw (by omega)
  rcases Nat.lt_or_ge n oL with ho | ho
  case inr =>
    have co : ¬ nI n < nI oL := nI_nlt ho (by omega)
    refine ⟨-6, ((nI oL), (nI cL), (nI wL), (nI bL), (nI n), (nI (rl.length)), (nI lg), (ss_li kd), (ss_li au), (ss_li pl), (ss_li bs), (ss_li tg), cd, (ss_li sp), (ss_li pp), (ss_li ow), (ss_li oc), (ss_li ol), (ss_li oa), (ss_li lo), la, (ss_li lc), (ss_li rc), (ss_li br), (ss_li cm), (ss_li ch), (ss_li cc), (ss_li vc)), ((nI oL), (nI cL), (nI wL), (nI bL), (nI n), (nI (rl.length)), (nI lg), (ss_li kd), (ss_li au), (ss_li pl), (ss_li bs), (ss_li tg), yc, (ss_li ro), (ss_li lo), la, (ss_li rc)), same, fun post hp => ?_, fun post hp => ?_⟩
    · unfold wpX_insert; dsimp only
      exact ss_x_isClient hc (br_f (by decide) (br_f h0 ⟨v, br_t (by rw [hvc]; exact c1) (br_f h32 (br_t h126 (ss_x_window I hc (fun _ => br_t rfl (br_f co hp)) (fun q => absurd q (by omega)))))⟩))
    · unfold wpY_insert; dsimp only
      exact ss_y_isClient hc (br_f (by decide) (br_f h0 (ss_y_length B R (by omega) hb (br_t c1 (br_f h32 (br_t h126 (ss_y_unack P B hc (br_t cw (br_f co hp)))))))))
  have co : nI n < nI oL := nI_lt ho (by omega)
  rcases Nat.lt_or_ge rl.length cL with hl | hl
  case inr =>
    have cl : ¬ nI rl.length < nI cL := nI_nlt hl (by omega)
    refine ⟨-7, ((nI oL), (nI cL), (nI wL), (nI bL), (nI n), (nI (rl.length)), (nI lg), (ss_li kd), (ss_li au), (ss_li pl), (ss_li bs), (ss_li tg), cd, (ss_li sp), (ss_li pp), (ss_li ow), (ss_li oc), (ss_li ol), (ss_li oa), (ss_li lo), la, (ss_li lc), (ss_li rc), (ss_li br), (ss_li cm), (ss_li ch), (ss_li cc), (ss_li vc)), ((nI oL), (nI cL), (nI wL), (nI bL), (nI n), (nI (rl.length)), (nI lg), (ss_li kd), (ss_li au), (ss_li pl), (ss_li bs), (ss_li tg), yc, (ss_li ro), (ss_li lo), la, (ss_li rc)), same, fun post hp => ?_, fun post hp => ?_⟩
    · unfold wpX_insert; dsimp only
      exact ss_x_isClient hc (br_f (by decide) (br_f h0 ⟨v, br_t (by rw [hvc]; exact c1) (br_f h32 (br_t h126 (ss_x_window I hc (fun _ => br_t rfl (br_t co (br_f cl hp))) (fun q => absurd q (by omega)))))⟩))
    · unfold wpY_insert; dsimp only
      exact ss_y_isClient hc (br_f (by decide) (br_f h0 (ss_y_length B R (by omega) hb (br_t c1 (br_f h32 (br_t h126 (ss_y_unack P B hc (br_t cw (br_t co (br_f cl hp))))))))))
  have cl : nI rl.length < nI cL := nI_lt hl (by omega)
  cases p with
  | zero =>
    obtain ⟨u', v', hR, hX, hY⟩ := ss_ins_core (pl := pl) (la := la) I (c := c) (p := 0) (L0 := 0) (x3 := v3) hc ho hl (Nat.zero_le _) (Or.inl rfl)
    refine ⟨nI n, u', v', hR, fun post hp => ?_, fun post hp => ?_⟩
    · unfold wpX_insert; dsimp only
      exact ss_x_isClient hc (br_f (by decide) (br_f h0 ⟨v, br_t (by rw [hvc]; exact c1) (br_f h32 (br_t h126 (ss_x_window I hc (fun _ => br_t rfl (br_t co (br_t cl (br_t (by decide) (hX post hp))))) (fun q => absurd q (by omega)))))⟩))
    · unfold wpY_insert; dsimp only
      exact ss_y_isClient hc (br_f (by decide) (br_f h0 (ss_y_length B R (by omega) hb (br_t c1 (br_f h32 (br_t h126 (ss_y_unack P B hc (br_t cw (br_t co (br_t cl (br_t (by decide) (hY post hp))))))))))))
  | succ p =>
    obtain ⟨k, hk, hr, t1, t2, hi, t3, t4⟩ := ss_kth_t I (s := c) (x := p) (by omega)
    have cp : ¬ nI (p + 1) ≤ 0 := nI_nle (by omega) (by omega)
    have ep : nI (p + 1) - 1 = nI p := nI_pred p
    obtain ⟨u', v', hR, hX, hY⟩ := ss_ins_core (pl := pl) (la := la) I (c := c) (p := p + 1) (L0 := k + 1) (x3 := v3) hc ho hl hk (Or.inr ⟨ro k, hr, t4, by rw [hi]⟩)
    rw [ss_tk_t R hk t4] at hX
    have hcell : ss_pos (ss_ho n lg au lo rc c) (ro k) rl = (rl.take k).countP (ss_ho n lg au lo rc c) := by rw [ss_pos_tk hr, hi]
    have fX : ∀ {post : Int32 → Prop}, post (nI (ss_pos (ss_ho n lg au lo rc c) (ro k) rl)) → wpX_findVisible post ((nI oL), (nI cL), (nI wL), (nI bL), (nI n), (nI (rl.length)), (nI lg), (ss_li kd), (ss_li au), (ss_li pl), (ss_li bs), (ss_li tg), cd, (ss_li sp), (ss_li pp), (ss_li ow), (ss_li oc), (ss_li ol), (ss_li oa), (ss_li lo), la, (ss_li lc), (ss_li rc), (ss_li br), (ss_li cm), (ss_li ch), (ss_li cc), (ss_li vc)) (nI c) (nI p) := fun hh => by
      have := ss_m_find (pl := pl) (la := la) I (by omega) hr t1 hh
      rw [t3] at this; exact this
    have fY : ∀ {post : Int32 → Prop}, post (nI (ro k)) → wpY_numberAt post ((nI oL), (nI cL), (nI wL), (nI bL), (nI n), (nI (rl.length)), (nI lg), (ss_li kd), (ss_li au), (ss_li pl), (ss_li bs), (ss_li tg), yc, (ss_li ro), (ss_li lo), la, (ss_li rc)) (nI c) (nI p) := fun hh => by
      have := ss_y_numberAt (oL := oL) (cL := cL) (wL := wL) (bL := bL) (pl := pl) (yc := yc) (la := la) B R (by omega) hb hk t1 hh
      rw [t2] at this; exact this
    refine ⟨nI n, u', v', hR, fun post hp => ?_, fun post hp => ?_⟩
    · unfold wpX_insert; dsimp only
      refine ss_x_isClient hc (br_f (by decide) (br_f h0 ⟨v, br_t (by rw [hvc]; exact c1) (br_f h32 (br_t h126 (ss_x_window I hc (fun _ => br_t rfl (br_t co (br_t cl (br_f cp ?_)))) (fun q => absurd q (by omega)))))⟩))
      rw [ep]
      refine fX (nm_r ?_ (hX post hp))
      rw [hcell, nI_1]
    · unfold wpY_insert; dsimp only
      refine ss_y_isClient hc (br_f (by decide) (br_f h0 (ss_y_length B R (by omega) hb (br_t c1 (br_f h32 (br_t h126 (ss_y_unack P B hc (br_t cw (br_t co (br_t cl (br_f cp ?_)))))))))))
      rw [ep]
      refine fY (ss_y_rollIndex R (ss_P_nd P) (fun y hy => by have := hb y hy; omega) hr ?_)
      rw [hi, ← ss_p_s k]
      exact hY post hp
end
end
section
/-! remove -/
section
variable {oL cL wL bL n lg : Nat} {kd au bs tg sp pp ow oc ol oa lo lc rc br cm ch cc vc ro pl : Nat → Nat} {cd yc la : Nat → Int32} {rl : List Nat}
theorem ss_rem_P (I : (ss_INV oL cL wL bL n lg kd au bs tg sp pp ow oc ol oa lo lc rc br cm ch cc vc ro cd yc rl)) {c t : Nat} (hc : c < 3) (ht : t ∈ rl) (hh : ss_ho n lg au lo rc c t = true) :
    ss_P (n + 1) lg (ss_un kd n 2) (ss_un au n c) (ss_un bs n (rc c)) (ss_un tg n t) lo rc rl := by
  have P := ss_I_P I
  have hG : ss_ho n lg au lo rc c t = ss_G au lo c (rc c) (ss_cn au c n) t := if_neg (by omega)
  obtain ⟨h1, h2⟩ := (ss_P_rl P t).mp ht
  refine ss_P_acc P (fun z => ?_) (ss_P_nd P) (Or.inr ⟨rfl, h1, h2, by rw [← hG]; exact hh⟩) (fun _ _ _ _ => Iff.rfl) (fun q => absurd q (by decide))
  rw [ss_P_rl P z]
  constructor
  · rintro ⟨q1, q2⟩
    exact ⟨by omega, by rw [ss_un_lt z q1]; exact q2⟩
  · rintro ⟨q1, q2⟩
    rcases Nat.lt_or_ge z n with y | y
    · rw [ss_un_lt z y] at q2
      exact ⟨y, q2⟩
    · have : z = n := by omega
      subst this
      rw [ss_un_s] at q2
      exact absurd q2 (by decide)
theorem ss_m_remove (I : (ss_INV oL cL wL bL n lg kd au bs tg sp pp ow oc ol oa lo lc rc br cm ch cc vc ro cd yc rl)) (v1 v2 : Int32) : ∃ (r : Int32) (u' : SX) (v' : SY), ss_Rel u' v' ∧
    (∀ post : Int32 → SX → Prop, post r u' → wpX_remove post ((nI oL), (nI cL), (nI wL), (nI bL), (nI n), (nI (rl.length)), (nI lg), (ss_li kd), (ss_li au), (ss_li pl), (ss_li bs), (ss_li tg), cd, (ss_li sp), (ss_li pp), (ss_li ow), (ss_li oc), (ss_li ol), (ss_li oa), (ss_li lo), la, (ss_li lc), (ss_li rc), (ss_li br), (ss_li cm), (ss_li ch), (ss_li cc), (ss_li vc)) v1 v2) ∧ (∀ post : Int32 → SY → Prop, post r v' → wpY_remove post ((nI oL), (nI cL), (nI wL), (nI bL), (nI n), (nI (rl.length)), (nI lg), (ss_li kd), (ss_li au), (ss_li pl), (ss_li bs), (ss_li tg), yc, (ss_li ro), (ss_li lo), la, (ss_li rc)) v1 v2) := by
  obtain ⟨hN1, hN2, hN3, hN4, hN5, hN6⟩ := ss_I_n I
  have P := ss_I_P I
  have B := ss_I_B I
  have R := ss_I_R I
  have hb : ∀ y, y ∈ rl → y < n := fun y hy => ss_I_lt I hy
  have same : ss_Rel ((nI oL), (nI cL), (nI wL), (nI bL), (nI n), (nI (rl.length)), (nI lg), (ss_li kd), (ss_li au), (ss_li pl), (ss_li bs), (ss_li tg), cd, (ss_li sp), (ss_li pp), (ss_li ow), (ss_li oc), (ss_li ol), (ss_li oa), (ss_li lo), la, (ss_li lc), (ss_li rc), (ss_li br), (ss_li cm), (ss_li ch), (ss_li cc), (ss_li vc)) ((nI oL), (nI cL), (nI wL), (nI bL), (nI n), (nI (rl.length)), (nI lg), (ss_li kd), (ss_li au), (ss_li pl), (ss_li bs), (ss_li tg), yc, (ss_li ro), (ss_li lo), la, (ss_li rc)) := ⟨lg, rc, ss_mk I⟩
  rcases pk_ix v1 (n := 3) (by omega) with h | h | ⟨c, hc, rfl⟩
  · refine ⟨-2, ((nI oL), (nI cL), (nI wL), (nI bL), (nI n), (nI (rl.length)), (nI lg), (ss_li kd), (ss_li au), (ss_li pl), (ss_li bs), (ss_li tg), cd, (ss_li sp), (ss_li pp), (ss_li ow), (ss_li oc), (ss_li ol), (ss_li oa), (ss_li lo), la, (ss_li lc), (ss_li rc), (ss_li br), (ss_li cm), (ss_li ch), (ss_li cc), (ss_li vc)), ((nI oL), (nI cL), (nI wL), (nI bL), (nI n), (nI (rl.length)), (nI lg), (ss_li kd), (ss_li au), (ss_li pl), (ss_li bs), (ss_li tg), yc, (ss_li ro), (ss_li lo), la, (ss_li rc)), same, fun post hp => ?_, fun post hp => ?_⟩
    · unfold wpX_remove; dsimp only; exact ss_x_isClient0 (Or.inl h) (br_t rfl hp)
    · unfold wpY_remove; dsimp only; exact ss_y_isClient0 (Or.inl h) (br_t rfl hp)
  · refine ⟨-2, ((nI oL), (nI cL), (nI wL), (nI bL), (nI n), (nI (rl.length)), (nI lg), (ss_li kd), (ss_li au), (ss_li pl), (ss_li bs), (ss_li tg), cd, (ss_li sp), (ss_li pp), (ss_li ow), (ss_li oc), (ss_li ol), (ss_li oa), (ss_li lo), la, (ss_li lc), (ss_li rc), (ss_li br), (ss_li cm), (ss_li ch), (ss_li cc), (ss_li vc)), ((nI oL), (nI cL), (nI wL), (nI bL), (nI n), (nI (rl.length)), (nI lg), (ss_li kd), (ss_li au), (ss_li pl), (ss_li bs), (ss_li tg), yc, (ss_li ro), (ss_li lo), la, (ss_li rc)), same, fun post hp => ?_, fun post hp => ?_⟩
    · unfold wpX_remove; dsimp only; exact ss_x_isClient0 (Or.inr h) (br_t rfl hp)
    · unfold wpY_remove; dsimp only; exact ss_y_isClient0 (Or.inr h) (br_t rfl hp)
  have hcl := List.countP_le_length (p := ss_tx n kd tg (ss_ho n lg au lo rc c)) (l := rl)
  have hvc : ss_li vc (nI c).toNatClampNeg = nI (rl.countP (ss_tx n kd tg (ss_ho n lg au lo rc c))) := by
    rw [ss_li_r vc (by omega), (ss_I_K I c (by omega)).2.1, ss_vis_cnt]
  have v : vp_in (nI c) 4 := vp_in_nI (by omega) (by omega)
  have hcn := ss_cn_le au c n
  by_cases h0 : v2 < 0
  · refine ⟨-3, ((nI oL), (nI cL), (nI wL), (nI bL), (nI n), (nI (rl.length)), (nI lg), (ss_li kd), (ss_li au), (ss_li pl), (ss_li bs), (ss_li tg), cd, (ss_li sp), (ss_li pp), (ss_li ow), (ss_li oc), (ss_li ol), (ss_li oa), (ss_li lo), la, (ss_li lc), (ss_li rc), (ss_li br), (ss_li cm), (ss_li ch), (ss_li cc), (ss_li vc)), ((nI oL), (nI cL), (nI wL), (nI bL), (nI n), (nI (rl.length)), (nI lg), (ss_li kd), (ss_li au), (ss_li pl), (ss_li bs), (ss_li tg), yc, (ss_li ro), (ss_li lo), la, (ss_li rc)), same, fun post hp => ?_, fun post hp => ?_⟩
    · unfold wpX_remove; dsimp only; exact ss_x_isClient hc (br_f (by decide) (br_t h0 hp))
    · unfold wpY_remove; dsimp only; exact ss_y_isClient hc (br_f (by decide) (br_t h0 hp))
  obtain ⟨p, hp31, rfl⟩ := nI_of h0
  rcases Nat.lt_or_ge p (rl.countP (ss_tx n kd tg (ss_ho n lg au lo rc c))) with hpl | hbig
  case inr =>
    have c1 : ¬ nI p < nI (rl.countP (ss_tx n kd tg (ss_ho n lg au lo rc c))) := nI_nlt hbig hp31
    refine ⟨-3, ((nI oL), (nI cL), (nI wL), (nI bL), (nI n), (nI (rl.length)), (nI lg), (ss_li kd), (ss_li au), (ss_li pl), (ss_li bs), (ss_li tg), cd, (ss_li sp), (ss_li pp), (ss_li ow), (ss_li oc), (ss_li ol), (ss_li oa), (ss_li lo), la, (ss_li lc), (ss_li rc), (ss_li br), (ss_li cm), (ss_li ch), (ss_li cc), (ss_li vc)), ((nI oL), (nI cL), (nI wL), (nI bL), (nI n), (nI (rl.length)), (nI lg), (ss_li kd), (ss_li au), (ss_li pl), (ss_li bs), (ss_li tg), yc, (ss_li ro), (ss_li lo), la, (ss_li rc)), same, fun post hp => ?_, fun post hp => ?_⟩
    · unfold wpX_remove; dsimp only; exact ss_x_isClient hc (br_f (by decide) (br_f h0 ⟨v, br_f (by rw [hvc]; exact c1) hp⟩))
    · unfold wpY_remove; dsimp only
      exact ss_y_isClient hc (br_f (by decide) (br_f h0 (ss_y_length B R (by omega) hb (br_f c1 hp))))
  have c1 : nI p < nI (rl.countP (ss_tx n kd tg (ss_ho n lg au lo rc c))) := nI_lt hpl (by omega)
  rcases Nat.lt_or_ge (ss_cn au c n - ss_cn (fun j => au (lo j)) c (rc c)) wL with hw | hw
  case inr =>
    refine ⟨-5, ((nI oL), (nI cL), (nI wL), (nI bL), (nI n), (nI (rl.length)), (nI lg), (ss_li kd), (ss_li au), (ss_li pl), (ss_li bs), (ss_li tg), cd, (ss_li sp), (ss_li pp), (ss_li ow), (ss_li oc), (ss_li ol), (ss_li oa), (ss_li lo), la, (ss_li lc), (ss_li rc), (ss_li br), (ss_li cm), (ss_li ch), (ss_li cc), (ss_li vc)), ((nI oL), (nI cL), (nI wL), (nI bL), (nI n), (nI (rl.length)), (nI lg), (ss_li kd), (ss_li au), (ss_li pl), (ss_li bs), (ss_li tg), yc, (ss_li ro), (ss_li lo), la, (ss_li rc)), same, fun post hp => ?_, fun post hp => ?_⟩
    · unfold wpX_remove; dsimp only
      exact ss_x_isClient hc (br_f (by decide) (br_f h0 ⟨v, br_t (by rw [hvc]; exact c1) (ss_x_window I hc (fun q => absurd q (by omega)) (fun _ => br_f (by decide) hp))⟩))
    · unfold wpY_remove; dsimp only
      exact ss_y_isClient hc (br_f (by decide) (br_f h0 (ss_y_length B R (by omega) hb (br_t c1 (ss_y_unack P B hc (br_f (nI_nlt hw (by omega)) hp))))))
  have cw : nI (ss_cn au c n - ss_cn (fun j => au (lo j)) c (rc c)) < nI wL := nI_lt hw (by omega)
  rcases Nat.lt_or_ge n oL with ho | ho
  case inr =>
    have co : ¬ nI n < nI oL := nI_nlt ho (by omega)
    refine ⟨-6, ((nI oL), (nI cL), (nI wL), (nI bL), (nI n), (nI (rl.length)), (nI lg), (ss_li kd), (ss_li au), (ss_li pl), (ss_li bs), (ss_li tg), cd, (ss_li sp), (ss_li pp), (ss_li ow), (ss_li oc), (ss_li ol), (ss_li oa), (ss_li lo), la, (ss_li lc), (ss_li rc), (ss_li br), (ss_li cm), (ss_li ch), (ss_li cc), (ss_li vc)), ((nI oL), (nI cL), (nI wL), (nI bL), (nI n), (nI (rl.length)), (nI lg), (ss_li kd), (ss_li au), (ss_li pl), (ss_li bs), (ss_li tg), yc, (ss_li ro), (ss_li lo), la, (ss_li rc)), same, fun post hp => ?_, fun post hp => ?_⟩
    · unfold wpX_remove; dsimp only
      exact ss_x_isClient hc (br_f (by decide) (br_f h0 ⟨v, br_t (by rw [hvc]; exact c1) (ss_x_window I hc (fun _ => br_t rfl (br_f co hp)) (fun q => absurd q (by omega)))⟩))
    · unfold wpY_remove; dsimp only
      exact ss_y_isClient hc (br_f (by decide) (br_f h0 (ss_y_length B R (by omega) hb (br_t c1 (ss_y_unack P B hc (br_t cw (br_f co hp)))))))
  have co : nI n < nI oL := nI_lt ho (by omega)
  obtain ⟨k, hk, hr, t1, t2, hi, t3, t4⟩ := ss_kth_t I (s := c) (x := p) hpl
  have htn := hb _ hr
  have P' := ss_rem_P I hc hr t4
  obtain ⟨cm', ch', cc', vc', I', hW⟩ := ss_acc (pl := pl) (la := la) I (c := c) (k0 := 2) (t0 := ro k) (p0 := p) (rl' := rl) (ro' := ro) (cd' := upd cd n (cd (ro k))) (yc' := yc) hc (by omega) P' (fun _ _ _ _ => rfl) (fun _ _ => rfl) (fun y hy => by have := hb y hy; omega) R (Or.inr ⟨rfl, t4⟩) (by omega)
    (fun z hz => by
      rcases Nat.lt_or_ge z n with y | y
      · rw [ss_un_lt z y, pk_un (by omega)]
        exact ss_I_d I z y
      · have : z = n := by omega
        subst this
        rw [ss_un_s, pk_us, ss_I_d I _ htn]
        rcases ss_P_kd P _ htn with ⟨_, e⟩ | ⟨e, _⟩
        · rw [e]
        · have := ((ss_P_rl P _).mp hr).2
          omega) (by omega) hN3
  have fX : ∀ {post : Int32 → Prop}, post (nI (ss_pos (ss_ho n lg au lo rc c) (ro k) rl)) → wpX_findVisible post ((nI oL), (nI cL), (nI wL), (nI bL), (nI n), (nI (rl.length)), (nI lg), (ss_li kd), (ss_li au), (ss_li pl), (ss_li bs), (ss_li tg), cd, (ss_li sp), (ss_li pp), (ss_li ow), (ss_li oc), (ss_li ol), (ss_li oa), (ss_li lo), la, (ss_li lc), (ss_li rc), (ss_li br), (ss_li cm), (ss_li ch), (ss_li cc), (ss_li vc)) (nI c) (nI p) := fun hh => by
    have := ss_m_find (pl := pl) (la := la) I (by omega) hr t1 hh
    rw [t3] at this; exact this
  have fY : ∀ {post : Int32 → Prop}, post (nI (ro k)) → wpY_numberAt post ((nI oL), (nI cL), (nI wL), (nI bL), (nI n), (nI (rl.length)), (nI lg), (ss_li kd), (ss_li au), (ss_li pl), (ss_li bs), (ss_li tg), yc, (ss_li ro), (ss_li lo), la, (ss_li rc)) (nI c) (nI p) := fun hh => by
    have := ss_y_numberAt (oL := oL) (cL := cL) (wL := wL) (bL := bL) (pl := pl) (yc := yc) (la := la) B R (by omega) hb hk t1 hh
    rw [t2] at this; exact this
  obtain ⟨d1, d2⟩ := ss_m_cell I (s := c) (by omega) hr t4
  have h5 := ss_posle (H := ss_ho n lg au lo rc c) (t := ro k) (rl := rl) R.1
  have vn : vp_in (nI n) 64 := vp_in_nI (by omega) (by omega)
  refine ⟨nI n, _, _, ⟨lg, rc, ss_mk (pl := ss_un pl n p) (la := la) I'⟩, fun post hp => ?_, fun post hp => ?_⟩
  · unfold wpX_remove; dsimp only
    refine ss_x_isClient hc (br_f (by decide) (br_f h0 ⟨v, br_t (by rw [hvc]; exact c1) (ss_x_window I hc (fun _ => br_t rfl (br_t co (fX (br_t (nI_pos' (by omega)) ⟨d1, nm_r d2 ⟨vn, nm_r (ss_li_u tg (by omega) _) ⟨vp_in_nI (by omega) (by omega), vn, nm_r (e' := upd cd n (cd (ro k))) (by rw [nI_clamp (by omega), nI_clamp (by omega)]) ?_⟩⟩⟩)))) (fun q => absurd q (by omega)))⟩))
    exact hW _ hp
  · unfold wpY_remove; dsimp only
    refine ss_y_isClient hc (br_f (by decide) (br_f h0 (ss_y_length B R (by omega) hb (br_t c1 (ss_y_unack P B hc (br_t cw (br_t co (fY ?_))))))))
    refine ss_y_accept (k0 := 2) (by omega) hc ?_
    show post (nI (n + 1) - 1) _
    rw [nI_pred]
    exact hp
end
end
section
/-! serve and peekServe -/
def ss_blk (bL lg : Nat) (rc : Nat → Nat) : Bool := ss_ex (fun o => decide (bL ≤ lg - rc o)) 3
theorem ss_ans_ne {kd tg : Nat → Nat} {rl : List Nat} {T : Nat → Bool} {x : Nat} (hl : rl.length ≤ 48) :
    ¬ ss_ans kd tg rl T x = -2 ∧ ¬ ss_ans kd tg rl T x = -8 ∧ ¬ ss_ans kd tg rl T x = -9 := by
  have h1 := ss_pos_le (H := T) (t := tg x) (l := rl)
  have h2 := List.length_filter_le T rl
  have h3 : ∀ y : Int32, y < 0 → ¬ nI (ss_pos T (tg x) rl) = y := fun y hy q => absurd (q ▸ hy) (nI_pos (by omega))
  unfold ss_ans
  by_cases e : kd x = 2 ∧ T (tg x) = false
  · rw [if_pos e]; decide
  · rw [if_neg e]
    exact ⟨h3 _ (by decide), h3 _ (by decide), h3 _ (by decide)⟩
section
variable {oL cL wL bL n lg : Nat} {kd au bs tg sp pp ow oc ol oa lo lc rc br cm ch cc vc ro pl : Nat → Nat} {cd yc la : Nat → Int32} {rl : List Nat}
theorem ss_x_ref31 {post : Int32 → Prop} (I : (ss_INV oL cL wL bL n lg kd au bs tg sp pp ow oc ol oa lo lc rc br cm ch cc vc ro cd yc rl)) (h0 : ss_blk bL lg rc = false → post 0) (h9 : ss_blk bL lg rc = true → post (-9)) :
    ∀ d o, o + d = 3 → (∀ j, j < o → lg - rc j < bL) → ∀ f, d < f → wX_serveRefusal_31 post (nI oL) (nI cL) (nI wL) (nI bL) (nI n) (nI (rl.length)) (nI lg) (ss_li kd) (ss_li au) (ss_li pl) (ss_li bs) (ss_li tg) cd (ss_li sp) (ss_li pp) (ss_li ow) (ss_li oc) (ss_li ol) (ss_li oa) (ss_li lo) la (ss_li lc) (ss_li rc) (ss_li br) (ss_li cm) (ss_li ch) (ss_li cc) (ss_li vc) f (nI o) := by
  obtain ⟨hN1, hN2, hN3, hN4, hN5, hN6⟩ := ss_I_n I
  have hlg : lg ≤ 64 := (ss_I_B I).2.1
  intro d
  induction d with
  | zero =>
    intro o ho hj f hf
    obtain ⟨f, rfl, _⟩ := ss_fu hf
    refine br_t (nI_le (a := 3) (by omega) (by omega)) (h0 (ss_ex_f.mpr (fun i hi => decide_eq_false (by have := hj i (by omega); omega))))
  | succ d ih =>
    intro o ho hj f hf
    obtain ⟨f, rfl, hg⟩ := ss_fu hf
    have hr := ss_P_rc (ss_I_P I) o
    refine br_f (nI_ge (b := 3) (by omega) (by omega)) ⟨vp_in_nI (by omega) (by omega), ?_⟩
    rw [ss_li_r rc (by omega), pk_sub hr]
    refine pk_lt (lg - rc o) bL (fun q => nm_r (nI_1 o) (ih (o + 1) (by omega) (fun j hj' => ?_) f (by omega))) (fun q => h9 (ss_ex_iff.mpr ⟨o, by omega, decide_eq_true q⟩))
    rcases Nat.lt_or_ge j o with y | y
    · exact hj j y
    · have : j = o := by omega
      subst this; exact q
theorem ss_x_refusal {post : Int32 → Prop} (I : (ss_INV oL cL wL bL n lg kd au bs tg sp pp ow oc ol oa lo lc rc br cm ch cc vc ro cd yc rl)) {c : Nat} (hc : c < 3) (h8 : ss_cn au c n ≤ ss_cn (fun j => au (lo j)) c lg → post (-8))
    (h0 : ss_cn (fun j => au (lo j)) c lg < ss_cn au c n → ss_blk bL lg rc = false → post 0) (h9 : ss_cn (fun j => au (lo j)) c lg < ss_cn au c n → ss_blk bL lg rc = true → post (-9)) :
    wpX_serveRefusal post ((nI oL), (nI cL), (nI wL), (nI bL), (nI n), (nI (rl.length)), (nI lg), (ss_li kd), (ss_li au), (ss_li pl), (ss_li bs), (ss_li tg), cd, (ss_li sp), (ss_li pp), (ss_li ow), (ss_li oc), (ss_li ol), (ss_li oa), (ss_li lo), la, (ss_li lc), (ss_li rc), (ss_li br), (ss_li cm), (ss_li ch), (ss_li cc), (ss_li vc)) (nI c) := by
  obtain ⟨g1, g2, g3⟩ := ss_I_C I c hc
  have hcn := ss_cn_le au c n
  have hcl := ss_ol_le (ss_I_P I) (c := c) (Nat.le_refl lg)
  have hn : n ≤ 64 := (ss_I_B I).1
  have v : vp_in (nI c) 3 := vp_in_nI (by omega) (by omega)
  unfold wpX_serveRefusal
  dsimp only
  refine ss_x_isClient hc (br_f (by decide) ⟨v, v, ?_⟩)
  rw [ss_li_r ol (by omega), ss_li_r oc (by omega), g1, g2]
  refine pk_lt (ss_cn (fun j => au (lo j)) c lg) (ss_cn au c n) (fun q => ⟨4, ss_x_ref31 I (h0 q) (h9 q) 3 0 rfl (fun j hj => absurd hj (Nat.not_lt_zero j)) 4 (by omega)⟩) h8
theorem ss_x_refusal0 {post : Int32 → Prop} {x : Int32} (h : x < 0 ∨ nI 3 ≤ x) (hp : post (-2)) : wpX_serveRefusal post ((nI oL), (nI cL), (nI wL), (nI bL), (nI n), (nI (rl.length)), (nI lg), (ss_li kd), (ss_li au), (ss_li pl), (ss_li bs), (ss_li tg), cd, (ss_li sp), (ss_li pp), (ss_li ow), (ss_li oc), (ss_li ol), (ss_li oa), (ss_li lo), la, (ss_li lc), (ss_li rc), (ss_li br), (ss_li cm), (ss_li ch), (ss_li cc), (ss_li vc)) x := by
  unfold wpX_serveRefusal
  dsimp only
  exact ss_x_isClient0 h (br_t rfl hp)
theorem ss_y_pk27 {post : Int32 → Prop} (I : (ss_INV oL cL wL bL n lg kd au bs tg sp pp ow oc ol oa lo lc rc br cm ch cc vc ro cd yc rl)) {x : Nat} (h0 : ss_blk bL lg rc = false → wpY_effect post ((nI oL), (nI cL), (nI wL), (nI bL), (nI n), (nI (rl.length)), (nI lg), (ss_li kd), (ss_li au), (ss_li pl), (ss_li bs), (ss_li tg), yc, (ss_li ro), (ss_li lo), la, (ss_li rc)) 3 (nI x)) (h9 : ss_blk bL lg rc = true → post (-9)) :
    ∀ d o, o + d = 3 → (∀ j, j < o → lg - rc j < bL) → ∀ f, d < f → wY_peekServe_27 post (nI x) (nI oL) (nI cL) (nI wL) (nI bL) (nI n) (nI (rl.length)) (nI lg) (ss_li kd) (ss_li au) (ss_li pl) (ss_li bs) (ss_li tg) yc (ss_li ro) (ss_li lo) la (ss_li rc) f (nI o) := by
  obtain ⟨hN1, hN2, hN3, hN4, hN5, hN6⟩ := ss_I_n I
  have hlg : lg ≤ 64 := (ss_I_B I).2.1
  intro d
  induction d with
  | zero =>
    intro o ho hj f hf
    obtain ⟨f, rfl, _⟩ := ss_fu hf
    refine br_t (nI_le (a := 3) (by omega) (by omega)) (h0 (ss_ex_f.mpr (fun i hi => decide_eq_false (by have := hj i (by omega); omega))))
  | succ d ih =>
    intro o ho hj f hf
    obtain ⟨f, rfl, hg⟩ := ss_fu hf
    have hr := ss_P_rc (ss_I_P I) o
    refine br_f (nI_ge (b := 3) (by omega) (by omega)) (ss_y_downlink hr hlg (by omega) ?_)
    refine pk_lt (lg - rc o) bL (fun q => nm_r (nI_1 o) (ih (o + 1) (by omega) (fun j hj' => ?_) f (by omega))) (fun q => h9 (ss_ex_iff.mpr ⟨o, by omega, decide_eq_true q⟩))
    rcases Nat.lt_or_ge j o with y | y
    · exact hj j y
    · have : j = o := by omega
      subst this; exact q
theorem ss_old (I : (ss_INV oL cL wL bL n lg kd au bs tg sp pp ow oc ol oa lo lc rc br cm ch cc vc ro cd yc rl)) {c : Nat} (hc : c < 3) (h : ss_cn (fun j => au (lo j)) c lg < ss_cn au c n) :
    ∃ x, x < n ∧ au x = c ∧ ss_cn au c x = ss_cn (fun j => au (lo j)) c lg ∧ ss_inL lo lg x = false ∧ (∀ z, z < x → au z = c → ss_inL lo lg z = true) ∧
      vp_in (nI c * 64 + ss_li ol (nI c).toNatClampNeg) 192 ∧ ss_li ow (nI c * 64 + ss_li ol (nI c).toNatClampNeg).toNatClampNeg = nI x := by
  have P := ss_I_P I
  obtain ⟨g1, g2, g3⟩ := ss_I_C I c hc
  have hcn := ss_cn_le au c n
  have hn : n ≤ 64 := (ss_I_B I).1
  obtain ⟨x, hx, hxc, hk⟩ := ss_cn_ex h
  have hix : nI c * 64 + ss_li ol (nI c).toNatClampNeg = nI (c * 64 + ss_cn au c x) := by
    rw [ss_li_r ol (by omega), g2, ← hk, ← nI_add, ← pk_mul]; rfl
  refine ⟨x, hx, hxc, hk, ss_bf (fun q => ?_), fun z hz e => ?_, ?_, ?_⟩
  · have := (ss_inLog P (Nat.le_refl lg) hx).mp q
    rw [hxc] at this; omega
  · rw [ss_inLog P (Nat.le_refl lg) (by omega), e, ← hk]
    exact ss_cn_lt hz e
  · rw [hix]; exact vp_in_nI (by omega) (by omega)
  · have h1 := ss_I_O I x hx
    rw [hxc] at h1
    rw [hix, ss_li_r ow (by omega), h1]
theorem ss_srv_kx (I : (ss_INV oL cL wL bL n lg kd au bs tg sp pp ow oc ol oa lo lc rc br cm ch cc vc ro cd yc rl)) {c x : Nat} (hx : x < n) (hxc : au x = c) (hk : ss_cn au c x = ss_cn (fun j => au (lo j)) c lg) : kd x = 2 → ss_ho n lg au lo rc 3 (tg x) = true := by
  intro k
  have P := ss_I_P I
  rcases ss_P_kd P x hx with ⟨k1, _⟩ | ⟨_, h1, _, h2⟩
  · omega
  · unfold ss_ho
    rw [if_pos rfl]
    rcases ss_G_iff.mp h2 with q | ⟨q1, q2⟩
    · exact ss_inL_mono (Nat.le_trans (ss_P_bs P x hx) (ss_P_rc P _)) q
    · rw [ss_inLog P (Nat.le_refl lg) h1, q1, hxc, ← hk]
      rw [hxc] at q2; exact q2
theorem ss_m_peekServe (I : (ss_INV oL cL wL bL n lg kd au bs tg sp pp ow oc ol oa lo lc rc br cm ch cc vc ro cd yc rl)) (v1 : Int32) : ∃ r : Int32, (∀ post : Int32 → SX → Prop, post r ((nI oL), (nI cL), (nI wL), (nI bL), (nI n), (nI (rl.length)), (nI lg), (ss_li kd), (ss_li au), (ss_li pl), (ss_li bs), (ss_li tg), cd, (ss_li sp), (ss_li pp), (ss_li ow), (ss_li oc), (ss_li ol), (ss_li oa), (ss_li lo), la, (ss_li lc), (ss_li rc), (ss_li br), (ss_li cm), (ss_li ch), (ss_li cc), (ss_li vc)) → wpX_peekServe post ((nI oL), (nI cL), (nI wL), (nI bL), (nI n), (nI (rl.length)), (nI lg), (ss_li kd), (ss_li au), (ss_li pl), (ss_li bs), (ss_li tg), cd, (ss_li sp), (ss_li pp), (ss_li ow), (ss_li oc), (ss_li ol), (ss_li oa), (ss_li lo), la, (ss_li lc), (ss_li rc), (ss_li br), (ss_li cm), (ss_li ch), (ss_li cc), (ss_li vc)) v1) ∧ (∀ post : Int32 → Prop, post r → wpY_peekServe post ((nI oL), (nI cL), (nI wL), (nI bL), (nI n), (nI (rl.length)), (nI lg), (ss_li kd), (ss_li au), (ss_li pl), (ss_li bs), (ss_li tg), yc, (ss_li ro), (ss_li lo), la, (ss_li rc)) v1) := by
  have P := ss_I_P I
  have B := ss_I_B I
  have R := ss_I_R I
  have hn : n ≤ 64 := B.1
  have hb : ∀ y, y ∈ rl → y < n := fun y hy => ss_I_lt I hy
  rcases pk_ix v1 (n := 3) (by omega) with h | h | ⟨c, hc, rfl⟩
  · refine ⟨-2, fun post hp => ?_, fun post hp => ?_⟩
    · unfold wpX_peekServe; dsimp only; exact ss_x_refusal0 (Or.inl h) (br_f (by decide) hp)
    · unfold wpY_peekServe; dsimp only; exact ss_y_isClient0 (Or.inl h) (br_t rfl hp)
  · refine ⟨-2, fun post hp => ?_, fun post hp => ?_⟩
    · unfold wpX_peekServe; dsimp only; exact ss_x_refusal0 (Or.inr h) (br_f (by decide) hp)
    · unfold wpY_peekServe; dsimp only; exact ss_y_isClient0 (Or.inr h) (br_t rfl hp)
  rcases Nat.lt_or_ge (ss_cn (fun j => au (lo j)) c lg) (ss_cn au c n) with hu | hu
  case inr =>
    refine ⟨-8, fun post hp => ?_, fun post hp => ?_⟩
    · unfold wpX_peekServe; dsimp only
      exact ss_x_refusal I hc (fun _ => br_f (by decide) hp) (fun q => absurd q (by omega)) (fun q => absurd q (by omega))
    · unfold wpY_peekServe; dsimp only
      refine ss_y_isClient hc (br_f (by decide) (ss_y_oldestn B hc (fun z hz e => ?_) (br_t rfl hp)))
      rw [ss_inLog P (Nat.le_refl lg) hz, e]
      have := ss_cn_lt hz e
      omega
  obtain ⟨x, hx, hxc, hk, hxl, hm, hv, hox⟩ := ss_old I hc hu
  have hx1 : ¬ nI x = -1 := fun q => absurd (show nI x < 0 by rw [q]; decide) (nI_pos (by omega))
  cases hbk : ss_blk bL lg rc with
  | true =>
    refine ⟨-9, fun post hp => ?_, fun post hp => ?_⟩
    · unfold wpX_peekServe; dsimp only
      exact ss_x_refusal I hc (fun q => absurd q (by omega)) (fun _ q => by rw [hbk] at q; cases q) (fun _ _ => br_f (by decide) hp)
    · unfold wpY_peekServe; dsimp only
      exact ss_y_isClient hc (br_f (by decide) (ss_y_oldest B hc hx hxc hxl hm (br_f hx1 ⟨4, ss_y_pk27 I (fun q => by rw [hbk] at q; cases q) (fun _ => hp) 3 0 rfl (fun j hj => absurd hj (Nat.not_lt_zero j)) 4 (by omega)⟩)))
  | false =>
    have h3 : ss_ho n lg au lo rc 3 = ss_inL lo lg := funext fun y => if_pos rfl
    refine ⟨ss_ans kd tg rl (ss_tx n kd tg (ss_ho n lg au lo rc 3)) x, fun post hp => ?_, fun post hp => ?_⟩
    · obtain ⟨br', _, _, e3, hW⟩ := ss_x_crossLog (oL := oL) (cL := cL) (wL := wL) (bL := bL) (pl := pl) (cd := cd) (sp := sp) (pp := pp) (ow := ow) (oc := oc) (ol := ol) (oa := oa) (la := la) (lc := lc) (br := br) (cm := cm) (ch := ch) (cc := cc) (vc := vc) (kp := 0) P B R.1 hc hx hxc hk (Or.inl rfl) (ss_I_S I x hx) (ss_srv_hbr P (ss_I_G I) hx hxc hc hk)
      rw [e3 rfl, ← h3] at hW
      unfold wpX_peekServe; dsimp only
      refine ss_x_refusal I hc (fun q => absurd q (by omega)) (fun _ _ => br_t rfl ⟨vp_in_nI (by omega) (by omega), hv, nm_r hox (hW _ ?_)⟩) (fun _ q => by rw [hbk] at q; cases q)
      exact ss_x_landing (s := 3) (by omega) (by omega) R.1 (ss_P_tg P hx) B.2.2.2.2.2.1 (ss_srv_kx I hx hxc hk) (ss_I_K I 3 (by omega)) hp
    · unfold wpY_peekServe; dsimp only
      exact ss_y_isClient hc (br_f (by decide) (ss_y_oldest B hc hx hxc hxl hm (br_f hx1 ⟨4, ss_y_pk27 I (fun _ => ss_y_effect (s := 3) B R (ss_P_nd P) (by omega) hb hx (ss_P_tg P hx) hp) (fun q => by rw [hbk] at q; cases q) 3 0 rfl (fun j hj => absurd hj (Nat.not_lt_zero j)) 4 (by omega)⟩)))
end
end
section
/-! serve -/
section
variable {oL cL wL bL n lg : Nat} {kd au bs tg sp pp ow oc ol oa lo lc rc br cm ch cc vc ro pl : Nat → Nat} {cd yc la : Nat → Int32} {rl : List Nat}
theorem ss_srv_core (I : (ss_INV oL cL wL bL n lg kd au bs tg sp pp ow oc ol oa lo lc rc br cm ch cc vc ro cd yc rl)) {c x : Nat} (hc : c < 3) (hu : ss_cn (fun j => au (lo j)) c lg < ss_cn au c n) (hx : x < n) (hxc : au x = c) (hk : ss_cn au c x = ss_cn (fun j => au (lo j)) c lg) (hxl : ss_inL lo lg x = false) (r : Int32) :
    ∃ br' br'' cm' ch' cc' vc' : Nat → Nat, (ss_INV oL cL wL bL n (lg + 1) kd au bs tg sp pp ow oc (ss_un ol c (ol c + 1)) oa (ss_un lo lg x) (ss_un lc lg (ss_pos (ss_ho n lg au lo rc 3) (tg x) rl)) rc br'' cm' ch' cc' vc' ro cd yc rl) ∧
      (∀ post : Int32 → SX → Prop, post (nI (ss_pos (ss_ho n lg au lo rc 3) (tg x) rl)) ((nI oL), (nI cL), (nI wL), (nI bL), (nI n), (nI (rl.length)), (nI lg), (ss_li kd), (ss_li au), (ss_li pl), (ss_li bs), (ss_li tg), cd, (ss_li sp), (ss_li pp), (ss_li ow), (ss_li oc), (ss_li ol), (ss_li oa), (ss_li lo), la, (ss_li lc), (ss_li rc), (ss_li br'), (ss_li cm), (ss_li ch), (ss_li cc), (ss_li vc)) → wpX_crossLog post ((nI oL), (nI cL), (nI wL), (nI bL), (nI n), (nI (rl.length)), (nI lg), (ss_li kd), (ss_li au), (ss_li pl), (ss_li bs), (ss_li tg), cd, (ss_li sp), (ss_li pp), (ss_li ow), (ss_li oc), (ss_li ol), (ss_li oa), (ss_li lo), la, (ss_li lc), (ss_li rc), (ss_li br), (ss_li cm), (ss_li ch), (ss_li cc), (ss_li vc)) (nI c) (nI x) 1) ∧
      (∀ post : SX → Prop, post ((nI oL), (nI cL), (nI wL), (nI bL), (nI n), (nI (rl.length)), (nI lg), (ss_li kd), (ss_li au), (ss_li pl), (ss_li bs), (ss_li tg), cd, (ss_li sp), (ss_li pp), (ss_li ow), (ss_li oc), (ss_li ol), (ss_li oa), (ss_li lo), la, (ss_li lc), (ss_li rc), (ss_li br'), (ss_li cm'), (ss_li ch'), (ss_li cc'), (ss_li vc')) → wpX_apply post ((nI oL), (nI cL), (nI wL), (nI bL), (nI n), (nI (rl.length)), (nI lg), (ss_li kd), (ss_li au), (ss_li pl), (ss_li bs), (ss_li tg), cd, (ss_li sp), (ss_li pp), (ss_li ow), (ss_li oc), (ss_li ol), (ss_li oa), (ss_li lo), la, (ss_li lc), (ss_li rc), (ss_li br'), (ss_li cm), (ss_li ch), (ss_li cc), (ss_li vc)) 3 (nI x) (nI (ss_pos (ss_ho n lg au lo rc 3) (tg x) rl))) ∧
      (∀ post : SX → Prop, post ((nI oL), (nI cL), (nI wL), (nI bL), (nI n), (nI (rl.length)), (nI (lg + 1)), (ss_li kd), (ss_li au), (ss_li pl), (ss_li bs), (ss_li tg), cd, (ss_li sp), (ss_li pp), (ss_li ow), (ss_li oc), (ss_li (ss_un ol c (ol c + 1))), (ss_li oa), (ss_li (ss_un lo lg x)), (upd la lg r), (ss_li (ss_un lc lg (ss_pos (ss_ho n lg au lo rc 3) (tg x) rl))), (ss_li rc), (ss_li br''), (ss_li cm'), (ss_li ch'), (ss_li cc'), (ss_li vc')) →
        wpX_appendToLog post ((nI oL), (nI cL), (nI wL), (nI bL), (nI n), (nI (rl.length)), (nI lg), (ss_li kd), (ss_li au), (ss_li pl), (ss_li bs), (ss_li tg), cd, (ss_li sp), (ss_li pp), (ss_li ow), (ss_li oc), (ss_li (ss_un ol c (ol c + 1))), (ss_li oa), (ss_li lo), la, (ss_li lc), (ss_li rc), (ss_li br'), (ss_li cm'), (ss_li ch'), (ss_li cc'), (ss_li vc')) (nI c) (nI x) (nI (ss_pos (ss_ho n lg au lo rc 3) (tg x) rl)) r) := by
  have P := ss_I_P I
  have B := ss_I_B I
  have R := ss_I_R I
  obtain ⟨hB1, hB2, hB3, hB4, hB5, hB6, hB7, hB8⟩ := ss_I_B I
  obtain ⟨hN1, hN2, hN3, hN4, hN5, hN6⟩ := ss_I_n I
  have hlgn := (ss_lgn I).2 c hc hu
  have h3 : ss_ho n lg au lo rc 3 = ss_inL lo lg := funext fun y => if_pos rfl
  obtain ⟨br', g1, g2, _, hW1⟩ := ss_x_crossLog (oL := oL) (cL := cL) (wL := wL) (bL := bL) (pl := pl) (cd := cd) (sp := sp) (pp := pp) (ow := ow) (oc := oc) (ol := ol) (oa := oa) (la := la) (lc := lc) (br := br) (cm := cm) (ch := ch) (cc := cc) (vc := vc) (kp := 1) P B R.1 hc hx hxc hk (Or.inr rfl) (ss_I_S I x hx) (ss_srv_hbr P (ss_I_G I) hx hxc hc hk)
  have P' := ss_P_serve P hx (by rw [hxc]; exact hk)
  obtain ⟨cm', ch', cc', vc', hS, hO, hch, hW2⟩ := ss_x_apply (oL := oL) (cL := cL) (wL := wL) (bL := bL) (n := n) (lg := lg) (kd := kd) (au := au) (pl := pl) (bs := bs) (tg := tg) (cd := cd) (sp := sp) (pp := pp) (ow := ow) (oc := oc) (ol := ol) (oa := oa) (lo := lo) (la := la) (lc := lc) (rc := rc) (br := br') (cm := cm) (ch := ch) (cc := cc) (vc := vc) (rl := rl)
    (s := 3) (x := x) (m := n) (H := ss_ho n lg au lo rc 3) (H' := ss_ho n (lg + 1) au (ss_un lo lg x) rc 3) (by omega) (by omega) hx (ss_P_nd P) R.1 (ss_P_tg P hx)
    (by
      rcases ss_P_kd P x hx with ⟨k1, e⟩ | ⟨k2, _, _, _⟩
      · exact Or.inl ⟨k1, e, by rw [h3]; exact hxl⟩
      · refine Or.inr ⟨k2, ss_srv_kx I hx hxc hk k2, fun q => ?_⟩
        have := ((ss_P_rl P x).mp q).2
        omega)
    (fun y _ => ss_srv_ho3 y) (fun y _ => ss_srv_ho3 y) (ss_hcl P) (ss_I_K I 3 (by omega)) (ss_I_h I)
  obtain ⟨br'', g3, g4, hW3⟩ := ss_x_append (oL := oL) (cL := cL) (wL := wL) (bL := bL) (n := n) (lg := lg) (kd := kd) (au := au) (pl := pl) (bs := bs) (tg := tg) (cd := cd) (sp := sp) (pp := pp) (ow := ow) (oc := oc) (ol := ss_un ol c (ol c + 1)) (oa := oa) (lo := lo) (la := la) (lc := lc) (rc := rc) (br := br') (cm := cm') (ch := ch') (cc := cc') (vc := vc') (rl := rl)
    (c := c) (x := x) (p := ss_pos (ss_ho n lg au lo rc 3) (tg x) rl) (r := r) (by omega) hc
  rw [← h3] at hW1
  refine ⟨br', br'', cm', ch', cc', vc', ⟨P', ⟨hB1, by omega, hB3, ss_un_b hB4 (by omega), hB5, hB6, hB7, hB8⟩, R, ss_I_O I, ss_srv_XC (ss_I_C I) (ss_P_rc P) hxc, ss_srv_XS P (ss_I_S I), ss_srv_XP P (ss_I_Q I), ?_, ?_, ?_, hch, ss_I_d I, hN1, hN2, hN3, hN4, hN5, hN6⟩, hW1, hW2, hW3⟩
  · rw [h3]; exact ss_srv_XL (ss_I_L I)
  · rw [h3] at g3
    exact ss_srv_XB P (ss_I_G I) hx hxc (by omega) hc hk (g1 rfl) g2 g3 g4
  · intro s hs
    by_cases e : s = 3
    · subst e; exact hS
    · rw [ss_srv_ho (ss_P_rc P) s e]
      exact hO s e _ _ (ss_fil48 I _) (ss_I_K I s hs)
theorem ss_m_serve (I : (ss_INV oL cL wL bL n lg kd au bs tg sp pp ow oc ol oa lo lc rc br cm ch cc vc ro cd yc rl)) (v1 : Int32) : ∃ (r : Int32) (u' : SX) (v' : SY), ss_Rel u' v' ∧
    (∀ post : Int32 → SX → Prop, post r u' → wpX_serve post ((nI oL), (nI cL), (nI wL), (nI bL), (nI n), (nI (rl.length)), (nI lg), (ss_li kd), (ss_li au), (ss_li pl), (ss_li bs), (ss_li tg), cd, (ss_li sp), (ss_li pp), (ss_li ow), (ss_li oc), (ss_li ol), (ss_li oa), (ss_li lo), la, (ss_li lc), (ss_li rc), (ss_li br), (ss_li cm), (ss_li ch), (ss_li cc), (ss_li vc)) v1) ∧ (∀ post : Int32 → SY → Prop, post r v' → wpY_serve post ((nI oL), (nI cL), (nI wL), (nI bL), (nI n), (nI (rl.length)), (nI lg), (ss_li kd), (ss_li au), (ss_li pl), (ss_li bs), (ss_li tg), yc, (ss_li ro), (ss_li lo), la, (ss_li rc)) v1) := by
  have P := ss_I_P I
  have B := ss_I_B I
  have R := ss_I_R I
  have hn : n ≤ 64 := B.1
  have hb : ∀ y, y ∈ rl → y < n := fun y hy => ss_I_lt I hy
  have same : ss_Rel ((nI oL), (nI cL), (nI wL), (nI bL), (nI n), (nI (rl.length)), (nI lg), (ss_li kd), (ss_li au), (ss_li pl), (ss_li bs), (ss_li tg), cd, (ss_li sp), (ss_li pp), (ss_li ow), (ss_li oc), (ss_li ol), (ss_li oa), (ss_li lo), la, (ss_li lc), (ss_li rc), (ss_li br), (ss_li cm), (ss_li ch), (ss_li cc), (ss_li vc)) ((nI oL), (nI cL), (nI wL), (nI bL), (nI n), (nI (rl.length)), (nI lg), (ss_li kd), (ss_li au), (ss_li pl), (ss_li bs), (ss_li tg), yc, (ss_li ro), (ss_li lo), la, (ss_li rc)) := ⟨lg, rc, ss_mk I⟩
  rcases pk_ix v1 (n := 3) (by omega) with h | h | ⟨c, hc, rfl⟩
  · refine ⟨-2, ((nI oL), (nI cL), (nI wL), (nI bL), (nI n), (nI (rl.length)), (nI lg), (ss_li kd), (ss_li au), (ss_li pl), (ss_li bs), (ss_li tg), cd, (ss_li sp), (ss_li pp), (ss_li ow), (ss_li oc), (ss_li ol), (ss_li oa), (ss_li lo), la, (ss_li lc), (ss_li rc), (ss_li br), (ss_li cm), (ss_li ch), (ss_li cc), (ss_li vc)), ((nI oL), (nI cL), (nI wL), (nI bL), (nI n), (nI (rl.length)), (nI lg), (ss_li kd), (ss_li au), (ss_li pl), (ss_li bs), (ss_li tg), yc, (ss_li ro), (ss_li lo), la, (ss_li rc)), same, fun post hp => ?_, fun post hp => ?_⟩
    · unfold wpX_serve; dsimp only; exact ss_x_refusal0 (Or.inl h) (br_f (by decide) hp)
    · unfold wpY_serve; dsimp only; unfold wpY_peekServe; dsimp only; exact ss_y_isClient0 (Or.inl h) (br_t rfl (br_t rfl hp))
  · refine ⟨-2, ((nI oL), (nI cL), (nI wL), (nI bL), (nI n), (nI (rl.length)), (nI lg), (ss_li kd), (ss_li au), (ss_li pl), (ss_li bs), (ss_li tg), cd, (ss_li sp), (ss_li pp), (ss_li ow), (ss_li oc), (ss_li ol), (ss_li oa), (ss_li lo), la, (ss_li lc), (ss_li rc), (ss_li br), (ss_li cm), (ss_li ch), (ss_li cc), (ss_li vc)), ((nI oL), (nI cL), (nI wL), (nI bL), (nI n), (nI (rl.length)), (nI lg), (ss_li kd), (ss_li au), (ss_li pl), (ss_li bs), (ss_li tg), yc, (ss_li ro), (ss_li lo), la, (ss_li rc)), same, fun post hp => ?_, fun post hp => ?_⟩
    · unfold wpX_serve; dsimp only; exact ss_x_refusal0 (Or.inr h) (br_f (by decide) hp)
    · unfold wpY_serve; dsimp only; unfold wpY_peekServe; dsimp only; exact ss_y_isClient0 (Or.inr h) (br_t rfl (br_t rfl hp))
  rcases Nat.lt_or_ge (ss_cn (fun j => au (lo j)) c lg) (ss_cn au c n) with hu | hu
  case inr =>
    refine ⟨-8, ((nI oL), (nI cL), (nI wL), (nI bL), (nI n), (nI (rl.length)), (nI lg), (ss_li kd), (ss_li au), (ss_li pl), (ss_li bs), (ss_li tg), cd, (ss_li sp), (ss_li pp), (ss_li ow), (ss_li oc), (ss_li ol), (ss_li oa), (ss_li lo), la, (ss_li lc), (ss_li rc), (ss_li br), (ss_li cm), (ss_li ch), (ss_li cc), (ss_li vc)), ((nI oL), (nI cL), (nI wL), (nI bL), (nI n), (nI (rl.length)), (nI lg), (ss_li kd), (ss_li au), (ss_li pl), (ss_li bs), (ss_li tg), yc, (ss_li ro), (ss_li lo), la, (ss_li rc)), same, fun post hp => ?_, fun post hp => ?_⟩
    · unfold wpX_serve; dsimp only
      exact ss_x_refusal I hc (fun _ => br_f (by decide) hp) (fun q => absurd q (by omega)) (fun q => absurd q (by omega))
    · unfold wpY_serve; dsimp only; unfold wpY_peekServe; dsimp only
      refine ss_y_isClient hc (br_f (by decide) (ss_y_oldestn B hc (fun z hz e => ?_) (br_t rfl (br_f (by decide) (br_t rfl hp)))))
      rw [ss_inLog P (Nat.le_refl lg) hz, e]
      have := ss_cn_lt hz e
      omega
  obtain ⟨x, hx, hxc, hk, hxl, hm, hv, hox⟩ := ss_old I hc hu
  have hx1 : ¬ nI x = -1 := fun q => absurd (show nI x < 0 by rw [q]; decide) (nI_pos (by omega))
  have hlgn := (ss_lgn I).2 c hc hu
  cases hbk : ss_blk bL lg rc with
  | true =>
    refine ⟨-9, ((nI oL), (nI cL), (nI wL), (nI bL), (nI n), (nI (rl.length)), (nI lg), (ss_li kd), (ss_li au), (ss_li pl), (ss_li bs), (ss_li tg), cd, (ss_li sp), (ss_li pp), (ss_li ow), (ss_li oc), (ss_li ol), (ss_li oa), (ss_li lo), la, (ss_li lc), (ss_li rc), (ss_li br), (ss_li cm), (ss_li ch), (ss_li cc), (ss_li vc)), ((nI oL), (nI cL), (nI wL), (nI bL), (nI n), (nI (rl.length)), (nI lg), (ss_li kd), (ss_li au), (ss_li pl), (ss_li bs), (ss_li tg), yc, (ss_li ro), (ss_li lo), la, (ss_li rc)), same, fun post hp => ?_, fun post hp => ?_⟩
    · unfold wpX_serve; dsimp only
      exact ss_x_refusal I hc (fun q => absurd q (by omega)) (fun _ q => by rw [hbk] at q; cases q) (fun _ _ => br_f (by decide) hp)
    · unfold wpY_serve; dsimp only; unfold wpY_peekServe; dsimp only
      exact ss_y_isClient hc (br_f (by decide) (ss_y_oldest B hc hx hxc hxl hm (br_f hx1 ⟨4, ss_y_pk27 I (fun q => by rw [hbk] at q; cases q) (fun _ => br_f (by decide) (br_f (by decide) (br_t rfl hp))) 3 0 rfl (fun j hj => absurd hj (Nat.not_lt_zero j)) 4 (by omega)⟩)))
  | false =>
    obtain ⟨br', br'', cm', ch', cc', vc', I', hW1, hW2, hW3⟩ := ss_srv_core (pl := pl) (la := la) I hc hu hx hxc hk hxl (ss_ans kd tg rl (ss_tx n kd tg (ss_ho n lg au lo rc 3)) x)
    have v : vp_in (nI c) 3 := vp_in_nI (by omega) (by omega)
    have vl : vp_in (nI lg) 64 := vp_in_nI (by omega) (by omega)
    obtain ⟨n2, n8, n9⟩ := ss_ans_ne (kd := kd) (tg := tg) (T := ss_tx n kd tg (ss_ho n lg au lo rc 3)) (x := x) R.1
    refine ⟨ss_ans kd tg rl (ss_tx n kd tg (ss_ho n lg au lo rc 3)) x, _, _, ⟨lg + 1, rc, ss_mk (pl := pl) (la := upd la lg (ss_ans kd tg rl (ss_tx n kd tg (ss_ho n lg au lo rc 3)) x)) I'⟩, fun post hp => ?_, fun post hp => ?_⟩
    · unfold wpX_serve; dsimp only
      refine ss_x_refusal I hc (fun q => absurd q (by omega)) (fun _ _ => br_t rfl ⟨v, hv, nm_r hox (hW1 _ ?_)⟩) (fun _ q => by rw [hbk] at q; cases q)
      refine ss_x_landing (s := 3) (by omega) (by omega) R.1 (ss_P_tg P hx) B.2.2.2.2.2.1 (ss_srv_kx I hx hxc hk) (ss_I_K I 3 (by omega)) ?_
      have eol : upd (ss_li ol) (nI c).toNatClampNeg (ss_li ol (nI c).toNatClampNeg + 1) = ss_li (ss_un ol c (ol c + 1)) := by
        rw [ss_li_r ol (by omega), nI_1]; exact ss_li_u ol (by omega) _
      exact hW2 _ ⟨v, v, nm_r eol (hW3 _ hp)⟩
    · unfold wpY_serve; dsimp only; unfold wpY_peekServe; dsimp only
      refine ss_y_isClient hc (br_f (by decide) (ss_y_oldest B hc hx hxc hxl hm (br_f hx1 ⟨4, ss_y_pk27 I (fun _ => ss_y_effect (s := 3) B R (ss_P_nd P) (by omega) hb hx (ss_P_tg P hx) ?_) (fun q => by rw [hbk] at q; cases q) 3 0 rfl (fun j hj => absurd hj (Nat.not_lt_zero j)) 4 (by omega)⟩)))
      refine br_f n2 (br_f n8 (br_f n9 (ss_y_oldest B hc hx hxc hxl hm ⟨vl, nm_r (ss_li_u lo (by omega) x) ⟨vl, nm_r (e' := upd la lg (ss_ans kd tg rl (ss_tx n kd tg (ss_ho n lg au lo rc 3)) x)) (by rw [nI_clamp (by omega)]) (nm_r (nI_1 lg) hp)⟩⟩)))
end
end
section
/-! receive and peekReceive -/
section
variable {oL cL wL bL n lg : Nat} {kd au bs tg sp pp ow oc ol oa lo lc rc br cm ch cc vc ro pl : Nat → Nat} {cd yc la : Nat → Int32} {rl : List Nat}
theorem ss_x_rref {post : Int32 → Prop} (I : (ss_INV oL cL wL bL n lg kd au bs tg sp pp ow oc ol oa lo lc rc br cm ch cc vc ro cd yc rl)) {c : Nat} (hc : c < 3) (h8 : lg ≤ rc c → post (-8)) (h0 : rc c < lg → post 0) : wpX_receiveRefusal post ((nI oL), (nI cL), (nI wL), (nI bL), (nI n), (nI (rl.length)), (nI lg), (ss_li kd), (ss_li au), (ss_li pl), (ss_li bs), (ss_li tg), cd, (ss_li sp), (ss_li pp), (ss_li ow), (ss_li oc), (ss_li ol), (ss_li oa), (ss_li lo), la, (ss_li lc), (ss_li rc), (ss_li br), (ss_li cm), (ss_li ch), (ss_li cc), (ss_li vc)) (nI c) := by
  have hlg : lg ≤ 64 := (ss_I_B I).2.1
  have hr := ss_P_rc (ss_I_P I) c
  unfold wpX_receiveRefusal
  dsimp only
  refine ss_x_isClient hc (br_f (by decide) ⟨vp_in_nI (by omega) (by omega), ?_⟩)
  rw [ss_li_r rc (by omega)]
  exact pk_lt (rc c) lg h0 h8
theorem ss_x_rref0 {post : Int32 → Prop} {x : Int32} (h : x < 0 ∨ nI 3 ≤ x) (hp : post (-2)) : wpX_receiveRefusal post ((nI oL), (nI cL), (nI wL), (nI bL), (nI n), (nI (rl.length)), (nI lg), (ss_li kd), (ss_li au), (ss_li pl), (ss_li bs), (ss_li tg), cd, (ss_li sp), (ss_li pp), (ss_li ow), (ss_li oc), (ss_li ol), (ss_li oa), (ss_li lo), la, (ss_li lc), (ss_li rc), (ss_li br), (ss_li cm), (ss_li ch), (ss_li cc), (ss_li vc)) x := by
  unfold wpX_receiveRefusal
  dsimp only
  exact ss_x_isClient0 h (br_t rfl hp)
theorem ss_rcv_kx (I : (ss_INV oL cL wL bL n lg kd au bs tg sp pp ow oc ol oa lo lc rc br cm ch cc vc ro cd yc rl)) {c : Nat} (hc : c < 3) (he : rc c < lg) : kd (lo (rc c)) = 2 → ss_ho n lg au lo rc c (tg (lo (rc c))) = true := by
  intro k
  have P := ss_I_P I
  rcases ss_P_kd P _ (ss_P_log P _ he).1 with ⟨k1, _⟩ | ⟨_, _, _, h2⟩
  · omega
  · unfold ss_ho
    rw [if_neg (by omega)]
    exact ss_G_iff.mpr (Or.inl (ss_paq P he h2))
theorem ss_rcv_n (I : (ss_INV oL cL wL bL n lg kd au bs tg sp pp ow oc ol oa lo lc rc br cm ch cc vc ro cd yc rl)) {c : Nat} (hc : c < 3) (he : rc c < lg) (ha : au (lo (rc c)) ≠ c) : ss_ho n lg au lo rc c (lo (rc c)) = false := by
  have P := ss_I_P I
  unfold ss_ho
  rw [if_neg (by omega)]
  refine ss_bf (fun q => ?_)
  rcases ss_G_iff.mp q with w | ⟨w, _⟩
  · rw [ss_notIn P he] at w; cases w
  · exact ha w
theorem ss_rcv_cross (I : (ss_INV oL cL wL bL n lg kd au bs tg sp pp ow oc ol oa lo lc rc br cm ch cc vc ro cd yc rl)) {c kp : Nat} (hc : c < 3) (he : rc c < lg) (ha : au (lo (rc c)) ≠ c) (hkp : kp = 0 ∨ kp = 1) :
      ∃ pp' : Nat → Nat, (kp = 1 → ∀ z, z < n → au z = c → ss_cn (fun j => au (lo j)) c (rc c) ≤ ss_cn au c z → pp' z = ss_pos (ss_G au lo c (rc c + 1) (ss_cn au c z)) (tg z) rl) ∧
        (∀ m, ¬ (m < n ∧ au m = c ∧ ss_cn (fun j => au (lo j)) c (rc c) ≤ ss_cn au c m) → pp' m = pp m) ∧ (kp = 0 → pp' = pp) ∧
        ∀ post : Int32 → SX → Prop, post (nI (ss_pos (ss_ho n lg au lo rc c) (tg (lo (rc c))) rl)) ((nI oL), (nI cL), (nI wL), (nI bL), (nI n), (nI (rl.length)), (nI lg), (ss_li kd), (ss_li au), (ss_li pl), (ss_li bs), (ss_li tg), cd, (ss_li sp), (ss_li pp'), (ss_li ow), (ss_li oc), (ss_li ol), (ss_li oa), (ss_li lo), la, (ss_li lc), (ss_li rc), (ss_li br), (ss_li cm), (ss_li ch), (ss_li cc), (ss_li vc)) → wpX_crossPending post ((nI oL), (nI cL), (nI wL), (nI bL), (nI n), (nI (rl.length)), (nI lg), (ss_li kd), (ss_li au), (ss_li pl), (ss_li bs), (ss_li tg), cd, (ss_li sp), (ss_li pp), (ss_li ow), (ss_li oc), (ss_li ol), (ss_li oa), (ss_li lo), la, (ss_li lc), (ss_li rc), (ss_li br), (ss_li cm), (ss_li ch), (ss_li cc), (ss_li vc)) (nI c) (nI (rc c)) (nI kp) := by
  have P := ss_I_P I
  obtain ⟨g1, g2, g3⟩ := ss_I_C I c hc
  have hG : ss_ho n lg au lo rc c = ss_G au lo c (rc c) (ss_cn au c n) := funext fun y => if_neg (by omega)
  rw [hG]
  exact ss_x_crossPending P (ss_I_B I) (ss_I_R I).1 hc he ha (ss_I_O I) g1 g3 hkp (ss_I_L I _ he) (fun z hz e h => by
    have := ss_I_Q I z hz (by rw [e]; exact h)
    rw [e] at this; exact this) (ss_ol_le P (ss_P_rc P c))
theorem ss_m_recv (I : (ss_INV oL cL wL bL n lg kd au bs tg sp pp ow oc ol oa lo lc rc br cm ch cc vc ro cd yc rl)) {c : Nat} (hc : c < 3) (he : rc c < lg) : ∃ (r : Int32) (u' : SX) (v' : SY), ss_RR lg (ss_un rc c (rc c + 1)) u' v' ∧
    (∀ post : Int32 → SX → Prop, post r u' → wpX_receive post ((nI oL), (nI cL), (nI wL), (nI bL), (nI n), (nI (rl.length)), (nI lg), (ss_li kd), (ss_li au), (ss_li pl), (ss_li bs), (ss_li tg), cd, (ss_li sp), (ss_li pp), (ss_li ow), (ss_li oc), (ss_li ol), (ss_li oa), (ss_li lo), la, (ss_li lc), (ss_li rc), (ss_li br), (ss_li cm), (ss_li ch), (ss_li cc), (ss_li vc)) (nI c)) ∧ (∀ post : Int32 → SY → Prop, post r v' → wpY_receive post ((nI oL), (nI cL), (nI wL), (nI bL), (nI n), (nI (rl.length)), (nI lg), (ss_li kd), (ss_li au), (ss_li pl), (ss_li bs), (ss_li tg), yc, (ss_li ro), (ss_li lo), la, (ss_li rc)) (nI c)) := by
  have P := ss_I_P I
  have B := ss_I_B I
  have R := ss_I_R I
  obtain ⟨hB1, hB2, hB3, hB4, hB5, hB6, hB7, hB8⟩ := ss_I_B I
  obtain ⟨hN1, hN2, hN3, hN4, hN5, hN6⟩ := ss_I_n I
  have hb : ∀ y, y ∈ rl → y < n := fun y hy => ss_I_lt I hy
  have v : vp_in (nI c) 3 := vp_in_nI (by omega) (by omega)
  obtain ⟨hq, _, _⟩ := ss_P_log P _ he
  have v1 : vp_in (nI (rc c)) 64 := vp_in_nI (by omega) (by omega)
  have v2 : vp_in (nI (lo (rc c))) 64 := vp_in_nI (by omega) (by omega)
  have erc : upd (ss_li rc) (nI c).toNatClampNeg (ss_li rc (nI c).toNatClampNeg + 1) = ss_li (ss_un rc c (rc c + 1)) := by
    rw [ss_li_r rc (by omega), nI_1]; exact ss_li_u rc (by omega) _
  have e0 : ss_li rc (nI c).toNatClampNeg = nI (rc c) := ss_li_r rc (by omega)
  have hrc' : ∀ d, ss_un rc c (rc c + 1) d ≤ 64 := fun d => by
    unfold ss_un
    by_cases e : d = c
    · rw [if_pos e]; omega
    · rw [if_neg e]; exact hB3 d
  have P' := ss_P_recv P he
  have B' : ss_BY n lg kd au bs tg lo (ss_un rc c (rc c + 1)) := ⟨hB1, hB2, hrc', hB4, hB5, hB6, hB7, hB8⟩
  have ha3 := hB5 (lo (rc c))
  by_cases ha : au (lo (rc c)) = c
  · have I' : (ss_INV oL cL wL bL n lg kd au bs tg sp pp ow oc ol (ss_un oa c (oa c + 1)) lo lc (ss_un rc c (rc c + 1)) br cm ch cc vc ro cd yc rl) :=
      ⟨P', B', R, ss_I_O I, ss_ack_XC P (ss_I_C I) ha, ss_I_S I, ss_ack_XP P (ss_I_Q I) he ha, ss_I_L I, ss_I_G I, fun s hs => by
        rw [ss_ack_ho P he ha s]; exact ss_I_K I s hs, ss_I_h I, ss_I_d I, hN1, hN2, hN3, hN4, hN5, hN6⟩
    have eoa : upd (ss_li oa) (nI c).toNatClampNeg (ss_li oa (nI c).toNatClampNeg + 1) = ss_li (ss_un oa c (oa c + 1)) := by
      rw [ss_li_r oa (by omega), nI_1]; exact ss_li_u oa (by omega) _
    have ea : ss_li au (nI (lo (rc c))).toNatClampNeg = nI c := by rw [ss_li_r au (by omega), ha]
    refine ⟨-11, _, _, ss_mk (pl := pl) (la := la) I', fun post hp => ?_, fun post hp => ?_⟩
    · unfold wpX_receive; dsimp only
      exact ss_x_rref I hc (fun q => absurd q (by omega)) (fun _ => br_t rfl ⟨v, nm_r e0 ⟨v1, nm_r (ss_li_r lo (by omega)) ⟨v2, br_t ea ⟨v, v, nm_r erc ⟨v, v, nm_r eoa hp⟩⟩⟩⟩⟩)
    · unfold wpY_receive; dsimp only; unfold wpY_peekReceive; dsimp only
      refine ss_y_isClient hc (br_f (by decide) ⟨v, ?_⟩)
      rw [e0]
      exact br_t (nI_lt he (by omega)) ⟨v, v1, nm_r (ss_li_r lo (by omega)) ⟨v2, br_t ea (br_f (by decide) (br_f (by decide) ⟨v, v, nm_r (by rw [nI_1]; exact ss_li_u rc (by omega) _) hp⟩))⟩⟩
  · obtain ⟨pp', g1, g2, _, hW1⟩ := ss_rcv_cross (pl := pl) (la := la) I (kp := 1) hc he ha (Or.inr rfl)
    obtain ⟨cm', ch', cc', vc', hS, hO, hch, hW2⟩ := ss_x_apply (oL := oL) (cL := cL) (wL := wL) (bL := bL) (n := n) (lg := lg) (kd := kd) (au := au) (pl := pl) (bs := bs) (tg := tg) (cd := cd) (sp := sp) (pp := pp') (ow := ow) (oc := oc) (ol := ol) (oa := oa) (lo := lo) (la := la) (lc := lc) (rc := rc) (br := br) (cm := cm) (ch := ch) (cc := cc) (vc := vc) (rl := rl)
      (s := c) (x := lo (rc c)) (m := n) (H := ss_ho n lg au lo rc c) (H' := ss_ho n lg au lo (ss_un rc c (rc c + 1)) c) (by omega) (by omega) hq (ss_P_nd P) R.1 (ss_P_tg P hq)
      (by
        rcases ss_P_kd P _ hq with ⟨k1, e⟩ | ⟨k2, _, _, _⟩
        · exact Or.inl ⟨k1, e, ss_rcv_n I hc he ha⟩
        · refine Or.inr ⟨k2, ss_rcv_kx I hc he k2, fun q => ?_⟩
          have := ((ss_P_rl P _).mp q).2
          omega)
      (fun y _ => ss_oth_hoc hc y) (fun y _ => ss_oth_hoc hc y) (ss_hcl P) (ss_I_K I c (by omega)) (ss_I_h I)
    have I' : (ss_INV oL cL wL bL n lg kd au bs tg sp pp' ow oc ol oa lo lc (ss_un rc c (rc c + 1)) br cm' ch' cc' vc' ro cd yc rl) :=
      ⟨P', B', R, ss_I_O I, ss_oth_XC (ss_I_C I) ha, ss_I_S I, ss_oth_XP (ss_I_Q I) ha (g1 rfl) g2, ss_I_L I, ss_I_G I, fun s hs => by
        by_cases e : s = c
        · subst e; exact hS
        · rw [ss_oth_ho s e]
          exact hO s e _ _ (ss_fil48 I _) (ss_I_K I s hs), hch, ss_I_d I, hN1, hN2, hN3, hN4, hN5, hN6⟩
    have ea : ¬ ss_li au (nI (lo (rc c))).toNatClampNeg = nI c := by
      rw [ss_li_r au (by omega)]
      exact fun q => ha ((nI_eq (by omega) (by omega)).mp q)
    obtain ⟨n2, n8, n9⟩ := ss_ans_ne (kd := kd) (tg := tg) (T := ss_tx n kd tg (ss_ho n lg au lo rc c)) (x := lo (rc c)) R.1
    refine ⟨ss_ans kd tg rl (ss_tx n kd tg (ss_ho n lg au lo rc c)) (lo (rc c)), _, _, ss_mk (pl := pl) (la := la) I', fun post hp => ?_, fun post hp => ?_⟩
    · unfold wpX_receive; dsimp only
      refine ss_x_rref I hc (fun q => absurd q (by omega)) (fun _ => br_t rfl ⟨v, nm_r e0 ⟨v1, nm_r (ss_li_r lo (by omega)) ⟨v2, br_f ea (hW1 _ ?_)⟩⟩⟩)
      refine ss_x_landing (s := c) (by omega) (by omega) R.1 (ss_P_tg P hq) B.2.2.2.2.2.1 (ss_rcv_kx I hc he) (ss_I_K I c (by omega)) ?_
      exact hW2 _ ⟨v, v, nm_r erc hp⟩
    · unfold wpY_receive; dsimp only; unfold wpY_peekReceive; dsimp only
      refine ss_y_isClient hc (br_f (by decide) ⟨v, ?_⟩)
      rw [e0]
      refine br_t (nI_lt he (by omega)) ⟨v, v1, nm_r (ss_li_r lo (by omega)) ⟨v2, br_f ea (ss_y_effect (s := c) B R (ss_P_nd P) (by omega) hb hq (ss_P_tg P hq) ?_)⟩⟩
      exact br_f n2 (br_f n8 ⟨v, v, nm_r (by rw [nI_1]; exact ss_li_u rc (by omega) _) hp⟩)
theorem ss_m_receive (I : (ss_INV oL cL wL bL n lg kd au bs tg sp pp ow oc ol oa lo lc rc br cm ch cc vc ro cd yc rl)) (v1 : Int32) : ∃ (r : Int32) (u' : SX) (v' : SY), ss_Rel u' v' ∧
    (∀ post : Int32 → SX → Prop, post r u' → wpX_receive post ((nI oL), (nI cL), (nI wL), (nI bL), (nI n), (nI (rl.length)), (nI lg), (ss_li kd), (ss_li au), (ss_li pl), (ss_li bs), (ss_li tg), cd, (ss_li sp), (ss_li pp), (ss_li ow), (ss_li oc), (ss_li ol), (ss_li oa), (ss_li lo), la, (ss_li lc), (ss_li rc), (ss_li br), (ss_li cm), (ss_li ch), (ss_li cc), (ss_li vc)) v1) ∧ (∀ post : Int32 → SY → Prop, post r v' → wpY_receive post ((nI oL), (nI cL), (nI wL), (nI bL), (nI n), (nI (rl.length)), (nI lg), (ss_li kd), (ss_li au), (ss_li pl), (ss_li bs), (ss_li tg), yc, (ss_li ro), (ss_li lo), la, (ss_li rc)) v1) := by
  have hlg : lg ≤ 64 := (ss_I_B I).2.1
  have same : ss_Rel ((nI oL), (nI cL), (nI wL), (nI bL), (nI n), (nI (rl.length)), (nI lg), (ss_li kd), (ss_li au), (ss_li pl), (ss_li bs), (ss_li tg), cd, (ss_li sp), (ss_li pp), (ss_li ow), (ss_li oc), (ss_li ol), (ss_li oa), (ss_li lo), la, (ss_li lc), (ss_li rc), (ss_li br), (ss_li cm), (ss_li ch), (ss_li cc), (ss_li vc)) ((nI oL), (nI cL), (nI wL), (nI bL), (nI n), (nI (rl.length)), (nI lg), (ss_li kd), (ss_li au), (ss_li pl), (ss_li bs), (ss_li tg), yc, (ss_li ro), (ss_li lo), la, (ss_li rc)) := ⟨lg, rc, ss_mk I⟩
  rcases pk_ix v1 (n := 3) (by omega) with h | h | ⟨c, hc, rfl⟩
  · refine ⟨-2, ((nI oL), (nI cL), (nI wL), (nI bL), (nI n), (nI (rl.length)), (nI lg), (ss_li kd), (ss_li au), (ss_li pl), (ss_li bs), (ss_li tg), cd, (ss_li sp), (ss_li pp), (ss_li ow), (ss_li oc), (ss_li ol), (ss_li oa), (ss_li lo), la, (ss_li lc), (ss_li rc), (ss_li br), (ss_li cm), (ss_li ch), (ss_li cc), (ss_li vc)), ((nI oL), (nI cL), (nI wL), (nI bL), (nI n), (nI (rl.length)), (nI lg), (ss_li kd), (ss_li au), (ss_li pl), (ss_li bs), (ss_li tg), yc, (ss_li ro), (ss_li lo), la, (ss_li rc)), same, fun post hp => ?_, fun post hp => ?_⟩
    · unfold wpX_receive; dsimp only; exact ss_x_rref0 (Or.inl h) (br_f (by decide) hp)
    · unfold wpY_receive; dsimp only; unfold wpY_peekReceive; dsimp only; exact ss_y_isClient0 (Or.inl h) (br_t rfl (br_t rfl hp))
  · refine ⟨-2, ((nI oL), (nI cL), (nI wL), (nI bL), (nI n), (nI (rl.length)), (nI lg), (ss_li kd), (ss_li au), (ss_li pl), (ss_li bs), (ss_li tg), cd, (ss_li sp), (ss_li pp), (ss_li ow), (ss_li oc), (ss_li ol), (ss_li oa), (ss_li lo), la, (ss_li lc), (ss_li rc), (ss_li br), (ss_li cm), (ss_li ch), (ss_li cc), (ss_li vc)), ((nI oL), (nI cL), (nI wL), (nI bL), (nI n), (nI (rl.length)), (nI lg), (ss_li kd), (ss_li au), (ss_li pl), (ss_li bs), (ss_li tg), yc, (ss_li ro), (ss_li lo), la, (ss_li rc)), same, fun post hp => ?_, fun post hp => ?_⟩
    · unfold wpX_receive; dsimp only; exact ss_x_rref0 (Or.inr h) (br_f (by decide) hp)
    · unfold wpY_receive; dsimp only; unfold wpY_peekReceive; dsimp only; exact ss_y_isClient0 (Or.inr h) (br_t rfl (br_t rfl hp))
  have hr := ss_P_rc (ss_I_P I) c
  rcases Nat.lt_or_ge (rc c) lg with he | he
  · obtain ⟨r, u', v', hR, hX, hY⟩ := ss_m_recv (pl := pl) (la := la) I hc he
    exact ⟨r, u', v', ⟨lg, _, hR⟩, hX, hY⟩
  · refine ⟨-8, ((nI oL), (nI cL), (nI wL), (nI bL), (nI n), (nI (rl.length)), (nI lg), (ss_li kd), (ss_li au), (ss_li pl), (ss_li bs), (ss_li tg), cd, (ss_li sp), (ss_li pp), (ss_li ow), (ss_li oc), (ss_li ol), (ss_li oa), (ss_li lo), la, (ss_li lc), (ss_li rc), (ss_li br), (ss_li cm), (ss_li ch), (ss_li cc), (ss_li vc)), ((nI oL), (nI cL), (nI wL), (nI bL), (nI n), (nI (rl.length)), (nI lg), (ss_li kd), (ss_li au), (ss_li pl), (ss_li bs), (ss_li tg), yc, (ss_li ro), (ss_li lo), la, (ss_li rc)), same, fun post hp => ?_, fun post hp => ?_⟩
    · unfold wpX_receive; dsimp only
      exact ss_x_rref I hc (fun _ => br_f (by decide) hp) (fun q => absurd q (by omega))
    · unfold wpY_receive; dsimp only; unfold wpY_peekReceive; dsimp only
      refine ss_y_isClient hc (br_f (by decide) ⟨vp_in_nI (by omega) (by omega), ?_⟩)
      rw [ss_li_r rc (by omega)]
      exact br_f (nI_nlt he (by omega)) (br_f (by decide) (br_t rfl hp))
theorem ss_m_peekReceive (I : (ss_INV oL cL wL bL n lg kd au bs tg sp pp ow oc ol oa lo lc rc br cm ch cc vc ro cd yc rl)) (v1 : Int32) : ∃ r : Int32, (∀ post : Int32 → SX → Prop, post r ((nI oL), (nI cL), (nI wL), (nI bL), (nI n), (nI (rl.length)), (nI lg), (ss_li kd), (ss_li au), (ss_li pl), (ss_li bs), (ss_li tg), cd, (ss_li sp), (ss_li pp), (ss_li ow), (ss_li oc), (ss_li ol), (ss_li oa), (ss_li lo), la, (ss_li lc), (ss_li rc), (ss_li br), (ss_li cm), (ss_li ch), (ss_li cc), (ss_li vc)) → wpX_peekReceive post ((nI oL), (nI cL), (nI wL), (nI bL), (nI n), (nI (rl.length)), (nI lg), (ss_li kd), (ss_li au), (ss_li pl), (ss_li bs), (ss_li tg), cd, (ss_li sp), (ss_li pp), (ss_li ow), (ss_li oc), (ss_li ol), (ss_li oa), (ss_li lo), la, (ss_li lc), (ss_li rc), (ss_li br), (ss_li cm), (ss_li ch), (ss_li cc), (ss_li vc)) v1) ∧ (∀ post : Int32 → Prop, post r → wpY_peekReceive post ((nI oL), (nI cL), (nI wL), (nI bL), (nI n), (nI (rl.length)), (nI lg), (ss_li kd), (ss_li au), (ss_li pl), (ss_li bs), (ss_li tg), yc, (ss_li ro), (ss_li lo), la, (ss_li rc)) v1) := by
  have P := ss_I_P I
  have B := ss_I_B I
  have R := ss_I_R I
  obtain ⟨hB1, hB2, hB3, hB4, hB5, hB6, hB7, hB8⟩ := ss_I_B I
  have hb : ∀ y, y ∈ rl → y < n := fun y hy => ss_I_lt I hy
  rcases pk_ix v1 (n := 3) (by omega) with h | h | ⟨c, hc, rfl⟩
  · refine ⟨-2, fun post hp => ?_, fun post hp => ?_⟩
    · unfold wpX_peekReceive; dsimp only; exact ss_x_rref0 (Or.inl h) (br_f (by decide) hp)
    · unfold wpY_peekReceive; dsimp only; exact ss_y_isClient0 (Or.inl h) (br_t rfl hp)
  · refine ⟨-2, fun post hp => ?_, fun post hp => ?_⟩
    · unfold wpX_peekReceive; dsimp only; exact ss_x_rref0 (Or.inr h) (br_f (by decide) hp)
    · unfold wpY_peekReceive; dsimp only; exact ss_y_isClient0 (Or.inr h) (br_t rfl hp)
  have hr := ss_P_rc P c
  have v : vp_in (nI c) 3 := vp_in_nI (by omega) (by omega)
  have e0 : ss_li rc (nI c).toNatClampNeg = nI (rc c) := ss_li_r rc (by omega)
  rcases Nat.lt_or_ge (rc c) lg with he | he
  case inr =>
    refine ⟨-8, fun post hp => ?_, fun post hp => ?_⟩
    · unfold wpX_peekReceive; dsimp only
      exact ss_x_rref I hc (fun _ => br_f (by decide) hp) (fun q => absurd q (by omega))
    · unfold wpY_peekReceive; dsimp only
      refine ss_y_isClient hc (br_f (by decide) ⟨v, ?_⟩)
      rw [e0]
      exact br_f (nI_nlt he (by omega)) hp
  obtain ⟨hq, _, _⟩ := ss_P_log P _ he
  have w1 : vp_in (nI (rc c)) 64 := vp_in_nI (by omega) (by omega)
  have w2 : vp_in (nI (lo (rc c))) 64 := vp_in_nI (by omega) (by omega)
  have ha3 := hB5 (lo (rc c))
  by_cases ha : au (lo (rc c)) = c
  · have ea : ss_li au (nI (lo (rc c))).toNatClampNeg = nI c := by rw [ss_li_r au (by omega), ha]
    refine ⟨-11, fun post hp => ?_, fun post hp => ?_⟩
    · unfold wpX_peekReceive; dsimp only
      exact ss_x_rref I hc (fun q => absurd q (by omega)) (fun _ => br_t rfl ⟨v, nm_r e0 ⟨w1, nm_r (ss_li_r lo (by omega)) ⟨w2, br_t ea hp⟩⟩⟩)
    · unfold wpY_peekReceive; dsimp only
      refine ss_y_isClient hc (br_f (by decide) ⟨v, ?_⟩)
      rw [e0]
      exact br_t (nI_lt he (by omega)) ⟨v, w1, nm_r (ss_li_r lo (by omega)) ⟨w2, br_t ea hp⟩⟩
  · have ea : ¬ ss_li au (nI (lo (rc c))).toNatClampNeg = nI c := by
      rw [ss_li_r au (by omega)]
      exact fun q => ha ((nI_eq (by omega) (by omega)).mp q)
    obtain ⟨pp', _, _, e3, hW1⟩ := ss_rcv_cross (pl := pl) (la := la) I (kp := 0) hc he ha (Or.inl rfl)
    rw [e3 rfl] at hW1
    refine ⟨ss_ans kd tg rl (ss_tx n kd tg (ss_ho n lg au lo rc c)) (lo (rc c)), fun post hp => ?_, fun post hp => ?_⟩
    · unfold wpX_peekReceive; dsimp only
      refine ss_x_rref I hc (fun q => absurd q (by omega)) (fun _ => br_t rfl ⟨v, nm_r e0 ⟨w1, nm_r (ss_li_r lo (by omega)) ⟨w2, br_f ea (hW1 _ ?_)⟩⟩⟩)
      exact ss_x_landing (s := c) (by omega) (by omega) R.1 (ss_P_tg P hq) B.2.2.2.2.2.1 (ss_rcv_kx I hc he) (ss_I_K I c (by omega)) hp
    · unfold wpY_peekReceive; dsimp only
      refine ss_y_isClient hc (br_f (by decide) ⟨v, ?_⟩)
      rw [e0]
      exact br_t (nI_lt he (by omega)) ⟨v, w1, nm_r (ss_li_r lo (by omega)) ⟨w2, br_f ea (ss_y_effect (s := c) B R (ss_P_nd P) (by omega) hb hq (ss_P_tg P hq) hp)⟩⟩
end
end
section
/-! drain -/
def ss_cX (F : Int32 → Int32 → Int32 → Int32 → Int32 → Int32 → Int32 → (Nat → Int32) → (Nat → Int32) → (Nat → Int32) → (Nat → Int32) → (Nat → Int32) → (Nat → Int32) → (Nat → Int32) → (Nat → Int32) → (Nat → Int32) → (Nat → Int32) → (Nat → Int32) → (Nat → Int32) → (Nat → Int32) → (Nat → Int32) → (Nat → Int32) → (Nat → Int32) → (Nat → Int32) → (Nat → Int32) → (Nat → Int32) → (Nat → Int32) → (Nat → Int32) → Prop) (u : SX) : Prop := match u with
  | (a1, a2, a3, a4, a5, a6, a7, a8, a9, a10, a11, a12, a13, a14, a15, a16, a17, a18, a19, a20, a21, a22, a23, a24, a25, a26, a27, a28) => F a1 a2 a3 a4 a5 a6 a7 a8 a9 a10 a11 a12 a13 a14 a15 a16 a17 a18 a19 a20 a21 a22 a23 a24 a25 a26 a27 a28
def ss_cY (F : Int32 → Int32 → Int32 → Int32 → Int32 → Int32 → Int32 → (Nat → Int32) → (Nat → Int32) → (Nat → Int32) → (Nat → Int32) → (Nat → Int32) → (Nat → Int32) → (Nat → Int32) → (Nat → Int32) → (Nat → Int32) → (Nat → Int32) → Prop) (v : SY) : Prop := match v with
  | (b1, b2, b3, b4, b5, b6, b7, b8, b9, b10, b11, b12, b13, b14, b15, b16, b17) => F b1 b2 b3 b4 b5 b6 b7 b8 b9 b10 b11 b12 b13 b14 b15 b16 b17

theorem ss_d_idle {lg c : Nat} {rc : Nat → Nat} {u : SX} {v : SY} (hR : ss_RR lg rc u v) (hc : c < 3) (he : rc c = lg) :
    ∀ d m, m + d = 64 → ∀ f, d < f → ∀ (post : Int32 → SY → Prop) J4 J12 (x2 x1 : Int32), ss_cY (J12 x1 (nI c + 1)) v → ss_cY (wY_drain_20 post J4 J12 x2 (nI c) f x1 (nI m)) v := by
  refine ss_el (Q := fun u v => ∀ d m, m + d = 64 → ∀ f, d < f → ∀ (post : Int32 → SY → Prop) J4 J12 (x2 x1 : Int32), ss_cY (J12 x1 (nI c + 1)) v → ss_cY (wY_drain_20 post J4 J12 x2 (nI c) f x1 (nI m)) v) ?_ hR
  intro oL cL wL bL n kd au pl bs tg sp pp ow oc ol oa lo lc br cm ch cc vc ro cd la yc rl I
  have hlg : lg ≤ 64 := (ss_I_B I).2.1
  have hr := ss_P_rc (ss_I_P I) c
  intro d
  induction d with
  | zero =>
    intro m hm f hf post J4 J12 x2 x1 hp
    obtain ⟨f, rfl, _⟩ := ss_fu hf
    exact br_t (nI_le (a := 64) (by omega) (by omega)) (nm_e hp)
  | succ d ih =>
    intro m hm f hf post J4 J12 x2 x1 hp
    obtain ⟨f, rfl, hg⟩ := ss_fu hf
    refine br_f (nI_ge (b := 64) (by omega) (by omega)) (ss_y_downlink hr hlg hc ?_)
    rw [he, Nat.sub_self]
    exact br_t (by decide) (nm_r (nI_1 m) (ih (m + 1) (by omega) f (by omega) post J4 J12 x2 x1 hp))
theorem ss_d_recv {lg c : Nat} (hc : c < 3) : ∀ d (u : SX) (v : SY) (rc : Nat → Nat), ss_RR lg rc u v → rc c + d = lg →
    ∃ (u' : SX) (v' : SY), ss_Rel u' v' ∧
      (∀ i f, d < f → i + d ≤ 64 → ∀ post : Int32 → SX → Prop, post (nI (i + d)) u' → ss_cX (wX_receiveAll_14 post (nI c) (nI (i + d)) f (nI i)) u) ∧
      (∀ m f, m + d ≤ 64 → 64 - m < f → ∀ (post : Int32 → SY → Prop) J4 J12 (x2 x1 : Int32), ss_cY (J12 (x1 + nI d) (nI c + 1)) v' → ss_cY (wY_drain_20 post J4 J12 x2 (nI c) f x1 (nI m)) v) := by
  intro d
  induction d with
  | zero =>
    intro u v rc hR he
    refine ⟨u, v, ⟨lg, rc, hR⟩, ?_, fun m f h1 h2 post J4 J12 x2 x1 hp => ?_⟩
    · intro i f hf hi post hp
      obtain ⟨f, rfl, _⟩ := ss_fu hf
      obtain ⟨a1, a2, a3, a4, a5, a6, a7, a8, a9, a10, a11, a12, a13, a14, a15, a16, a17, a18, a19, a20, a21, a22, a23, a24, a25, a26, a27, a28⟩ := u
      exact br_t (nI_le (Nat.le_refl _) (by omega)) hp
    · rw [nI_0, Int32.add_zero] at hp
      exact ss_d_idle hR hc (by omega) (64 - m) m (by omega) f h2 post J4 J12 x2 x1 hp
  | succ d ih =>
    intro u v rc hR he
    refine ss_el (Q := fun u v => ∃ (u' : SX) (v' : SY), ss_Rel u' v' ∧
      (∀ i f, d + 1 < f → i + (d + 1) ≤ 64 → ∀ post : Int32 → SX → Prop, post (nI (i + (d + 1))) u' → ss_cX (wX_receiveAll_14 post (nI c) (nI (i + (d + 1))) f (nI i)) u) ∧
      (∀ m f, m + (d + 1) ≤ 64 → 64 - m < f → ∀ (post : Int32 → SY → Prop) J4 J12 (x2 x1 : Int32), ss_cY (J12 (x1 + nI (d + 1)) (nI c + 1)) v' → ss_cY (wY_drain_20 post J4 J12 x2 (nI c) f x1 (nI m)) v)) ?_ hR
    intro oL cL wL bL n kd au pl bs tg sp pp ow oc ol oa lo lc br cm ch cc vc ro cd la yc rl I
    have hlg : lg ≤ 64 := (ss_I_B I).2.1
    have hr := ss_P_rc (ss_I_P I) c
    obtain ⟨r, u1, v1, hR1, hX, hY⟩ := ss_m_recv (pl := pl) (la := la) I hc (by omega)
    obtain ⟨u', v', hR', gX, gY⟩ := ih u1 v1 _ hR1 (by rw [ss_un_s]; omega)
    refine ⟨u', v', hR', ?_, ?_⟩
    · intro i f hf hi post hp
      obtain ⟨f, rfl, hg⟩ := ss_fu hf
      refine br_f (nI_ge (by omega) (by omega)) (hX _ ?_)
      have g := gX (i + 1) f (by omega) (by omega) post (by rw [show i + 1 + d = i + (d + 1) by omega]; exact hp)
      rw [show i + 1 + d = i + (d + 1) by omega] at g
      clear hX gX hR1
      obtain ⟨a1, a2, a3, a4, a5, a6, a7, a8, a9, a10, a11, a12, a13, a14, a15, a16, a17, a18, a19, a20, a21, a22, a23, a24, a25, a26, a27, a28⟩ := u1
      exact nm_r (nI_1 i) g
    · intro m f h1 h2 post J4 J12 x2 x1 hp
      obtain ⟨f, rfl, hg⟩ := ss_fu h2
      have e1 : x1 + 1 + nI d = x1 + nI (d + 1) := by
        rw [Int32.add_assoc, show (1 : Int32) + nI d = nI (1 + d) from nI_add 1 d, Nat.add_comm 1 d]
      have g := gY (m + 1) f (by omega) (by omega) post J4 J12 x2 (x1 + 1) (by rw [e1]; exact hp)
      refine br_f (nI_ge (b := 64) (by omega) (by omega)) (ss_y_downlink hr hlg hc (br_f (nI_nle (by omega) (by omega)) (hY _ ?_)))
      clear hY gY hR1
      obtain ⟨b1, b2, b3, b4, b5, b6, b7, b8, b9, b10, b11, b12, b13, b14, b15, b16, b17⟩ := v1
      exact nm_e (nm_r (nI_1 m) g)
theorem ss_d_all {u : SX} {v : SY} {c : Nat} (hc : c < 3) (hR : ss_Rel u v) : ∃ (u' : SX) (v' : SY) (s : Int32), ss_Rel u' v' ∧
    (∀ post : Int32 → SX → Prop, post s u' → wpX_receiveAll post u (nI c)) ∧
    (∀ f, 64 < f → ∀ (post : Int32 → SY → Prop) J4 J12 (x2 x1 : Int32), ss_cY (J12 (x1 + s) (nI (c + 1))) v' → ss_cY (wY_drain_20 post J4 J12 x2 (nI c) f x1 0) v) := by
  obtain ⟨lg, rc, hR⟩ := hR
  refine ss_el (Q := fun u v => ss_RR lg rc u v → ∃ (u' : SX) (v' : SY) (s : Int32), ss_Rel u' v' ∧
    (∀ post : Int32 → SX → Prop, post s u' → wpX_receiveAll post u (nI c)) ∧
    (∀ f, 64 < f → ∀ (post : Int32 → SY → Prop) J4 J12 (x2 x1 : Int32), ss_cY (J12 (x1 + s) (nI (c + 1))) v' → ss_cY (wY_drain_20 post J4 J12 x2 (nI c) f x1 0) v)) ?_ hR hR
  intro oL cL wL bL n kd au pl bs tg sp pp ow oc ol oa lo lc br cm ch cc vc ro cd la yc rl I hR
  have hlg : lg ≤ 64 := (ss_I_B I).2.1
  have hr := ss_P_rc (ss_I_P I) c
  obtain ⟨u', v', hR', gX, gY⟩ := ss_d_recv hc (lg - rc c) _ _ rc hR (by omega)
  refine ⟨u', v', nI (lg - rc c), hR', fun post hp => ?_, fun f hf post J4 J12 x2 x1 hp => ?_⟩
  · have g := gX 0 66 (by omega) (by omega) post (by rw [Nat.zero_add]; exact hp)
    rw [Nat.zero_add] at g
    exact ⟨vp_in_nI (by omega) (by omega), nm_r (by rw [ss_li_r rc (by omega), pk_sub hr]) ⟨66, g⟩⟩
  · exact gY 0 f (by omega) (by omega) post J4 J12 x2 x1 (by rw [nI_1]; exact hp)
end
section
theorem ss_d_stepX {c f : Nat} {u u1 : SX} {s1 x1 x2 : Int32} {post : Int32 → SX → Prop} {J4 : Int32 → Int32 → Int32 → Int32 → Int32 → Int32 → Int32 → Int32 → Int32 → (Nat → Int32) → (Nat → Int32) → (Nat → Int32) → (Nat → Int32) → (Nat → Int32) → (Nat → Int32) → (Nat → Int32) → (Nat → Int32) → (Nat → Int32) → (Nat → Int32) → (Nat → Int32) → (Nat → Int32) → (Nat → Int32) → (Nat → Int32) → (Nat → Int32) → (Nat → Int32) → (Nat → Int32) → (Nat → Int32) → (Nat → Int32) → (Nat → Int32) → (Nat → Int32) → Prop} (hc : c < 3) (gX : ∀ post : Int32 → SX → Prop, post s1 u1 → wpX_receiveAll post u (nI c))
    (k : ss_cX (wX_drain_12 post J4 x2 f (x1 + s1) (nI (c + 1))) u1) : ss_cX (wX_drain_12 post J4 x2 (f + 1) x1 (nI c)) u := by
  obtain ⟨a1, a2, a3, a4, a5, a6, a7, a8, a9, a10, a11, a12, a13, a14, a15, a16, a17, a18, a19, a20, a21, a22, a23, a24, a25, a26, a27, a28⟩ := u
  obtain ⟨d1, d2, d3, d4, d5, d6, d7, d8, d9, d10, d11, d12, d13, d14, d15, d16, d17, d18, d19, d20, d21, d22, d23, d24, d25, d26, d27, d28⟩ := u1
  exact br_f (nI_ge (b := 3) (by omega) (by omega)) (gX _ (nm_e (nm_r (nI_1 c) k)))
theorem ss_d_stepY {c f : Nat} {v : SY} {x1 x2 : Int32} {post : Int32 → SY → Prop} {J4 : Int32 → Int32 → Int32 → Int32 → Int32 → Int32 → Int32 → Int32 → Int32 → (Nat → Int32) → (Nat → Int32) → (Nat → Int32) → (Nat → Int32) → (Nat → Int32) → (Nat → Int32) → (Nat → Int32) → (Nat → Int32) → (Nat → Int32) → (Nat → Int32) → Prop} (hc : c < 3)
    (g : ss_cY (wY_drain_20 post J4 (wY_drain_12 post J4 x2 f) x2 (nI c) 65 x1 0) v) : ss_cY (wY_drain_12 post J4 x2 (f + 1) x1 (nI c)) v := by
  obtain ⟨b1, b2, b3, b4, b5, b6, b7, b8, b9, b10, b11, b12, b13, b14, b15, b16, b17⟩ := v
  exact br_f (nI_ge (b := 3) (by omega) (by omega)) ⟨65, g⟩
theorem ss_d_three : ∀ d c, c + d = 3 → ∀ (u : SX) (v : SY), ss_Rel u v → ∃ (u' : SX) (v' : SY) (s : Int32), ss_Rel u' v' ∧
    (∀ f, d < f → ∀ (post : Int32 → SX → Prop) J4 (x2 x1 : Int32), (∀ g, ss_cX (wX_drain_12 post J4 x2 (g + 1) (x1 + s) 3) u') → ss_cX (wX_drain_12 post J4 x2 f x1 (nI c)) u) ∧
    (∀ f, d < f → ∀ (post : Int32 → SY → Prop) J4 (x2 x1 : Int32), (∀ g, ss_cY (wY_drain_12 post J4 x2 (g + 1) (x1 + s) 3) v') → ss_cY (wY_drain_12 post J4 x2 f x1 (nI c)) v) := by
  intro d
  induction d with
  | zero =>
    intro c hc u v hR
    have : c = 3 := by omega
    subst this
    refine ⟨u, v, 0, hR, fun f hf post J4 x2 x1 hp => ?_, fun f hf post J4 x2 x1 hp => ?_⟩
    · obtain ⟨f, rfl, _⟩ := ss_fu hf
      have h := hp f
      rw [Int32.add_zero] at h; exact h
    · obtain ⟨f, rfl, _⟩ := ss_fu hf
      have h := hp f
      rw [Int32.add_zero] at h; exact h
  | succ d ih =>
    intro c hc u v hR
    obtain ⟨u1, v1, s1, hR1, gX, gY⟩ := ss_d_all (c := c) (by omega) hR
    obtain ⟨u', v', s', hR', kX, kY⟩ := ih (c + 1) (by omega) u1 v1 hR1
    refine ⟨u', v', s1 + s', hR', fun f hf post J4 x2 x1 hp => ?_, fun f hf post J4 x2 x1 hp => ?_⟩
    · obtain ⟨f, rfl, hg⟩ := ss_fu hf
      have k := kX f (by omega) post J4 x2 (x1 + s1) (fun g => by rw [Int32.add_assoc]; exact hp g)
      clear kX kY gY hR hR1 hp
      exact ss_d_stepX (by omega) gX k
    · obtain ⟨f, rfl, hg⟩ := ss_fu hf
      have k := kY f (by omega) post J4 x2 (x1 + s1) (fun g => by rw [Int32.add_assoc]; exact hp g)
      have g := gY 65 (by omega) post J4 (wY_drain_12 post J4 x2 f) x2 x1 k
      clear kX kY gX gY hR hR1 hp k
      exact ss_d_stepY (by omega) g
end
section
section
variable {oL cL wL bL n lg : Nat} {kd au bs tg sp pp ow oc ol oa lo lc rc br cm ch cc vc ro pl : Nat → Nat} {cd yc la : Nat → Int32} {rl : List Nat}
theorem ss_x_low {post : Int32 → Prop} (I : (ss_INV oL cL wL bL n lg kd au bs tg sp pp ow oc ol oa lo lc rc br cm ch cc vc ro cd yc rl)) {c : Nat} (hc : c < 3) (h1 : ∀ j, j < c → ss_cn au j n ≤ ss_cn (fun j => au (lo j)) j lg) (h2 : ss_cn (fun j => au (lo j)) c lg < ss_cn au c n) (hp : post (nI c)) :
    ∀ d o, o + d = c → ∀ f, d < f → wX_lowestWithUplink_2 post (nI oL) (nI cL) (nI wL) (nI bL) (nI n) (nI (rl.length)) (nI lg) (ss_li kd) (ss_li au) (ss_li pl) (ss_li bs) (ss_li tg) cd (ss_li sp) (ss_li pp) (ss_li ow) (ss_li oc) (ss_li ol) (ss_li oa) (ss_li lo) la (ss_li lc) (ss_li rc) (ss_li br) (ss_li cm) (ss_li ch) (ss_li cc) (ss_li vc) f (nI o) := by
  intro d
  induction d with
  | zero =>
    intro o ho f hf
    obtain ⟨f, rfl, _⟩ := ss_fu hf
    have : o = c := by omega
    subst this
    have v : vp_in (nI o) 3 := vp_in_nI (by omega) (by omega)
    obtain ⟨g1, g2, g3⟩ := ss_I_C I o hc
    have hcn := ss_cn_le au o n
    have hn : n ≤ 64 := (ss_I_B I).1
    refine br_f (nI_ge (b := 3) (by omega) (by omega)) ⟨v, v, br_f ?_ hp⟩
    rw [ss_li_r oc (by omega), ss_li_r ol (by omega), g1, g2]
    exact nI_ge h2 (by omega)
  | succ d ih =>
    intro o ho f hf
    obtain ⟨f, rfl, hg⟩ := ss_fu hf
    have v : vp_in (nI o) 3 := vp_in_nI (by omega) (by omega)
    obtain ⟨g1, g2, g3⟩ := ss_I_C I o (by omega)
    have hle := ss_ol_le (ss_I_P I) (c := o) (Nat.le_refl lg)
    have hcn := ss_cn_le au o n
    have hn : n ≤ 64 := (ss_I_B I).1
    refine br_f (nI_ge (b := 3) (by omega) (by omega)) ⟨v, v, br_t ?_ (nm_r (nI_1 o) (ih (o + 1) (by omega) f (by omega)))⟩
    rw [ss_li_r oc (by omega), ss_li_r ol (by omega), g1, g2]
    exact nI_le (h1 o (by omega)) (by omega)
theorem ss_x_lown {post : Int32 → Prop} (I : (ss_INV oL cL wL bL n lg kd au bs tg sp pp ow oc ol oa lo lc rc br cm ch cc vc ro cd yc rl)) (h1 : ∀ j, j < 3 → ss_cn au j n ≤ ss_cn (fun j => au (lo j)) j lg) (hp : post (-1)) :
    ∀ d o, o + d = 3 → ∀ f, d < f → wX_lowestWithUplink_2 post (nI oL) (nI cL) (nI wL) (nI bL) (nI n) (nI (rl.length)) (nI lg) (ss_li kd) (ss_li au) (ss_li pl) (ss_li bs) (ss_li tg) cd (ss_li sp) (ss_li pp) (ss_li ow) (ss_li oc) (ss_li ol) (ss_li oa) (ss_li lo) la (ss_li lc) (ss_li rc) (ss_li br) (ss_li cm) (ss_li ch) (ss_li cc) (ss_li vc) f (nI o) := by
  intro d
  induction d with
  | zero =>
    intro o ho f hf
    obtain ⟨f, rfl, _⟩ := ss_fu hf
    exact br_t (nI_le (a := 3) (by omega) (by omega)) hp
  | succ d ih =>
    intro o ho f hf
    obtain ⟨f, rfl, hg⟩ := ss_fu hf
    have v : vp_in (nI o) 3 := vp_in_nI (by omega) (by omega)
    obtain ⟨g1, g2, g3⟩ := ss_I_C I o (by omega)
    have hle := ss_ol_le (ss_I_P I) (c := o) (Nat.le_refl lg)
    have hcn := ss_cn_le au o n
    have hn : n ≤ 64 := (ss_I_B I).1
    refine br_f (nI_ge (b := 3) (by omega) (by omega)) ⟨v, v, br_t ?_ (nm_r (nI_1 o) (ih (o + 1) (by omega) f (by omega)))⟩
    rw [ss_li_r oc (by omega), ss_li_r ol (by omega), g1, g2]
    exact nI_le (h1 o (by omega)) (by omega)
theorem ss_p_neg0 : ss_p 0 < 0 := by decide
theorem ss_p_pos (i : Nat) (h : i < 100) : ¬ ss_p (i + 1) < 0 := by rw [ss_p_s]; exact nI_pos (by omega)
theorem ss_y_61a (I : (ss_INV oL cL wL bL n lg kd au bs tg sp pp ow oc ol oa lo lc rc br cm ch cc vc ro cd yc rl)) {post : Int32 → SY → Prop} {J4 : Int32 → Int32 → Int32 → Int32 → Int32 → Int32 → Int32 → Int32 → Int32 → (Nat → Int32) → (Nat → Int32) → (Nat → Int32) → (Nat → Int32) → (Nat → Int32) → (Nat → Int32) → (Nat → Int32) → (Nat → Int32) → (Nat → Int32) → (Nat → Int32) → Prop} {x1 x2 x3 : Int32} :
    ∀ i, i ≤ 3 → (∀ j, j < i → ss_cn au j n ≤ ss_cn (fun j => au (lo j)) j lg) → (∀ f, wY_drain_61 post J4 x1 x2 (nI oL) (nI cL) (nI wL) (nI bL) (nI n) (nI (rl.length)) (nI lg) (ss_li kd) (ss_li au) (ss_li pl) (ss_li bs) (ss_li tg) yc (ss_li ro) (ss_li lo) la (ss_li rc) (f + 1) x3 (ss_p 0)) → ∀ f, i < f → wY_drain_61 post J4 x1 x2 (nI oL) (nI cL) (nI wL) (nI bL) (nI n) (nI (rl.length)) (nI lg) (ss_li kd) (ss_li au) (ss_li pl) (ss_li bs) (ss_li tg) yc (ss_li ro) (ss_li lo) la (ss_li rc) f x3 (ss_p i) := by
  intro i
  induction i with
  | zero =>
    intro hi hj hp f hf
    obtain ⟨f, rfl, _⟩ := ss_fu hf
    exact hp f
  | succ i ih =>
    intro hi hj hp f hf
    obtain ⟨f, rfl, hg⟩ := ss_fu hf
    refine br_f (ss_p_pos i (by omega)) ?_
    have h := hj i (by omega)
    rw [ss_p_s]
    refine ss_y_uplink (ss_I_P I) (ss_I_B I) (by omega) ?_
    rw [Nat.sub_eq_zero_of_le h]
    refine br_t (by decide) (nm_r (e' := ss_p i) ?_ (ih (by omega) (fun j hj' => hj j (by omega)) hp f (by omega)))
    rw [← ss_p_s]; exact ss_p_d i
theorem ss_y_61b (I : (ss_INV oL cL wL bL n lg kd au bs tg sp pp ow oc ol oa lo lc rc br cm ch cc vc ro cd yc rl)) {post : Int32 → SY → Prop} {J4 : Int32 → Int32 → Int32 → Int32 → Int32 → Int32 → Int32 → Int32 → Int32 → (Nat → Int32) → (Nat → Int32) → (Nat → Int32) → (Nat → Int32) → (Nat → Int32) → (Nat → Int32) → (Nat → Int32) → (Nat → Int32) → (Nat → Int32) → (Nat → Int32) → Prop} {x1 x2 : Int32} {c : Nat} (h1 : ∀ j, j < c → ss_cn au j n ≤ ss_cn (fun j => au (lo j)) j lg) (h2 : ss_cn (fun j => au (lo j)) c lg < ss_cn au c n)
    (hp : ∀ f, wY_drain_61 post J4 x1 x2 (nI oL) (nI cL) (nI wL) (nI bL) (nI n) (nI (rl.length)) (nI lg) (ss_li kd) (ss_li au) (ss_li pl) (ss_li bs) (ss_li tg) yc (ss_li ro) (ss_li lo) la (ss_li rc) (f + 1) (nI c) (ss_p 0)) : ∀ i, i ≤ 3 → c < i → ∀ (x3 : Int32) f, i < f → wY_drain_61 post J4 x1 x2 (nI oL) (nI cL) (nI wL) (nI bL) (nI n) (nI (rl.length)) (nI lg) (ss_li kd) (ss_li au) (ss_li pl) (ss_li bs) (ss_li tg) yc (ss_li ro) (ss_li lo) la (ss_li rc) f x3 (ss_p i) := by
  intro i
  induction i with
  | zero => intro _ h; omega
  | succ i ih =>
    intro hi hci x3 f hf
    obtain ⟨f, rfl, hg⟩ := ss_fu hf
    have hn : n ≤ 64 := (ss_I_B I).1
    have hcn := ss_cn_le au i n
    refine br_f (ss_p_pos i (by omega)) ?_
    rw [ss_p_s]
    refine ss_y_uplink (ss_I_P I) (ss_I_B I) (by omega) ?_
    have e : nI i + (-1) = ss_p i := by rw [← ss_p_s]; exact ss_p_d i
    by_cases ec : i = c
    · subst ec
      exact br_f (nI_nle (by omega) (by omega)) (nm_r e (ss_y_61a I i (by omega) h1 hp f (by omega)))
    · refine pk_le (ss_cn au i n - ss_cn (fun j => au (lo j)) i lg) 0 (fun _ => nm_r e (ih (by omega) (by omega) _ f (by omega))) (fun _ => nm_r e (ih (by omega) (by omega) _ f (by omega)))
theorem ss_d_last (I : (ss_INV oL cL wL bL n lg kd au bs tg sp pp ow oc ol oa lo lc rc br cm ch cc vc ro cd yc rl)) : (∃ (u' : SX) (v' : SY), ss_Rel u' v' ∧
      (∀ f (post : Int32 → SX → Prop) (J4 : Int32 → Int32 → Int32 → Int32 → Int32 → Int32 → Int32 → Int32 → Int32 → (Nat → Int32) → (Nat → Int32) → (Nat → Int32) → (Nat → Int32) → (Nat → Int32) → (Nat → Int32) → (Nat → Int32) → (Nat → Int32) → (Nat → Int32) → (Nat → Int32) → (Nat → Int32) → (Nat → Int32) → (Nat → Int32) → (Nat → Int32) → (Nat → Int32) → (Nat → Int32) → (Nat → Int32) → (Nat → Int32) → (Nat → Int32) → (Nat → Int32) → (Nat → Int32) → Prop) (x2 x1 : Int32), ss_cX (J4 (x1 + 1) (x2 + 1)) u' → wX_drain_12 post J4 x2 (f + 1) x1 3 (nI oL) (nI cL) (nI wL) (nI bL) (nI n) (nI (rl.length)) (nI lg) (ss_li kd) (ss_li au) (ss_li pl) (ss_li bs) (ss_li tg) cd (ss_li sp) (ss_li pp) (ss_li ow) (ss_li oc) (ss_li ol) (ss_li oa) (ss_li lo) la (ss_li lc) (ss_li rc) (ss_li br) (ss_li cm) (ss_li ch) (ss_li cc) (ss_li vc)) ∧
      (∀ f (post : Int32 → SY → Prop) (J4 : Int32 → Int32 → Int32 → Int32 → Int32 → Int32 → Int32 → Int32 → Int32 → (Nat → Int32) → (Nat → Int32) → (Nat → Int32) → (Nat → Int32) → (Nat → Int32) → (Nat → Int32) → (Nat → Int32) → (Nat → Int32) → (Nat → Int32) → (Nat → Int32) → Prop) (x2 x1 : Int32), ss_cY (J4 (x1 + 1) (x2 + 1)) v' → wY_drain_12 post J4 x2 (f + 1) x1 3 (nI oL) (nI cL) (nI wL) (nI bL) (nI n) (nI (rl.length)) (nI lg) (ss_li kd) (ss_li au) (ss_li pl) (ss_li bs) (ss_li tg) yc (ss_li ro) (ss_li lo) la (ss_li rc))) ∨
    ((∀ f (post : Int32 → SX → Prop) (J4 : Int32 → Int32 → Int32 → Int32 → Int32 → Int32 → Int32 → Int32 → Int32 → (Nat → Int32) → (Nat → Int32) → (Nat → Int32) → (Nat → Int32) → (Nat → Int32) → (Nat → Int32) → (Nat → Int32) → (Nat → Int32) → (Nat → Int32) → (Nat → Int32) → (Nat → Int32) → (Nat → Int32) → (Nat → Int32) → (Nat → Int32) → (Nat → Int32) → (Nat → Int32) → (Nat → Int32) → (Nat → Int32) → (Nat → Int32) → (Nat → Int32) → (Nat → Int32) → Prop) (x2 x1 : Int32), post x1 ((nI oL), (nI cL), (nI wL), (nI bL), (nI n), (nI (rl.length)), (nI lg), (ss_li kd), (ss_li au), (ss_li pl), (ss_li bs), (ss_li tg), cd, (ss_li sp), (ss_li pp), (ss_li ow), (ss_li oc), (ss_li ol), (ss_li oa), (ss_li lo), la, (ss_li lc), (ss_li rc), (ss_li br), (ss_li cm), (ss_li ch), (ss_li cc), (ss_li vc)) → wX_drain_12 post J4 x2 (f + 1) x1 3 (nI oL) (nI cL) (nI wL) (nI bL) (nI n) (nI (rl.length)) (nI lg) (ss_li kd) (ss_li au) (ss_li pl) (ss_li bs) (ss_li tg) cd (ss_li sp) (ss_li pp) (ss_li ow) (ss_li oc) (ss_li ol) (ss_li oa) (ss_li lo) la (ss_li lc) (ss_li rc) (ss_li br) (ss_li cm) (ss_li ch) (ss_li cc) (ss_li vc)) ∧
      (∀ f (post : Int32 → SY → Prop) (J4 : Int32 → Int32 → Int32 → Int32 → Int32 → Int32 → Int32 → Int32 → Int32 → (Nat → Int32) → (Nat → Int32) → (Nat → Int32) → (Nat → Int32) → (Nat → Int32) → (Nat → Int32) → (Nat → Int32) → (Nat → Int32) → (Nat → Int32) → (Nat → Int32) → Prop) (x2 x1 : Int32), post x1 ((nI oL), (nI cL), (nI wL), (nI bL), (nI n), (nI (rl.length)), (nI lg), (ss_li kd), (ss_li au), (ss_li pl), (ss_li bs), (ss_li tg), yc, (ss_li ro), (ss_li lo), la, (ss_li rc)) → wY_drain_12 post J4 x2 (f + 1) x1 3 (nI oL) (nI cL) (nI wL) (nI bL) (nI n) (nI (rl.length)) (nI lg) (ss_li kd) (ss_li au) (ss_li pl) (ss_li bs) (ss_li tg) yc (ss_li ro) (ss_li lo) la (ss_li rc))) := by
  have c3 : (3 : Int32) ≤ 3 := by decide
  have served : ∀ c, c < 3 → (∀ j, j < c → ss_cn au j n ≤ ss_cn (fun j => au (lo j)) j lg) → ss_cn (fun j => au (lo j)) c lg < ss_cn au c n → (∃ (u' : SX) (v' : SY), ss_Rel u' v' ∧
      (∀ f (post : Int32 → SX → Prop) (J4 : Int32 → Int32 → Int32 → Int32 → Int32 → Int32 → Int32 → Int32 → Int32 → (Nat → Int32) → (Nat → Int32) → (Nat → Int32) → (Nat → Int32) → (Nat → Int32) → (Nat → Int32) → (Nat → Int32) → (Nat → Int32) → (Nat → Int32) → (Nat → Int32) → (Nat → Int32) → (Nat → Int32) → (Nat → Int32) → (Nat → Int32) → (Nat → Int32) → (Nat → Int32) → (Nat → Int32) → (Nat → Int32) → (Nat → Int32) → (Nat → Int32) → (Nat → Int32) → Prop) (x2 x1 : Int32), ss_cX (J4 (x1 + 1) (x2 + 1)) u' → wX_drain_12 post J4 x2 (f + 1) x1 3 (nI oL) (nI cL) (nI wL) (nI bL) (nI n) (nI (rl.length)) (nI lg) (ss_li kd) (ss_li au) (ss_li pl) (ss_li bs) (ss_li tg) cd (ss_li sp) (ss_li pp) (ss_li ow) (ss_li oc) (ss_li ol) (ss_li oa) (ss_li lo) la (ss_li lc) (ss_li rc) (ss_li br) (ss_li cm) (ss_li ch) (ss_li cc) (ss_li vc)) ∧
      (∀ f (post : Int32 → SY → Prop) (J4 : Int32 → Int32 → Int32 → Int32 → Int32 → Int32 → Int32 → Int32 → Int32 → (Nat → Int32) → (Nat → Int32) → (Nat → Int32) → (Nat → Int32) → (Nat → Int32) → (Nat → Int32) → (Nat → Int32) → (Nat → Int32) → (Nat → Int32) → (Nat → Int32) → Prop) (x2 x1 : Int32), ss_cY (J4 (x1 + 1) (x2 + 1)) v' → wY_drain_12 post J4 x2 (f + 1) x1 3 (nI oL) (nI cL) (nI wL) (nI bL) (nI n) (nI (rl.length)) (nI lg) (ss_li kd) (ss_li au) (ss_li pl) (ss_li bs) (ss_li tg) yc (ss_li ro) (ss_li lo) la (ss_li rc))) := by
    intro c hc h1 h2
    obtain ⟨r, u', v', hR, hX, hY⟩ := ss_m_serve (pl := pl) (la := la) I (nI c)
    have hc1 : ¬ nI c = -1 := fun q => absurd (show nI c < 0 by rw [q]; decide) (nI_pos (by omega))
    refine ⟨u', v', hR, fun f post J4 x2 x1 hp => ?_, fun f post J4 x2 x1 hp => ?_⟩
    · refine br_t c3 ⟨4, ss_x_low I hc h1 h2 (br_t (nI_pos' (by omega)) (hX _ ?_)) c 0 (by omega) 4 (by omega)⟩
      clear hX hR
      obtain ⟨a1, a2, a3, a4, a5, a6, a7, a8, a9, a10, a11, a12, a13, a14, a15, a16, a17, a18, a19, a20, a21, a22, a23, a24, a25, a26, a27, a28⟩ := u'
      exact nm_e (nm_e hp)
    · refine br_t c3 ⟨4, ss_y_61b I h1 h2 (fun f => br_t ss_p_neg0 (br_f hc1 (hY _ ?_))) 3 (Nat.le_refl _) hc (-1) 4 (by omega)⟩
      clear hY hR
      obtain ⟨b1, b2, b3, b4, b5, b6, b7, b8, b9, b10, b11, b12, b13, b14, b15, b16, b17⟩ := v'
      exact nm_e (nm_e hp)
  rcases Nat.lt_or_ge (ss_cn (fun j => au (lo j)) 0 lg) (ss_cn au 0 n) with y0 | y0
  · exact Or.inl (served 0 (by omega) (fun j hj => absurd hj (Nat.not_lt_zero j)) y0)
  · rcases Nat.lt_or_ge (ss_cn (fun j => au (lo j)) 1 lg) (ss_cn au 1 n) with y1 | y1
    · refine Or.inl (served 1 (by omega) (fun j hj => ?_) y1)
      have : j = 0 := by omega
      subst this; exact y0
    · rcases Nat.lt_or_ge (ss_cn (fun j => au (lo j)) 2 lg) (ss_cn au 2 n) with y2 | y2
      · refine Or.inl (served 2 (by omega) (fun j hj => ?_) y2)
        have : j = 0 ∨ j = 1 := by omega
        rcases this with e | e
        · subst e; exact y0
        · subst e; exact y1
      · have hall : ∀ j, j < 3 → ss_cn au j n ≤ ss_cn (fun j => au (lo j)) j lg := fun j hj => by
          have : j = 0 ∨ j = 1 ∨ j = 2 := by omega
          rcases this with e | e | e
          · subst e; exact y0
          · subst e; exact y1
          · subst e; exact y2
        refine Or.inr ⟨fun f post J4 x2 x1 hp => ?_, fun f post J4 x2 x1 hp => ?_⟩
        · exact br_t c3 ⟨4, ss_x_lown I hall (br_f (by decide) hp) 3 0 rfl 4 (by omega)⟩
        · exact br_t c3 ⟨4, ss_y_61a I 3 (Nat.le_refl _) hall (fun f => br_t ss_p_neg0 (br_t rfl hp)) 4 (by omega)⟩
end
end
section
theorem ss_d_last2 {u : SX} {v : SY} (hR : ss_Rel u v) : (∃ (u' : SX) (v' : SY), ss_Rel u' v' ∧
      (∀ f (post : Int32 → SX → Prop) (J4 : Int32 → Int32 → Int32 → Int32 → Int32 → Int32 → Int32 → Int32 → Int32 → (Nat → Int32) → (Nat → Int32) → (Nat → Int32) → (Nat → Int32) → (Nat → Int32) → (Nat → Int32) → (Nat → Int32) → (Nat → Int32) → (Nat → Int32) → (Nat → Int32) → (Nat → Int32) → (Nat → Int32) → (Nat → Int32) → (Nat → Int32) → (Nat → Int32) → (Nat → Int32) → (Nat → Int32) → (Nat → Int32) → (Nat → Int32) → (Nat → Int32) → (Nat → Int32) → Prop) (x2 x1 : Int32), ss_cX (J4 (x1 + 1) (x2 + 1)) u' → ss_cX (wX_drain_12 post J4 x2 (f + 1) x1 3) u) ∧
      (∀ f (post : Int32 → SY → Prop) (J4 : Int32 → Int32 → Int32 → Int32 → Int32 → Int32 → Int32 → Int32 → Int32 → (Nat → Int32) → (Nat → Int32) → (Nat → Int32) → (Nat → Int32) → (Nat → Int32) → (Nat → Int32) → (Nat → Int32) → (Nat → Int32) → (Nat → Int32) → (Nat → Int32) → Prop) (x2 x1 : Int32), ss_cY (J4 (x1 + 1) (x2 + 1)) v' → ss_cY (wY_drain_12 post J4 x2 (f + 1) x1 3) v)) ∨
    ((∀ f (post : Int32 → SX → Prop) (J4 : Int32 → Int32 → Int32 → Int32 → Int32 → Int32 → Int32 → Int32 → Int32 → (Nat → Int32) → (Nat → Int32) → (Nat → Int32) → (Nat → Int32) → (Nat → Int32) → (Nat → Int32) → (Nat → Int32) → (Nat → Int32) → (Nat → Int32) → (Nat → Int32) → (Nat → Int32) → (Nat → Int32) → (Nat → Int32) → (Nat → Int32) → (Nat → Int32) → (Nat → Int32) → (Nat → Int32) → (Nat → Int32) → (Nat → Int32) → (Nat → Int32) → (Nat → Int32) → Prop) (x2 x1 : Int32), post x1 u → ss_cX (wX_drain_12 post J4 x2 (f + 1) x1 3) u) ∧
      (∀ f (post : Int32 → SY → Prop) (J4 : Int32 → Int32 → Int32 → Int32 → Int32 → Int32 → Int32 → Int32 → Int32 → (Nat → Int32) → (Nat → Int32) → (Nat → Int32) → (Nat → Int32) → (Nat → Int32) → (Nat → Int32) → (Nat → Int32) → (Nat → Int32) → (Nat → Int32) → (Nat → Int32) → Prop) (x2 x1 : Int32), post x1 v → ss_cY (wY_drain_12 post J4 x2 (f + 1) x1 3) v)) := by
  obtain ⟨lg, rc, hR⟩ := hR
  refine ss_el (Q := fun u v => (∃ (u' : SX) (v' : SY), ss_Rel u' v' ∧
      (∀ f (post : Int32 → SX → Prop) (J4 : Int32 → Int32 → Int32 → Int32 → Int32 → Int32 → Int32 → Int32 → Int32 → (Nat → Int32) → (Nat → Int32) → (Nat → Int32) → (Nat → Int32) → (Nat → Int32) → (Nat → Int32) → (Nat → Int32) → (Nat → Int32) → (Nat → Int32) → (Nat → Int32) → (Nat → Int32) → (Nat → Int32) → (Nat → Int32) → (Nat → Int32) → (Nat → Int32) → (Nat → Int32) → (Nat → Int32) → (Nat → Int32) → (Nat → Int32) → (Nat → Int32) → (Nat → Int32) → Prop) (x2 x1 : Int32), ss_cX (J4 (x1 + 1) (x2 + 1)) u' → ss_cX (wX_drain_12 post J4 x2 (f + 1) x1 3) u) ∧
      (∀ f (post : Int32 → SY → Prop) (J4 : Int32 → Int32 → Int32 → Int32 → Int32 → Int32 → Int32 → Int32 → Int32 → (Nat → Int32) → (Nat → Int32) → (Nat → Int32) → (Nat → Int32) → (Nat → Int32) → (Nat → Int32) → (Nat → Int32) → (Nat → Int32) → (Nat → Int32) → (Nat → Int32) → Prop) (x2 x1 : Int32), ss_cY (J4 (x1 + 1) (x2 + 1)) v' → ss_cY (wY_drain_12 post J4 x2 (f + 1) x1 3) v)) ∨
    ((∀ f (post : Int32 → SX → Prop) (J4 : Int32 → Int32 → Int32 → Int32 → Int32 → Int32 → Int32 → Int32 → Int32 → (Nat → Int32) → (Nat → Int32) → (Nat → Int32) → (Nat → Int32) → (Nat → Int32) → (Nat → Int32) → (Nat → Int32) → (Nat → Int32) → (Nat → Int32) → (Nat → Int32) → (Nat → Int32) → (Nat → Int32) → (Nat → Int32) → (Nat → Int32) → (Nat → Int32) → (Nat → Int32) → (Nat → Int32) → (Nat → Int32) → (Nat → Int32) → (Nat → Int32) → (Nat → Int32) → Prop) (x2 x1 : Int32), post x1 u → ss_cX (wX_drain_12 post J4 x2 (f + 1) x1 3) u) ∧
      (∀ f (post : Int32 → SY → Prop) (J4 : Int32 → Int32 → Int32 → Int32 → Int32 → Int32 → Int32 → Int32 → Int32 → (Nat → Int32) → (Nat → Int32) → (Nat → Int32) → (Nat → Int32) → (Nat → Int32) → (Nat → Int32) → (Nat → Int32) → (Nat → Int32) → (Nat → Int32) → (Nat → Int32) → Prop) (x2 x1 : Int32), post x1 v → ss_cY (wY_drain_12 post J4 x2 (f + 1) x1 3) v))) ?_ hR
  intro oL cL wL bL n kd au pl bs tg sp pp ow oc ol oa lo lc br cm ch cc vc ro cd la yc rl I
  exact ss_d_last I
theorem ss_d_outX {f : Nat} {u : SX} {x1 x2 : Int32} {post : Int32 → SX → Prop} (hlt : ¬ (64 : Int32) < x2) (g : ss_cX (wX_drain_12 post (wX_drain_4 post f) x2 4 x1 0) u) : ss_cX (wX_drain_4 post (f + 1) x1 x2) u := by
  obtain ⟨a1, a2, a3, a4, a5, a6, a7, a8, a9, a10, a11, a12, a13, a14, a15, a16, a17, a18, a19, a20, a21, a22, a23, a24, a25, a26, a27, a28⟩ := u
  exact br_f hlt ⟨4, g⟩
theorem ss_d_outY {f : Nat} {v : SY} {x1 x2 : Int32} {post : Int32 → SY → Prop} (hlt : ¬ (64 : Int32) < x2) (g : ss_cY (wY_drain_12 post (wY_drain_4 post f) x2 4 x1 0) v) : ss_cY (wY_drain_4 post (f + 1) x1 x2) v := by
  obtain ⟨b1, b2, b3, b4, b5, b6, b7, b8, b9, b10, b11, b12, b13, b14, b15, b16, b17⟩ := v
  exact br_f hlt ⟨4, g⟩
theorem ss_d_endX {f : Nat} {u : SX} {x1 x2 : Int32} {post : Int32 → SX → Prop} (hlt : (64 : Int32) < x2) (g : post x1 u) : ss_cX (wX_drain_4 post (f + 1) x1 x2) u := by
  obtain ⟨a1, a2, a3, a4, a5, a6, a7, a8, a9, a10, a11, a12, a13, a14, a15, a16, a17, a18, a19, a20, a21, a22, a23, a24, a25, a26, a27, a28⟩ := u
  exact br_t hlt g
theorem ss_d_endY {f : Nat} {v : SY} {x1 x2 : Int32} {post : Int32 → SY → Prop} (hlt : (64 : Int32) < x2) (g : post x1 v) : ss_cY (wY_drain_4 post (f + 1) x1 x2) v := by
  obtain ⟨b1, b2, b3, b4, b5, b6, b7, b8, b9, b10, b11, b12, b13, b14, b15, b16, b17⟩ := v
  exact br_t hlt g
theorem ss_d_topX {u : SX} {post : Int32 → SX → Prop} (g : ss_cX (wX_drain_4 post 66 0 0) u) : wpX_drain post u := by
  obtain ⟨a1, a2, a3, a4, a5, a6, a7, a8, a9, a10, a11, a12, a13, a14, a15, a16, a17, a18, a19, a20, a21, a22, a23, a24, a25, a26, a27, a28⟩ := u
  exact ⟨66, g⟩
theorem ss_d_topY {v : SY} {post : Int32 → SY → Prop} (g : ss_cY (wY_drain_4 post 66 0 0) v) : wpY_drain post v := by
  obtain ⟨b1, b2, b3, b4, b5, b6, b7, b8, b9, b10, b11, b12, b13, b14, b15, b16, b17⟩ := v
  exact ⟨66, g⟩
end
section
theorem ss_d_rounds : ∀ d k, k + d = 65 → ∀ (u : SX) (v : SY), ss_Rel u v → ∃ (u' : SX) (v' : SY) (s : Int32), ss_Rel u' v' ∧
    (∀ f, d < f → ∀ (post : Int32 → SX → Prop) (x1 : Int32), post (x1 + s) u' → ss_cX (wX_drain_4 post f x1 (nI k)) u) ∧
    (∀ f, d < f → ∀ (post : Int32 → SY → Prop) (x1 : Int32), post (x1 + s) v' → ss_cY (wY_drain_4 post f x1 (nI k)) v) := by
  intro d
  induction d with
  | zero =>
    intro k hk u v hR
    have hlt : (64 : Int32) < nI k := nI_lt (a := 64) (by omega) (by omega)
    refine ⟨u, v, 0, hR, fun f hf post x1 hp => ?_, fun f hf post x1 hp => ?_⟩
    · obtain ⟨f, rfl, _⟩ := ss_fu hf
      rw [Int32.add_zero] at hp
      exact ss_d_endX hlt hp
    · obtain ⟨f, rfl, _⟩ := ss_fu hf
      rw [Int32.add_zero] at hp
      exact ss_d_endY hlt hp
  | succ d ih =>
    intro k hk u v hR
    have hlt : ¬ (64 : Int32) < nI k := nI_nlt (b := k) (a := 64) (by omega) (by omega)
    obtain ⟨u1, v1, s1, hR1, kX, kY⟩ := ss_d_three 3 0 rfl u v hR
    rcases ss_d_last2 hR1 with ⟨u2, v2, hR2, lX, lY⟩ | ⟨lX, lY⟩
    · obtain ⟨u', v', s', hR', mX, mY⟩ := ih (k + 1) (by omega) u2 v2 hR2
      refine ⟨u', v', s1 + (1 + s'), hR', fun f hf post x1 hp => ?_, fun f hf post x1 hp => ?_⟩
      · obtain ⟨f, rfl, hg⟩ := ss_fu hf
        rw [← Int32.add_assoc, ← Int32.add_assoc] at hp
        have g1 := mX f (by omega) post (x1 + s1 + 1) hp
        rw [← nI_1] at g1
        have g3 := kX 4 (by omega) post (wX_drain_4 post f) (nI k) x1 (fun g => lX g post (wX_drain_4 post f) (nI k) (x1 + s1) g1)
        exact ss_d_outX hlt g3
      · obtain ⟨f, rfl, hg⟩ := ss_fu hf
        rw [← Int32.add_assoc, ← Int32.add_assoc] at hp
        have g1 := mY f (by omega) post (x1 + s1 + 1) hp
        rw [← nI_1] at g1
        have g3 := kY 4 (by omega) post (wY_drain_4 post f) (nI k) x1 (fun g => lY g post (wY_drain_4 post f) (nI k) (x1 + s1) g1)
        exact ss_d_outY hlt g3
    · refine ⟨u1, v1, s1, hR1, fun f hf post x1 hp => ?_, fun f hf post x1 hp => ?_⟩
      · obtain ⟨f, rfl, hg⟩ := ss_fu hf
        have g3 := kX 4 (by omega) post (wX_drain_4 post f) (nI k) x1 (fun g => lX g post (wX_drain_4 post f) (nI k) (x1 + s1) hp)
        exact ss_d_outX hlt g3
      · obtain ⟨f, rfl, hg⟩ := ss_fu hf
        have g3 := kY 4 (by omega) post (wY_drain_4 post f) (nI k) x1 (fun g => lY g post (wY_drain_4 post f) (nI k) (x1 + s1) hp)
        exact ss_d_outY hlt g3
theorem ss_m_drain {u : SX} {v : SY} (hR : ss_Rel u v) : ∃ (r : Int32) (u' : SX) (v' : SY), ss_Rel u' v' ∧
    (∀ post : Int32 → SX → Prop, post r u' → wpX_drain post u) ∧ (∀ post : Int32 → SY → Prop, post r v' → wpY_drain post v) := by
  obtain ⟨u', v', s, hR', mX, mY⟩ := ss_d_rounds 65 0 rfl u v hR
  refine ⟨s, u', v', hR', fun post hp => ?_, fun post hp => ?_⟩
  · exact ss_d_topX (mX 66 (by omega) post 0 (by rw [Int32.zero_add]; exact hp))
  · exact ss_d_topY (mY 66 (by omega) post 0 (by rw [Int32.zero_add]; exact hp))
end
section
/-! the constructors -/
theorem ss_cl (p : Int32) {a b : Nat} (hab : a ≤ b) (hb : b < 2 ^ 31) : ∃ w, a ≤ w ∧ w ≤ b ∧ (∀ (u : SX) (post : Int32 → Prop), post (nI w) → wpX_clamp post u p (nI a) (nI b)) ∧ (∀ (u : SY) (post : Int32 → Prop), post (nI w) → wpY_clamp post u p (nI a) (nI b)) := by
  by_cases h : nI a ≤ p
  · have h0 : ¬ p < 0 := fun q => absurd (Int32.lt_of_le_of_lt h q) (nI_pos (by omega))
    by_cases h2 : p ≤ nI b
    · obtain ⟨w, hw, rfl⟩ := nI_of h0
      have g1 := (nI_leI (by omega) hw).mp h
      have g2 := (nI_leI hw hb).mp h2
      refine ⟨w, g1, g2, fun u post hp => ?_, fun u post hp => ?_⟩
      · obtain ⟨a1, a2, a3, a4, a5, a6, a7, a8, a9, a10, a11, a12, a13, a14, a15, a16, a17, a18, a19, a20, a21, a22, a23, a24, a25, a26, a27, a28⟩ := u
        exact br_t h (br_t h2 hp)
      · obtain ⟨b1, b2, b3, b4, b5, b6, b7, b8, b9, b10, b11, b12, b13, b14, b15, b16, b17⟩ := u
        exact br_t h (br_t h2 hp)
    · refine ⟨b, hab, Nat.le_refl _, fun u post hp => ?_, fun u post hp => ?_⟩
      · obtain ⟨a1, a2, a3, a4, a5, a6, a7, a8, a9, a10, a11, a12, a13, a14, a15, a16, a17, a18, a19, a20, a21, a22, a23, a24, a25, a26, a27, a28⟩ := u
        exact br_t h (br_f h2 hp)
      · obtain ⟨b1, b2, b3, b4, b5, b6, b7, b8, b9, b10, b11, b12, b13, b14, b15, b16, b17⟩ := u
        exact br_t h (br_f h2 hp)
  · refine ⟨a, Nat.le_refl _, hab, fun u post hp => ?_, fun u post hp => ?_⟩
    · obtain ⟨a1, a2, a3, a4, a5, a6, a7, a8, a9, a10, a11, a12, a13, a14, a15, a16, a17, a18, a19, a20, a21, a22, a23, a24, a25, a26, a27, a28⟩ := u
      exact br_f h hp
    · obtain ⟨b1, b2, b3, b4, b5, b6, b7, b8, b9, b10, b11, b12, b13, b14, b15, b16, b17⟩ := u
      exact br_f h hp
theorem ss_I0 {oL cL wL bL : Nat} (h1 : oL ≤ 64) (h2 : cL ≤ 48) (h3 : wL ≤ 8) (h4 : bL ≤ 16) : ss_INV oL cL wL bL 0 0 (fun _ => 0) (fun _ => 0) (fun _ => 0) (fun _ => 0) (fun _ => 0) (fun _ => 0) (fun _ => 0) (fun _ => 0) (fun _ => 0) (fun _ => 0) (fun _ => 0) (fun _ => 0) (fun _ => 0) (fun _ => 0) (fun _ => 0) (fun _ => 0) (fun _ => 0) (fun _ => 0) (fun _ => 0) (fun _ => 0) (fun _ => 0) [] := by
  refine ⟨⟨fun i hi => absurd hi (Nat.not_lt_zero i), fun _ => Nat.le_refl _, fun z hz => absurd hz (Nat.not_lt_zero z), fun z w _ hw => absurd hw (Nat.not_lt_zero w), fun z hz => absurd hz (Nat.not_lt_zero z), List.nodup_nil, fun z => ⟨fun q => absurd q List.not_mem_nil, fun q => absurd q.1 (Nat.not_lt_zero z)⟩, fun a b ha => absurd ha (Nat.not_lt_zero a)⟩,
    ⟨by omega, by omega, fun _ => by show 0 ≤ 64; omega, fun _ => by show 0 < 256; omega, fun _ => by show 0 < 3; omega, fun _ => by show 0 < 256; omega, fun _ => by show 0 < 256; omega, fun _ => by show 0 < 256; omega⟩,
    ⟨by show 0 ≤ 48; omega, fun j hj => absurd hj (Nat.not_lt_zero j)⟩, fun z hz => absurd hz (Nat.not_lt_zero z), fun c _ => ⟨rfl, rfl, rfl⟩, fun z hz => absurd hz (Nat.not_lt_zero z), fun z hz => absurd hz (Nat.not_lt_zero z), fun i hi => absurd hi (Nat.not_lt_zero i), fun c i _ hi => absurd hi (Nat.not_lt_zero i),
    fun s _ => ⟨rfl, rfl, fun j hj => absurd hj (Nat.not_lt_zero j)⟩, fun _ => by show 0 ≤ 1; omega, fun z hz => absurd hz (Nat.not_lt_zero z), by omega, h1, by show 0 ≤ cL; omega, h2, h3, h4⟩
theorem ss_R0 {oL cL wL bL : Nat} (h1 : oL ≤ 64) (h2 : cL ≤ 48) (h3 : wL ≤ 8) (h4 : bL ≤ 16) :
    ss_Rel (nI oL, nI cL, nI wL, nI bL, 0, 0, 0, (fun _ => 0), (fun _ => 0), (fun _ => 0), (fun _ => 0), (fun _ => 0), (fun _ => 0), (fun _ => 0), (fun _ => 0), (fun _ => 0), (fun _ => 0), (fun _ => 0), (fun _ => 0), (fun _ => 0), (fun _ => 0), (fun _ => 0), (fun _ => 0), (fun _ => 0), (fun _ => 0), (fun _ => 0), (fun _ => 0), (fun _ => 0)) (nI oL, nI cL, nI wL, nI bL, 0, 0, 0, (fun _ => 0), (fun _ => 0), (fun _ => 0), (fun _ => 0), (fun _ => 0), (fun _ => 0), (fun _ => 0), (fun _ => 0), (fun _ => 0), (fun _ => 0)) :=
  ⟨0, fun _ => 0, ss_mk (pl := fun _ => 0) (la := fun _ => 0) (ss_I0 h1 h2 h3 h4)⟩
end
section
/-! what is owed: readers -/
def i_Rel (k : Nat) (u : SX) (v : SY) : Prop := ss_Rel u v
theorem i_up {k : Nat} {u : SX} {v : SY} (h : i_Rel k u v) : i_Rel (k + 4) u v := by
  exact h
theorem i_vc_length {k : Nat} {u : SX} {v : SY} (I : i_Rel k u v) (hk : k + 4 ≤ 2052) (v1 : Int32) : wpX_length (fun r => wpY_length (fun r' => r' = r ∧ i_Rel (k + 4) u v) v v1) u v1 := by
  have I0 : ss_Rel u v := I
  obtain ⟨lg, rc, hR⟩ := I0
  obtain ⟨r, hX, hY⟩ := ss_el (Q := fun u v => ∃ r : Int32, (∀ post : Int32 → Prop, post r → wpX_length post u v1) ∧ (∀ post : Int32 → Prop, post r → wpY_length post v v1)) (fun oL cL wL bL n kd au pl bs tg sp pp ow oc ol oa lo lc br cm ch cc vc ro cd la yc rl I => ss_m_length I v1) hR
  exact hX _ (hY _ ⟨rfl, I⟩)
theorem i_vc_charAt {k : Nat} {u : SX} {v : SY} (I : i_Rel k u v) (hk : k + 4 ≤ 2052) (v1 : Int32) (v2 : Int32) : wpX_charAt (fun r => wpY_charAt (fun r' => r' = r ∧ i_Rel (k + 4) u v) v v1 v2) u v1 v2 := by
  have I0 : ss_Rel u v := I
  obtain ⟨lg, rc, hR⟩ := I0
  obtain ⟨r, hX, hY⟩ := ss_el (Q := fun u v => ∃ r : Int32, (∀ post : Int32 → Prop, post r → wpX_charAt post u v1 v2) ∧ (∀ post : Int32 → Prop, post r → wpY_charAt post v v1 v2)) (fun oL cL wL bL n kd au pl bs tg sp pp ow oc ol oa lo lc br cm ch cc vc ro cd la yc rl I => ss_m_charAt I v1 v2) hR
  exact hX _ (hY _ ⟨rfl, I⟩)
theorem i_vc_uplink {k : Nat} {u : SX} {v : SY} (I : i_Rel k u v) (hk : k + 4 ≤ 2052) (v1 : Int32) : wpX_uplink (fun r => wpY_uplink (fun r' => r' = r ∧ i_Rel (k + 4) u v) v v1) u v1 := by
  have I0 : ss_Rel u v := I
  obtain ⟨lg, rc, hR⟩ := I0
  obtain ⟨r, hX, hY⟩ := ss_el (Q := fun u v => ∃ r : Int32, (∀ post : Int32 → Prop, post r → wpX_uplink post u v1) ∧ (∀ post : Int32 → Prop, post r → wpY_uplink post v v1)) (fun oL cL wL bL n kd au pl bs tg sp pp ow oc ol oa lo lc br cm ch cc vc ro cd la yc rl I => ss_m_uplink I v1) hR
  exact hX _ (hY _ ⟨rfl, I⟩)
theorem i_vc_downlink {k : Nat} {u : SX} {v : SY} (I : i_Rel k u v) (hk : k + 4 ≤ 2052) (v1 : Int32) : wpX_downlink (fun r => wpY_downlink (fun r' => r' = r ∧ i_Rel (k + 4) u v) v v1) u v1 := by
  have I0 : ss_Rel u v := I
  obtain ⟨lg, rc, hR⟩ := I0
  obtain ⟨r, hX, hY⟩ := ss_el (Q := fun u v => ∃ r : Int32, (∀ post : Int32 → Prop, post r → wpX_downlink post u v1) ∧ (∀ post : Int32 → Prop, post r → wpY_downlink post v v1)) (fun oL cL wL bL n kd au pl bs tg sp pp ow oc ol oa lo lc br cm ch cc vc ro cd la yc rl I => ss_m_downlink I v1) hR
  exact hX _ (hY _ ⟨rfl, I⟩)
theorem i_vc_unacknowledged {k : Nat} {u : SX} {v : SY} (I : i_Rel k u v) (hk : k + 4 ≤ 2052) (v1 : Int32) : wpX_unacknowledged (fun r => wpY_unacknowledged (fun r' => r' = r ∧ i_Rel (k + 4) u v) v v1) u v1 := by
  have I0 : ss_Rel u v := I
  obtain ⟨lg, rc, hR⟩ := I0
  obtain ⟨r, hX, hY⟩ := ss_el (Q := fun u v => ∃ r : Int32, (∀ post : Int32 → Prop, post r → wpX_unacknowledged post u v1) ∧ (∀ post : Int32 → Prop, post r → wpY_unacknowledged post v v1)) (fun oL cL wL bL n kd au pl bs tg sp pp ow oc ol oa lo lc br cm ch cc vc ro cd la yc rl I => ss_m_unack I v1) hR
  exact hX _ (hY _ ⟨rfl, I⟩)
theorem i_vc_opKind {k : Nat} {u : SX} {v : SY} (I : i_Rel k u v) (hk : k + 4 ≤ 2052) (v1 : Int32) : wpX_opKind (fun r => wpY_opKind (fun r' => r' = r ∧ i_Rel (k + 4) u v) v v1) u v1 := by
  have I0 : ss_Rel u v := I
  obtain ⟨lg, rc, hR⟩ := I0
  obtain ⟨r, hX, hY⟩ := ss_el (Q := fun u v => ∃ r : Int32, (∀ post : Int32 → Prop, post r → wpX_opKind post u v1) ∧ (∀ post : Int32 → Prop, post r → wpY_opKind post v v1)) (fun oL cL wL bL n kd au pl bs tg sp pp ow oc ol oa lo lc br cm ch cc vc ro cd la yc rl I => ss_m_opKind I v1) hR
  exact hX _ (hY _ ⟨rfl, I⟩)
theorem i_vc_opClient {k : Nat} {u : SX} {v : SY} (I : i_Rel k u v) (hk : k + 4 ≤ 2052) (v1 : Int32) : wpX_opClient (fun r => wpY_opClient (fun r' => r' = r ∧ i_Rel (k + 4) u v) v v1) u v1 := by
  have I0 : ss_Rel u v := I
  obtain ⟨lg, rc, hR⟩ := I0
  obtain ⟨r, hX, hY⟩ := ss_el (Q := fun u v => ∃ r : Int32, (∀ post : Int32 → Prop, post r → wpX_opClient post u v1) ∧ (∀ post : Int32 → Prop, post r → wpY_opClient post v v1)) (fun oL cL wL bL n kd au pl bs tg sp pp ow oc ol oa lo lc br cm ch cc vc ro cd la yc rl I => ss_m_opClient I v1) hR
  exact hX _ (hY _ ⟨rfl, I⟩)
theorem i_vc_opPlace {k : Nat} {u : SX} {v : SY} (I : i_Rel k u v) (hk : k + 4 ≤ 2052) (v1 : Int32) : wpX_opPlace (fun r => wpY_opPlace (fun r' => r' = r ∧ i_Rel (k + 4) u v) v v1) u v1 := by
  have I0 : ss_Rel u v := I
  obtain ⟨lg, rc, hR⟩ := I0
  obtain ⟨r, hX, hY⟩ := ss_el (Q := fun u v => ∃ r : Int32, (∀ post : Int32 → Prop, post r → wpX_opPlace post u v1) ∧ (∀ post : Int32 → Prop, post r → wpY_opPlace post v v1)) (fun oL cL wL bL n kd au pl bs tg sp pp ow oc ol oa lo lc br cm ch cc vc ro cd la yc rl I => ss_m_opPlace I v1) hR
  exact hX _ (hY _ ⟨rfl, I⟩)
theorem i_vc_opBase {k : Nat} {u : SX} {v : SY} (I : i_Rel k u v) (hk : k + 4 ≤ 2052) (v1 : Int32) : wpX_opBase (fun r => wpY_opBase (fun r' => r' = r ∧ i_Rel (k + 4) u v) v v1) u v1 := by
  have I0 : ss_Rel u v := I
  obtain ⟨lg, rc, hR⟩ := I0
  obtain ⟨r, hX, hY⟩ := ss_el (Q := fun u v => ∃ r : Int32, (∀ post : Int32 → Prop, post r → wpX_opBase post u v1) ∧ (∀ post : Int32 → Prop, post r → wpY_opBase post v v1)) (fun oL cL wL bL n kd au pl bs tg sp pp ow oc ol oa lo lc br cm ch cc vc ro cd la yc rl I => ss_m_opBase I v1) hR
  exact hX _ (hY _ ⟨rfl, I⟩)
theorem i_vc_opTarget {k : Nat} {u : SX} {v : SY} (I : i_Rel k u v) (hk : k + 4 ≤ 2052) (v1 : Int32) : wpX_opTarget (fun r => wpY_opTarget (fun r' => r' = r ∧ i_Rel (k + 4) u v) v v1) u v1 := by
  have I0 : ss_Rel u v := I
  obtain ⟨lg, rc, hR⟩ := I0
  obtain ⟨r, hX, hY⟩ := ss_el (Q := fun u v => ∃ r : Int32, (∀ post : Int32 → Prop, post r → wpX_opTarget post u v1) ∧ (∀ post : Int32 → Prop, post r → wpY_opTarget post v v1)) (fun oL cL wL bL n kd au pl bs tg sp pp ow oc ol oa lo lc br cm ch cc vc ro cd la yc rl I => ss_m_opTarget I v1) hR
  exact hX _ (hY _ ⟨rfl, I⟩)
theorem i_vc_opCharacter {k : Nat} {u : SX} {v : SY} (I : i_Rel k u v) (hk : k + 4 ≤ 2052) (v1 : Int32) : wpX_opCharacter (fun r => wpY_opCharacter (fun r' => r' = r ∧ i_Rel (k + 4) u v) v v1) u v1 := by
  have I0 : ss_Rel u v := I
  obtain ⟨lg, rc, hR⟩ := I0
  obtain ⟨r, hX, hY⟩ := ss_el (Q := fun u v => ∃ r : Int32, (∀ post : Int32 → Prop, post r → wpX_opCharacter post u v1) ∧ (∀ post : Int32 → Prop, post r → wpY_opCharacter post v v1)) (fun oL cL wL bL n kd au pl bs tg sp pp ow oc ol oa lo lc br cm ch cc vc ro cd la yc rl I => ss_m_opCharacter I v1) hR
  exact hX _ (hY _ ⟨rfl, I⟩)
theorem i_vc_logLength {k : Nat} {u : SX} {v : SY} (I : i_Rel k u v) (hk : k + 4 ≤ 2052) : wpX_logLength (fun r => wpY_logLength (fun r' => r' = r ∧ i_Rel (k + 4) u v) v) u := by
  have I0 : ss_Rel u v := I
  obtain ⟨lg, rc, hR⟩ := I0
  obtain ⟨r, hX, hY⟩ := ss_el (Q := fun u v => ∃ r : Int32, (∀ post : Int32 → Prop, post r → wpX_logLength post u ) ∧ (∀ post : Int32 → Prop, post r → wpY_logLength post v )) (fun oL cL wL bL n kd au pl bs tg sp pp ow oc ol oa lo lc br cm ch cc vc ro cd la yc rl I => ss_m_logLength I ) hR
  exact hX _ (hY _ ⟨rfl, I⟩)
theorem i_vc_logOperation {k : Nat} {u : SX} {v : SY} (I : i_Rel k u v) (hk : k + 4 ≤ 2052) (v1 : Int32) : wpX_logOperation (fun r => wpY_logOperation (fun r' => r' = r ∧ i_Rel (k + 4) u v) v v1) u v1 := by
  have I0 : ss_Rel u v := I
  obtain ⟨lg, rc, hR⟩ := I0
  obtain ⟨r, hX, hY⟩ := ss_el (Q := fun u v => ∃ r : Int32, (∀ post : Int32 → Prop, post r → wpX_logOperation post u v1) ∧ (∀ post : Int32 → Prop, post r → wpY_logOperation post v v1)) (fun oL cL wL bL n kd au pl bs tg sp pp ow oc ol oa lo lc br cm ch cc vc ro cd la yc rl I => ss_m_logOperation I v1) hR
  exact hX _ (hY _ ⟨rfl, I⟩)
theorem i_vc_logPlace {k : Nat} {u : SX} {v : SY} (I : i_Rel k u v) (hk : k + 4 ≤ 2052) (v1 : Int32) : wpX_logPlace (fun r => wpY_logPlace (fun r' => r' = r ∧ i_Rel (k + 4) u v) v v1) u v1 := by
  have I0 : ss_Rel u v := I
  obtain ⟨lg, rc, hR⟩ := I0
  obtain ⟨r, hX, hY⟩ := ss_el (Q := fun u v => ∃ r : Int32, (∀ post : Int32 → Prop, post r → wpX_logPlace post u v1) ∧ (∀ post : Int32 → Prop, post r → wpY_logPlace post v v1)) (fun oL cL wL bL n kd au pl bs tg sp pp ow oc ol oa lo lc br cm ch cc vc ro cd la yc rl I => ss_m_logPlace I v1) hR
  exact hX _ (hY _ ⟨rfl, I⟩)
theorem i_vc_numberAt {k : Nat} {u : SX} {v : SY} (I : i_Rel k u v) (hk : k + 4 ≤ 2052) (v1 : Int32) (v2 : Int32) : wpX_numberAt (fun r => wpY_numberAt (fun r' => r' = r ∧ i_Rel (k + 4) u v) v v1 v2) u v1 v2 := by
  have I0 : ss_Rel u v := I
  obtain ⟨lg, rc, hR⟩ := I0
  obtain ⟨r, hX, hY⟩ := ss_el (Q := fun u v => ∃ r : Int32, (∀ post : Int32 → Prop, post r → wpX_numberAt post u v1 v2) ∧ (∀ post : Int32 → Prop, post r → wpY_numberAt post v v1 v2)) (fun oL cL wL bL n kd au pl bs tg sp pp ow oc ol oa lo lc br cm ch cc vc ro cd la yc rl I => by
    obtain ⟨r, _, h1, h2⟩ := ss_m_numberAt (pl := pl) (la := la) I v1 v2
    exact ⟨r, h1, h2⟩) hR
  exact hX _ (hY _ ⟨rfl, I⟩)
theorem i_vc_peekServe {k : Nat} {u : SX} {v : SY} (I : i_Rel k u v) (hk : k + 4 ≤ 2052) (v1 : Int32) : wpX_peekServe (fun r u' => wpY_peekServe (fun r' => r' = r ∧ i_Rel (k + 4) u' v) v v1) u v1 := by
  have I0 : ss_Rel u v := I
  obtain ⟨lg, rc, hR⟩ := I0
  obtain ⟨r, hX, hY⟩ := ss_el (Q := fun u v => ∃ r : Int32, (∀ post : Int32 → SX → Prop, post r u → wpX_peekServe post u v1) ∧ (∀ post : Int32 → Prop, post r → wpY_peekServe post v v1)) (fun oL cL wL bL n kd au pl bs tg sp pp ow oc ol oa lo lc br cm ch cc vc ro cd la yc rl I => ss_m_peekServe I v1) hR
  exact hX _ (hY _ ⟨rfl, I⟩)
theorem i_vc_peekReceive {k : Nat} {u : SX} {v : SY} (I : i_Rel k u v) (hk : k + 4 ≤ 2052) (v1 : Int32) : wpX_peekReceive (fun r u' => wpY_peekReceive (fun r' => r' = r ∧ i_Rel (k + 4) u' v) v v1) u v1 := by
  have I0 : ss_Rel u v := I
  obtain ⟨lg, rc, hR⟩ := I0
  obtain ⟨r, hX, hY⟩ := ss_el (Q := fun u v => ∃ r : Int32, (∀ post : Int32 → SX → Prop, post r u → wpX_peekReceive post u v1) ∧ (∀ post : Int32 → Prop, post r → wpY_peekReceive post v v1)) (fun oL cL wL bL n kd au pl bs tg sp pp ow oc ol oa lo lc br cm ch cc vc ro cd la yc rl I => ss_m_peekReceive I v1) hR
  exact hX _ (hY _ ⟨rfl, I⟩)
theorem i_vc_insert {k : Nat} {u : SX} {v : SY} (I : i_Rel k u v) (hk : k + 4 ≤ 2052) (v1 : Int32) (v2 : Int32) (v3 : Int32) : wpX_insert (fun r u' => wpY_insert (fun r' v' => r' = r ∧ i_Rel (k + 4) u' v') v v1 v2 v3) u v1 v2 v3 := by
  have I0 : ss_Rel u v := I
  obtain ⟨lg, rc, hR⟩ := I0
  obtain ⟨r, u', v', hR', hX, hY⟩ := ss_el (Q := fun u v => ∃ (r : Int32) (u' : SX) (v' : SY), ss_Rel u' v' ∧ (∀ post : Int32 → SX → Prop, post r u' → wpX_insert post u v1 v2 v3) ∧ (∀ post : Int32 → SY → Prop, post r v' → wpY_insert post v v1 v2 v3)) (fun oL cL wL bL n kd au pl bs tg sp pp ow oc ol oa lo lc br cm ch cc vc ro cd la yc rl I => ss_m_insert I v1 v2 v3) hR
  exact hX _ (hY _ ⟨rfl, hR'⟩)
theorem i_vc_remove {k : Nat} {u : SX} {v : SY} (I : i_Rel k u v) (hk : k + 4 ≤ 2052) (v1 : Int32) (v2 : Int32) : wpX_remove (fun r u' => wpY_remove (fun r' v' => r' = r ∧ i_Rel (k + 4) u' v') v v1 v2) u v1 v2 := by
  have I0 : ss_Rel u v := I
  obtain ⟨lg, rc, hR⟩ := I0
  obtain ⟨r, u', v', hR', hX, hY⟩ := ss_el (Q := fun u v => ∃ (r : Int32) (u' : SX) (v' : SY), ss_Rel u' v' ∧ (∀ post : Int32 → SX → Prop, post r u' → wpX_remove post u v1 v2) ∧ (∀ post : Int32 → SY → Prop, post r v' → wpY_remove post v v1 v2)) (fun oL cL wL bL n kd au pl bs tg sp pp ow oc ol oa lo lc br cm ch cc vc ro cd la yc rl I => ss_m_remove I v1 v2) hR
  exact hX _ (hY _ ⟨rfl, hR'⟩)
theorem i_vc_serve {k : Nat} {u : SX} {v : SY} (I : i_Rel k u v) (hk : k + 4 ≤ 2052) (v1 : Int32) : wpX_serve (fun r u' => wpY_serve (fun r' v' => r' = r ∧ i_Rel (k + 4) u' v') v v1) u v1 := by
  have I0 : ss_Rel u v := I
  obtain ⟨lg, rc, hR⟩ := I0
  obtain ⟨r, u', v', hR', hX, hY⟩ := ss_el (Q := fun u v => ∃ (r : Int32) (u' : SX) (v' : SY), ss_Rel u' v' ∧ (∀ post : Int32 → SX → Prop, post r u' → wpX_serve post u v1) ∧ (∀ post : Int32 → SY → Prop, post r v' → wpY_serve post v v1)) (fun oL cL wL bL n kd au pl bs tg sp pp ow oc ol oa lo lc br cm ch cc vc ro cd la yc rl I => ss_m_serve I v1) hR
  exact hX _ (hY _ ⟨rfl, hR'⟩)
theorem i_vc_receive {k : Nat} {u : SX} {v : SY} (I : i_Rel k u v) (hk : k + 4 ≤ 2052) (v1 : Int32) : wpX_receive (fun r u' => wpY_receive (fun r' v' => r' = r ∧ i_Rel (k + 4) u' v') v v1) u v1 := by
  have I0 : ss_Rel u v := I
  obtain ⟨lg, rc, hR⟩ := I0
  obtain ⟨r, u', v', hR', hX, hY⟩ := ss_el (Q := fun u v => ∃ (r : Int32) (u' : SX) (v' : SY), ss_Rel u' v' ∧ (∀ post : Int32 → SX → Prop, post r u' → wpX_receive post u v1) ∧ (∀ post : Int32 → SY → Prop, post r v' → wpY_receive post v v1)) (fun oL cL wL bL n kd au pl bs tg sp pp ow oc ol oa lo lc br cm ch cc vc ro cd la yc rl I => ss_m_receive I v1) hR
  exact hX _ (hY _ ⟨rfl, hR'⟩)
theorem i_vc_drain {k : Nat} {u : SX} {v : SY} (I : i_Rel k u v) (hk : k + 4 ≤ 2052) : wpX_drain (fun r u' => wpY_drain (fun r' v' => r' = r ∧ i_Rel (k + 4) u' v') v) u := by
  obtain ⟨r, u', v', hR', hX, hY⟩ := ss_m_drain (show ss_Rel u v from I)
  exact hX _ (hY _ ⟨rfl, hR'⟩)
theorem i_vc0 (k0 : Int32) (k1 : Int32) (k2 : Int32) (k3 : Int32) : wpX_init (fun u => wpY_init (fun v => i_Rel 4 u v) k0 k1 k2 k3) k0 k1 k2 k3 := by
  obtain ⟨w0, _, h0, x0, y0⟩ := ss_cl k0 (a := 4) (b := 64) (by omega) (by omega)
  obtain ⟨w1, _, h1, x1, y1⟩ := ss_cl k1 (a := 2) (b := 48) (by omega) (by omega)
  obtain ⟨w2, _, h2, x2, y2⟩ := ss_cl k2 (a := 1) (b := 8) (by omega) (by omega)
  obtain ⟨w3, _, h3, x3, y3⟩ := ss_cl k3 (a := 1) (b := 16) (by omega) (by omega)
  exact x0 _ _ (x1 _ _ (x2 _ _ (x3 _ _ (y0 _ _ (y1 _ _ (y2 _ _ (y3 _ _ (ss_R0 h0 h1 h2 h3))))))))
end
