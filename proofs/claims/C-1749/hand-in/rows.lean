section
theorem pk_us {f : Nat → Int32} {k : Nat} {x : Int32} : upd f k x k = x := if_pos rfl
theorem pk_un {f : Nat → Int32} {k j : Nat} {x : Int32} (h : j ≠ k) : upd f k x j = f j := if_neg h
theorem pk_sub {a b : Nat} (h : b ≤ a) : nI a - nI b = nI (a - b) := by
  obtain ⟨c, rfl⟩ : ∃ c, a = c + b := ⟨a - b, by omega⟩
  rw [← nI_add, Int32.add_sub_cancel, Nat.add_sub_cancel]
theorem pk_m1 (n : Nat) : nI (n + 1) + (-1) = nI n := by
  rw [← nI_1, Int32.add_assoc, show (1 : Int32) + (-1) = 0 from rfl, Int32.add_zero]
theorem pk_le {x y : Int32} {A B : Prop} (a b : Nat) (f : a ≤ b → A) (g : b < a → B) (hx : x = nI a := by rfl) (hy : y = nI b := by rfl) (ha : a < 2 ^ 31 := by omega) (hb : b < 2 ^ 31 := by omega) : (x ≤ y → A) ∧ (¬ x ≤ y → B) := by
  subst hx hy
  rw [nI_leI ha hb]
  exact ⟨f, fun z => g (by omega)⟩
theorem pk_lt {x y : Int32} {A B : Prop} (a b : Nat) (f : a < b → A) (g : b ≤ a → B) (hx : x = nI a := by rfl) (hy : y = nI b := by rfl) (ha : a < 2 ^ 31 := by omega) (hb : b < 2 ^ 31 := by omega) : (x < y → A) ∧ (¬ x < y → B) := by
  subst hx hy
  rw [nI_ltI ha hb]
  exact ⟨f, fun z => g (by omega)⟩
theorem pk_eq {x y : Int32} {A B : Prop} (a b : Nat) (f : a = b → A) (g : a ≠ b → B) (hx : x = nI a := by rfl) (hy : y = nI b := by rfl) (ha : a < 2 ^ 31 := by omega) (hb : b < 2 ^ 31 := by omega) : (x = y → A) ∧ (¬ x = y → B) := by
  subst hx hy
  rw [nI_eq ha hb]
  exact ⟨f, g⟩
theorem pk_in {x : Int32} (n N : Nat) (h : n < N) (hx : x = nI n := by rfl) (hN : N < 2 ^ 31 := by omega) : vp_in x N := by
  subst hx
  exact vp_in_nI h hN
theorem pk_cl {x : Int32} (n : Nat) (hx : x = nI n := by rfl) (h : n < 2 ^ 31 := by omega) : x.toNatClampNeg = n := by
  subst hx
  exact nI_clamp h
theorem pk_tn {n : Nat} (h : n < 2 ^ 32) : (nI n).toBitVec.toNat = n := Nat.mod_eq_of_lt h
theorem pk_and (x : Int32) {m : Int32} (k : Nat) (hm : m.toBitVec.toNat = 2 ^ k - 1) : x &&& m = nI (x.toBitVec.toNat % 2 ^ k) := by
  apply Int32.toBitVec_inj.mp
  apply BitVec.eq_of_toNat_eq
  rw [Int32.toBitVec_and, BitVec.toNat_and, hm, Nat.and_two_pow_sub_one_eq_mod]
  show _ = (BitVec.ofNat 32 _).toNat
  rw [BitVec.toNat_ofNat]
  exact (Nat.mod_eq_of_lt (Nat.lt_of_le_of_lt (Nat.mod_le _ _) x.toBitVec.isLt)).symm
theorem pk_andE (x : Int32) {m : Int32} (k : Nat) (hm : m.toBitVec.toNat = 2 ^ k - 1) : ∃ j : Nat, j < 2 ^ k ∧ x &&& m = nI j := ⟨_, Nat.mod_lt _ (Nat.two_pow_pos k), pk_and x k hm⟩
theorem pk_andIn (x : Int32) {m : Int32} (k : Nat) (hm : m.toBitVec.toNat = 2 ^ k - 1) (hk : k ≤ 30) : vp_in (x &&& m) (2 ^ k) := by
  obtain ⟨j, hj, e⟩ := pk_andE x k hm
  rw [e]
  exact vp_in_nI hj (Nat.lt_of_le_of_lt (Nat.pow_le_pow_right (by decide) hk) (by decide))
end
section
section FGpure
/-! numbers -/
theorem fg_c15 {o : Nat} (h : o ≤ 14) : o = 0 ∨ o = 1 ∨ o = 2 ∨ o = 3 ∨ o = 4 ∨ o = 5 ∨ o = 6 ∨ o = 7 ∨ o = 8 ∨ o = 9 ∨ o = 10 ∨ o = 11 ∨ o = 12 ∨ o = 13 ∨ o = 14 := by omega
theorem fg_m1 {d : Nat} (h : 0 < d) : nI d + (-1) = nI (d - 1) := by
  obtain ⟨e, rfl⟩ : ∃ e, d = e + 1 := ⟨d - 1, by omega⟩
  exact pk_m1 e
theorem fg_s1 {d : Nat} (h : 0 < d) : nI d - 1 = nI (d - 1) := by
  obtain ⟨e, rfl⟩ : ∃ e, d = e + 1 := ⟨d - 1, by omega⟩
  exact nI_pred e
theorem fg_n1lt : (-1 : Int32) < 0 := by decide
theorem fg_n1le : ¬ (0 : Int32) ≤ -1 := by decide
theorem fg_ne {d : Nat} (h : d < 2 ^ 31) : nI d ≠ -1 := by
  intro e
  have := nI_pos (n := d) h
  rw [e] at this
  exact this fg_n1lt
theorem fg_inj {a b : Nat} (h : nI a = nI b) (ha : a < 2 ^ 31) (hb : b < 2 ^ 31) : a = b := (nI_eq ha hb).mp h
theorem fg_at {f : Nat → Int32} {a : Nat} {x : Int32} (ha : a < 2 ^ 31) (h : f a = x) : f (nI a).toNatClampNeg = x := by
  rw [nI_clamp ha]; exact h
theorem fg_same {f : Nat → Int32} {k : Nat} {x : Int32} (h : f k = x) : upd f k x = f := by
  funext j
  by_cases e : j = k
  · rw [e, pk_us, h]
  · rw [pk_un e]
theorem fg_comm {f : Nat → Int32} {i j : Nat} {x y : Int32} (h : i ≠ j) : upd (upd f i x) j y = upd (upd f j y) i x := by
  funext k
  by_cases e : k = i
  · subst e
    rw [pk_us, pk_un h, pk_us]
  · rw [pk_un (f := upd f j y) e]
    by_cases e2 : k = j
    · subst e2
      rw [pk_us, pk_us]
    · rw [pk_un e2, pk_un e2, pk_un e]
/-! codes: what is used, the growth, the height behind, the cost -/
def fg_u : Nat → Nat
  | 1 => 1
  | 2 => 1
  | 3 => 2
  | 4 => 2
  | 5 => 2
  | 6 => 2
  | 7 => 2
  | 9 => 1
  | 10 => 1
  | 12 => 1
  | _ => 0
def fg_g : Nat → Int32
  | 0 => 1
  | 1 => -1
  | 2 => 1
  | 3 => -1
  | 4 => -1
  | 5 => -1
  | 7 => 1
  | 9 => -1
  | 10 => -1
  | 11 => 1
  | 12 => -1
  | _ => 0
def fg_n (o d : Nat) : Nat := match o with
  | 0 => d + 1
  | 1 => d - 1
  | 2 => d + 1
  | 3 => d - 1
  | 4 => d - 1
  | 5 => d - 1
  | 7 => d + 1
  | 9 => d - 1
  | 10 => d - 1
  | 11 => d + 1
  | 12 => d - 1
  | _ => d
theorem fg_ule {o : Nat} (h : o ≤ 14) : fg_u o ≤ 2 := by
  obtain rfl | rfl | rfl | rfl | rfl | rfl | rfl | rfl | rfl | rfl | rfl | rfl | rfl | rfl | rfl := fg_c15 h <;> decide
theorem fg_gn {o d : Nat} (h : o ≤ 14) (hu : fg_u o ≤ d) : nI d + fg_g o = nI (fg_n o d) := by
  obtain rfl | rfl | rfl | rfl | rfl | rfl | rfl | rfl | rfl | rfl | rfl | rfl | rfl | rfl | rfl := fg_c15 h
  · exact nI_1 d
  · exact fg_m1 (Nat.lt_of_lt_of_le (by decide) hu)
  · exact nI_1 d
  · exact fg_m1 (Nat.lt_of_lt_of_le (by decide) hu)
  · exact fg_m1 (Nat.lt_of_lt_of_le (by decide) hu)
  · exact fg_m1 (Nat.lt_of_lt_of_le (by decide) hu)
  · exact Int32.add_zero _
  · exact nI_1 d
  · exact Int32.add_zero _
  · exact fg_m1 (Nat.lt_of_lt_of_le (by decide) hu)
  · exact fg_m1 (Nat.lt_of_lt_of_le (by decide) hu)
  · exact nI_1 d
  · exact fg_m1 (Nat.lt_of_lt_of_le (by decide) hu)
  · exact Int32.add_zero _
  · exact Int32.add_zero _
theorem fg_n_le (o d : Nat) : fg_n o d ≤ d + 1 := by
  unfold fg_n
  split <;> omega
def fg_c (o : Nat → Nat) (con : Nat → Int32) (p : Nat) : Nat := if o p = 5 then 3 else if o p = 14 then (con p).toBitVec.toNat % 2 ^ 4 + 1 else 1
theorem fg_c_in (o : Nat → Nat) (con : Nat → Int32) (p : Nat) : 1 ≤ fg_c o con p ∧ fg_c o con p ≤ 16 := by
  unfold fg_c
  by_cases h5 : o p = 5
  · rw [if_pos h5]; omega
  · rw [if_neg h5]
    by_cases h14 : o p = 14
    · rw [if_pos h14]; omega
    · rw [if_neg h14]; omega
/-- the costs of k instructions from p on -/
def fg_cs (o : Nat → Nat) (con : Nat → Int32) : Nat → Nat → Nat
  | 0, _ => 0
  | k + 1, p => fg_c o con p + fg_cs o con k (p + 1)
theorem fg_cs_s (o : Nat → Nat) (con : Nat → Int32) (k p : Nat) : fg_cs o con (k + 1) p = fg_c o con p + fg_cs o con k (p + 1) := rfl
theorem fg_cs_in (o : Nat → Nat) (con : Nat → Int32) : ∀ k p, k ≤ fg_cs o con k p ∧ fg_cs o con k p ≤ 16 * k := by
  intro k
  induction k with
  | zero => intro p; exact ⟨Nat.le_refl _, Nat.le_refl _⟩
  | succ k ih =>
    intro p
    have h1 := ih (p + 1)
    have h2 := fg_c_in o con p
    rw [fg_cs_s]
    omega
/-! the check: closed assignments, forced heights -/
def fg_T (n : Nat) (h : Nat → Int32) (q : Int32) (d : Nat) : Prop := ∃ j, j < n ∧ q = nI j ∧ h j = nI d
def fg_S (n : Nat) (o : Nat → Nat) (con h : Nat → Int32) (p d : Nat) : Prop :=
  fg_u (o p) ≤ d ∧ fg_n (o p) d ≤ 8 ∧ (8 ≤ o p → o p ≤ 10 → fg_T n h (con p) (fg_n (o p) d)) ∧ (o p ≠ 8 → o p ≠ 13 → fg_T n h (nI (p + 1)) (fg_n (o p) d))
def fg_Cl (n : Nat) (o : Nat → Nat) (con h : Nat → Int32) : Prop :=
  0 < n ∧ h 0 = nI 0 ∧ ∀ p d, p < n → d ≤ 8 → h p = nI d → fg_S n o con h p d
def fg_No (n : Nat) (o : Nat → Nat) (con : Nat → Int32) : Prop := ∀ g, ¬ fg_Cl n o con g
def fg_P (n : Nat) (o : Nat → Nat) (con h : Nat → Int32) : Prop :=
  ∀ p, p < 24 → h p = -1 ∨ (p < n ∧ ∃ d, d ≤ 8 ∧ h p = nI d ∧ ∀ g, fg_Cl n o con g → g p = nI d)
def fg_E (h h' : Nat → Int32) : Prop := ∀ p, p < 24 → h p ≠ -1 → h' p = h p
def fg_cnt (h : Nat → Int32) : Nat → Nat
  | 0 => 0
  | k + 1 => fg_cnt h k + (if h k = -1 then 0 else 1)
theorem fg_cnt_s (h : Nat → Int32) (k : Nat) : fg_cnt h (k + 1) = fg_cnt h k + (if h k = -1 then 0 else 1) := rfl
theorem fg_cnt_le (h : Nat → Int32) : ∀ k, fg_cnt h k ≤ k := by
  intro k
  induction k with
  | zero => exact Nat.le_refl _
  | succ k ih =>
    rw [fg_cnt_s]
    by_cases e : h k = -1
    · rw [if_pos e]; omega
    · rw [if_neg e]; omega
theorem fg_cnt_lt {h : Nat → Int32} {p : Nat} (hp : h p = -1) : ∀ k, p < k → fg_cnt h k < k := by
  intro k
  induction k with
  | zero => intro z; omega
  | succ k ih =>
    intro z
    rw [fg_cnt_s]
    by_cases e : p = k
    · rw [← e, if_pos hp]
      have := fg_cnt_le h p
      omega
    · have := ih (by omega)
      by_cases e : h k = -1
      · rw [if_pos e]; omega
      · rw [if_neg e]; omega
theorem fg_cnt_hi {h : Nat → Int32} {p : Nat} {x : Int32} : ∀ k, k ≤ p → fg_cnt (upd h p x) k = fg_cnt h k := by
  intro k
  induction k with
  | zero => intro _; rfl
  | succ k ih =>
    intro z
    rw [fg_cnt_s, fg_cnt_s, ih (by omega), pk_un (by omega)]
theorem fg_cnt_up {h : Nat → Int32} {p : Nat} {x : Int32} (hp : h p = -1) (hx : x ≠ -1) : ∀ k, p < k → fg_cnt (upd h p x) k = fg_cnt h k + 1 := by
  intro k
  induction k with
  | zero => intro z; omega
  | succ k ih =>
    intro z
    rw [fg_cnt_s, fg_cnt_s]
    by_cases e : k = p
    · rw [e, fg_cnt_hi p (Nat.le_refl _), pk_us, if_neg hx, if_pos hp]
    · rw [ih (by omega), pk_un e]
      omega
theorem fg_cnt_mono {h h' : Nat → Int32} (E : fg_E h h') : ∀ k, k ≤ 24 → fg_cnt h k ≤ fg_cnt h' k := by
  intro k
  induction k with
  | zero => intro _; exact Nat.le_refl _
  | succ k ih =>
    intro z
    have i := ih (by omega)
    rw [fg_cnt_s, fg_cnt_s]
    by_cases e : h k = -1
    · rw [if_pos e]; omega
    · rw [if_neg e, E k (by omega) e, if_neg e]; omega
theorem fg_cnt_0 {h : Nat → Int32} (e : ∀ p, p < 24 → h p = -1) : ∀ k, k ≤ 24 → fg_cnt h k = 0 := by
  intro k
  induction k with
  | zero => intro _; rfl
  | succ k ih =>
    intro z
    rw [fg_cnt_s, ih (by omega), if_pos (e k (by omega))]
theorem fg_E_r {h : Nat → Int32} : fg_E h h := fun _ _ _ => rfl
theorem fg_E_t {h h' h'' : Nat → Int32} (a : fg_E h h') (b : fg_E h' h'') : fg_E h h'' := by
  intro p hp hh
  have e := a p hp hh
  rw [b p hp (by rw [e]; exact hh), e]
theorem fg_E_u {h : Nat → Int32} {j : Nat} {x : Int32} (hj : h j = -1) : fg_E h (upd h j x) := by
  intro p _ hh
  exact pk_un (by intro e; rw [e] at hh; exact hh hj)
theorem fg_T_m {n : Nat} {h h' : Nat → Int32} {q : Int32} {d : Nat} (hn : n ≤ 24) (hd : d ≤ 8) (E : fg_E h h') (t : fg_T n h q d) : fg_T n h' q d := by
  obtain ⟨j, hj, e, hh⟩ := t
  refine ⟨j, hj, e, ?_⟩
  rw [E j (by omega) (by rw [hh]; exact fg_ne (by omega)), hh]
theorem fg_S_m {n : Nat} {o : Nat → Nat} {con h h' : Nat → Int32} {p d : Nat} (hn : n ≤ 24) (E : fg_E h h') (t : fg_S n o con h p d) : fg_S n o con h' p d :=
  ⟨t.1, t.2.1, fun a b => fg_T_m hn t.2.1 E (t.2.2.1 a b), fun a b => fg_T_m hn t.2.1 E (t.2.2.2 a b)⟩
theorem fg_P_u {n : Nat} {o : Nat → Nat} {con h : Nat → Int32} {j d : Nat} (P : fg_P n o con h) (hj : j < n) (hd : d ≤ 8) (F : ∀ g, fg_Cl n o con g → g j = nI d) : fg_P n o con (upd h j (nI d)) := by
  intro p hp
  by_cases e : p = j
  · subst e
    exact Or.inr ⟨hj, d, hd, pk_us, F⟩
  · rw [pk_un e]
    exact P p hp
theorem fg_P_d {n : Nat} {o : Nat → Nat} {con h : Nat → Int32} {p d : Nat} (P : fg_P n o con h) (hp : p < 24) (hd : d ≤ 8) (hh : h p = nI d) : p < n ∧ ∀ g, fg_Cl n o con g → g p = nI d := by
  rcases P p hp with e | ⟨a, d', hd', e, F⟩
  · rw [hh] at e
    exact absurd e (fg_ne (by omega))
  · rw [hh] at e
    have := fg_inj e (by omega) (by omega)
    subst this
    exact ⟨a, F⟩
/-- every closed assignment is fine at a forced place -/
theorem fg_F {n : Nat} {o : Nat → Nat} {con h : Nat → Int32} {p d : Nat} (P : fg_P n o con h) (hp : p < 24) (hd : d ≤ 8) (hh : h p = nI d) : ∀ g, fg_Cl n o con g → fg_S n o con g p d :=
  fun g hg => hg.2.2 p d (fg_P_d P hp hd hh).1 hd ((fg_P_d P hp hd hh).2 g hg)
theorem fg_come {n : Nat} {o : Nat → Nat} {con h : Nat → Int32} {q : Int32} {d : Nat} (hn : n ≤ 24) (hd : d ≤ 8) (P : fg_P n o con h) (F : ∀ g, fg_Cl n o con g → fg_T n g q d) :
    (q < 0 ∧ fg_No n o con) ∨ (¬ q < 0 ∧ ¬ q < nI n ∧ fg_No n o con) ∨
    (∃ j, j < n ∧ q = nI j ∧ ((h j = -1 ∧ ∀ g, fg_Cl n o con g → g j = nI d) ∨ h j = nI d ∨ (∃ d', d' ≤ 8 ∧ d' ≠ d ∧ h j = nI d' ∧ fg_No n o con))) := by
  by_cases h0 : q < 0
  · refine Or.inl ⟨h0, fun g hg => ?_⟩
    obtain ⟨j, hj, e, _⟩ := F g hg
    rw [e] at h0
    exact nI_pos (by omega) h0
  · refine Or.inr ?_
    by_cases h1 : q < nI n
    · refine Or.inr ?_
      obtain ⟨j, hj, rfl⟩ := nI_of h0
      have hjn : j < n := (nI_ltI hj (by omega)).mp h1
      have F' : ∀ g, fg_Cl n o con g → g j = nI d := by
        intro g hg
        obtain ⟨i, hi, e, hh⟩ := F g hg
        have := fg_inj e hj (by omega)
        rw [this]
        exact hh
      refine ⟨j, hjn, rfl, ?_⟩
      rcases P j (by omega) with e | ⟨_, d', hd', e, G⟩
      · exact Or.inl ⟨e, F'⟩
      · refine Or.inr ?_
        by_cases z : d' = d
        · subst z
          exact Or.inl e
        · refine Or.inr ⟨d', hd', z, e, fun g hg => z ?_⟩
          have a := F' g hg
          rw [G g hg] at a
          exact fg_inj a (by omega) (by omega)
    · refine Or.inl ⟨h0, h1, fun g hg => ?_⟩
      obtain ⟨j, hj, e, _⟩ := F g hg
      rw [e] at h1
      exact h1 (nI_lt hj (by omega))
/-- two answers of the check are the same -/
theorem fg_uniq {n : Nat} {o : Nat → Nat} {con h h' : Nat → Int32} (C : fg_Cl n o con h) (P : fg_P n o con h) (C' : fg_Cl n o con h') (P' : fg_P n o con h') {p : Nat} (hp : p < 24) : h' p = h p := by
  rcases P p hp with e | ⟨_, d, hd, e, F⟩
  · rcases P' p hp with e' | ⟨_, d', hd', e', F'⟩
    · rw [e, e']
    · have := F' h C
      rw [this, e']
  · rw [F h' C', e]
/-- a closed assignment holds all that is forced -/
theorem fg_Cl_E {n : Nat} {o : Nat → Nat} {con h h' : Nat → Int32} (C : fg_Cl n o con h) (P' : fg_P n o con h') : fg_E h' h := by
  intro p hp hh
  rcases P' p hp with e | ⟨_, d, hd, e, F⟩
  · exact absurd e hh
  · rw [F h C, e]
theorem fg_P_0 {n : Nat} {o : Nat → Nat} {con h : Nat → Int32} (e : ∀ p, p < 24 → h p = -1) : fg_P n o con h := fun p hp => Or.inl (e p hp)
/-! machine: a reached place goes on to reached places -/
theorem fg_next {n : Nat} {o : Nat → Nat} {con h : Nat → Int32} {a d : Nat} (hn : n ≤ 24) (ha : a < n) (S : fg_S n o con h a d) (h8 : o a ≠ 8) (h13 : o a ≠ 13) : a + 1 < n ∧ h (a + 1) = nI (fg_n (o a) d) := by
  obtain ⟨j, hj, e, hh⟩ := S.2.2.2 h8 h13
  have := fg_inj e (by omega) (by omega)
  rw [this]
  exact ⟨hj, hh⟩
end FGpure
end
section
section FGxcheck
variable {n : Nat} {o : Nat → Nat} {op con : Nat → Int32} {ck gd ls sx fu pa dp : Int32} {h ld bc be li s c : Nat → Int32}
/-! small methods of X -/
theorem fg_xuses {post : Int32 → Prop} {j : Nat} (hj : j ≤ 14) (hp : post (nI (fg_u j))) : wpX_uses post (nI j) := by
  unfold wpX_uses
  obtain rfl | rfl | rfl | rfl | rfl | rfl | rfl | rfl | rfl | rfl | rfl | rfl | rfl | rfl | rfl := fg_c15 hj <;>
    repeat first | exact hp | refine br_t (by decide) ?_ | refine br_f (by decide) ?_
theorem fg_xgrowth {post : Int32 → Prop} {j : Nat} (hj : j ≤ 14) (hp : post (fg_g j)) : wpX_growth post (nI j) := by
  unfold wpX_growth
  obtain rfl | rfl | rfl | rfl | rfl | rfl | rfl | rfl | rfl | rfl | rfl | rfl | rfl | rfl | rfl := fg_c15 hj <;>
    repeat first | exact hp | refine br_t (by decide) ?_ | refine br_f (by decide) ?_
theorem fg_xjumps1 {post : Int32 → Prop} {j : Nat} (h8 : 8 ≤ j) (h10 : j ≤ 10) (hp : post 1) : wpX_jumps post (nI j) :=
  br_f (nI_nlt (b := 8) h8 (by omega)) (br_f (nI_nlt (a := 10) h10 (by omega)) hp)
theorem fg_xjumps0 {post : Int32 → Prop} {j : Nat} (hj : j ≤ 14) (h : ¬ (8 ≤ j ∧ j ≤ 10)) (hp : post 0) : wpX_jumps post (nI j) := by
  by_cases h8 : 8 ≤ j
  · exact br_f (nI_nlt (b := 8) h8 (by omega)) (br_t (nI_lt (a := 10) (by omega) (by omega)) hp)
  · exact br_t (nI_lt (b := 8) (by omega) (by decide)) hp
theorem fg_and15 (x : Int32) : (x &&& 15) + 1 = nI (x.toBitVec.toNat % 2 ^ 4 + 1) := by
  rw [pk_and x 4 (by decide), nI_1]
theorem fg_xcost {post : Int32 → Prop} {p : Nat} (hp : p < 24) (ho : op p = nI (o p)) (h14 : o p ≤ 14) (H : post (nI (fg_c o con p))) : wpX_costOf post (nI n, ck, gd, ls, sx, fu, pa, dp, op, con, h, ld, bc, be, li, s, c) (nI p) := by
  have hi : vp_in (nI p) 24 := vp_in_nI hp (by decide)
  have e : op (nI p).toNatClampNeg = nI (o p) := fg_at (by omega) ho
  unfold fg_c at H
  refine And.intro hi ?_
  rw [e, nI_clamp (n := p) (by omega)]
  by_cases h5 : o p = 5
  · rw [if_pos h5] at H
    exact br_t (by rw [h5]; rfl) H
  · rw [if_neg h5] at H
    refine br_f (fun z => h5 (fg_inj (b := 5) z (by omega) (by decide))) ⟨hi, ?_⟩
    by_cases h4 : o p = 14
    · rw [if_pos h4] at H
      refine br_t (by rw [h4]; rfl) ⟨hi, ?_⟩
      rw [fg_and15]
      exact H
    · rw [if_neg h4] at H
      exact br_f (fun z => h4 (fg_inj (b := 14) z (by omega) (by decide))) H
/-! the list of what is reached -/
def fg_L (n : Nat) (h : Nat → Int32) (L : Nat) (li : Nat → Int32) : Prop :=
  L = fg_cnt h 24 ∧ (∀ p, p < 24 → h p ≠ -1 → ∃ i, i < L ∧ li i = nI p) ∧ (∀ i, i < L → ∃ p, p < n ∧ li i = nI p ∧ h p ≠ -1)
def fg_X (L : Nat) (li : Nat → Int32) (L' : Nat) (li' : Nat → Int32) : Prop := L ≤ L' ∧ ∀ i, i < L → li' i = li i
theorem fg_X_r {L : Nat} : fg_X L li L li := ⟨Nat.le_refl _, fun _ _ => rfl⟩
theorem fg_X_t {L L' L'' : Nat} {li' li'' : Nat → Int32} (a : fg_X L li L' li') (b : fg_X L' li' L'' li'') : fg_X L li L'' li'' :=
  ⟨Nat.le_trans a.1 b.1, fun i hi => (b.2 i (Nat.lt_of_lt_of_le hi a.1)).trans (a.2 i hi)⟩
theorem fg_L_le {L : Nat} (l : fg_L n h L li) : L ≤ 24 := by
  rw [l.1]; exact fg_cnt_le h 24
theorem fg_L_u {L j d : Nat} (hn : n ≤ 24) (hj : j < n) (hd : d ≤ 8) (hm : h j = -1) (l : fg_L n h L li) : fg_L n (upd h j (nI d)) (L + 1) (upd li L (nI j)) := by
  refine ⟨?_, ?_, ?_⟩
  · rw [fg_cnt_up hm (fg_ne (by omega)) 24 (by omega), l.1]
  · intro p hp hh
    by_cases e : p = j
    · exact ⟨L, by omega, by rw [pk_us, e]⟩
    · rw [pk_un e] at hh
      obtain ⟨i, hi, e2⟩ := l.2.1 p hp hh
      exact ⟨i, by omega, by rw [pk_un (by omega)]; exact e2⟩
  · intro i hi
    by_cases e : i = L
    · exact ⟨j, hj, by rw [e, pk_us], by rw [pk_us]; exact fg_ne (by omega)⟩
    · obtain ⟨p, hp, e2, hh⟩ := l.2.2 i (by omega)
      refine ⟨p, hp, by rw [pk_un e]; exact e2, ?_⟩
      rw [pk_un (by intro z; rw [z] at hh; exact hh hm)]
      exact hh
theorem fg_xcome {post : SX → Prop} {q : Int32} {d L : Nat} (hn : n ≤ 24) (hd : d ≤ 8) (P : fg_P n o con h) (l : fg_L n h L li)
    (F : ∀ g, fg_Cl n o con g → fg_T n g q d)
    (K : ∀ (gd' : Int32) (L' : Nat) (h' li' : Nat → Int32), ((gd' = gd ∧ fg_T n h' q d) ∨ (gd' = 0 ∧ fg_No n o con)) → fg_P n o con h' → fg_E h h' → fg_L n h' L' li' → fg_X L li L' li' → post (nI n, ck, gd', nI L', sx, fu, pa, dp, op, con, h', ld, bc, be, li', s, c)) :
    wpX_comeTo post (nI n, ck, gd, nI L, sx, fu, pa, dp, op, con, h, ld, bc, be, li, s, c) q (nI d) := by
  rcases fg_come hn hd P F with ⟨h1, hno⟩ | ⟨h1, h2, hno⟩ | ⟨j, hj, rfl, hh⟩
  · exact br_t h1 (K 0 L h li (Or.inr ⟨rfl, hno⟩) P fg_E_r l fg_X_r)
  · exact br_f h1 (br_f h2 (K 0 L h li (Or.inr ⟨rfl, hno⟩) P fg_E_r l fg_X_r))
  · have hcl : (nI j).toNatClampNeg = j := nI_clamp (by omega)
    have hi : vp_in (nI j) 24 := vp_in_nI (by omega) (by decide)
    refine br_f (nI_pos (by omega)) (br_t (nI_lt hj (by omega)) ⟨hi, ?_⟩)
    rw [hcl]
    rcases hh with ⟨hm, F'⟩ | he | ⟨d', hd', hne, he, hno⟩
    · have hL : L < 24 := by rw [l.1]; exact fg_cnt_lt hm 24 (by omega)
      refine br_f (by rw [hm]; exact fg_n1le) ⟨hi, nm_e ⟨vp_in_nI hL (by decide), ?_⟩⟩
      rw [nI_clamp (n := L) (by omega)]
      refine nm_e (nm_r (nI_1 L) ?_)
      exact K gd (L + 1) _ _ (Or.inl ⟨rfl, j, hj, rfl, pk_us⟩) (fg_P_u P hj hd F') (fg_E_u hm) (fg_L_u hn hj hd hm l) ⟨by omega, fun i hi => pk_un (by omega)⟩
    · exact br_t (by rw [he]; exact nI_pos' (by omega)) ⟨hi, br_t he (K gd L h li (Or.inl ⟨rfl, j, hj, rfl, he⟩) P fg_E_r l fg_X_r)⟩
    · exact br_t (by rw [he]; exact nI_pos' (by omega)) ⟨hi, br_f (by rw [he]; exact fun z => hne (fg_inj z (by omega) (by omega))) (K 0 L h li (Or.inr ⟨rfl, hno⟩) P fg_E_r l fg_X_r)⟩
theorem fg_x103 {post : SX → Prop} {p L : Nat} (hp : p + 1 < 24 ∨ gd = 0) (h14 : o p ≤ 14)
    (K : ∀ ld', post (nI n, ck, gd, nI L, sx, fu, pa, dp, op, con, h, ld', bc, be, li, s, c)) : wX_follow_103 post (nI p) (nI (o p)) (nI n) ck gd (nI L) sx fu pa dp op con h ld bc be li s c := by
  by_cases h8 : o p = 8
  · exact br_t (by rw [h8]; rfl) (K ld)
  · refine br_f (fun z => h8 (fg_inj (b := 8) z (by omega) (by decide))) ?_
    by_cases hj : 8 ≤ o p ∧ o p ≤ 10
    · refine fg_xjumps1 hj.1 hj.2 (br_f (by decide) ?_)
      by_cases hg : gd = 0
      · exact br_t hg (K ld)
      · refine br_f hg ?_
        rw [nI_1 p]
        exact ⟨vp_in_nI (hp.resolve_right hg) (by decide), nm_e (K _)⟩
    · exact fg_xjumps0 h14 hj (br_t rfl (K ld))
theorem fg_x88 {post : SX → Prop} {p d L : Nat} (hn : n ≤ 24) (hp : p < n) (h14 : o p ≤ 14) (h13 : o p ≠ 13) (hu : fg_u (o p) ≤ d) (h8 : fg_n (o p) d ≤ 8)
    (F : ∀ g, fg_Cl n o con g → fg_S n o con g p d) (P : fg_P n o con h) (l : fg_L n h L li)
    (G : (gd = 1 ∧ (8 ≤ o p → o p ≤ 10 → fg_T n h (con p) (fg_n (o p) d))) ∨ (gd = 0 ∧ fg_No n o con))
    (K : ∀ (gd' : Int32) (L' : Nat) (h' ld' li' : Nat → Int32), ((gd' = 1 ∧ fg_S n o con h' p d) ∨ (gd' = 0 ∧ fg_No n o con)) → fg_P n o con h' → fg_E h h' → fg_L n h' L' li' → fg_X L li L' li' → post (nI n, ck, gd', nI L', sx, fu, pa, dp, op, con, h', ld', bc, be, li', s, c)) :
    wX_follow_88 post (nI p) (nI (o p)) (nI (fg_n (o p) d)) (nI n) ck gd (nI L) sx fu pa dp op con h ld bc be li s c := by
  by_cases e8 : o p = 8
  · refine br_t (by rw [e8]; rfl) ?_
    refine br_t (by rw [e8]; rfl) ?_
    refine K gd L h ld li ?_ P fg_E_r l fg_X_r
    rcases G with ⟨g1, t⟩ | g0
    · exact Or.inl ⟨g1, hu, h8, t, fun z => absurd e8 z⟩
    · exact Or.inr g0
  · refine br_f (fun z => e8 (fg_inj (b := 8) z (by omega) (by decide))) ?_
    rw [nI_1 p]
    refine fg_xcome hn h8 P l (fun g hg => (F g hg).2.2.2 e8 h13) ?_
    intro gd2 L2 h2 li2 hc P2 E2 l2 X2
    refine fg_x103 ?_ h14 ?_
    · rcases hc with ⟨_, j, hj, e, _⟩ | ⟨g0, _⟩
      · have := fg_inj e (by omega) (by omega)
        exact Or.inl (by omega)
      · exact Or.inr g0
    · intro ld2
      refine K gd2 L2 h2 ld2 li2 ?_ P2 E2 l2 X2
      rcases hc with ⟨g2, t2⟩ | g0
      · rcases G with ⟨g1, t⟩ | ⟨g0, hno⟩
        · exact Or.inl ⟨g2.trans g1, hu, h8, fun a b => fg_T_m hn h8 E2 (t a b), fun _ _ => t2⟩
        · exact Or.inr ⟨g2.trans g0, hno⟩
      · exact Or.inr g0
theorem fg_xfollow {post : SX → Prop} {p d L : Nat} (hn : n ≤ 24) (hp : p < n) (ho : op p = nI (o p)) (h14 : o p ≤ 14) (hd : d ≤ 8) (hh : h p = nI d)
    (P : fg_P n o con h) (l : fg_L n h L li)
    (K : ∀ (gd' : Int32) (L' : Nat) (h' ld' li' : Nat → Int32), ((gd' = 1 ∧ fg_S n o con h' p d) ∨ (gd' = 0 ∧ fg_No n o con)) → fg_P n o con h' → fg_E h h' → fg_L n h' L' li' → fg_X L li L' li' → post (nI n, ck, gd', nI L', sx, fu, pa, dp, op, con, h', ld', bc, be, li', s, c)) :
    wpX_follow post (nI n, ck, 1, nI L, sx, fu, pa, dp, op, con, h, ld, bc, be, li, s, c) (nI p) := by
  have F := fg_F P (by omega) hd hh
  have hi : vp_in (nI p) 24 := vp_in_nI (by omega) (by decide)
  have u2 := fg_ule h14
  have n1 := fg_n_le (o p) d
  refine And.intro hi (nm_r (fg_at (by omega) ho) ⟨hi, nm_r (fg_at (by omega) hh) (fg_xgrowth h14 ?_)⟩)
  by_cases hu : fg_u (o p) ≤ d
  · refine nm_r (fg_gn h14 hu) (fg_xuses h14 (br_f (nI_nlt hu (by omega)) ?_))
    by_cases h8 : fg_n (o p) d ≤ 8
    · refine br_t (nI_le (b := 8) h8 (by decide)) ?_
      by_cases h13 : o p = 13
      · refine br_t (by rw [h13]; rfl) (K 1 L h ld li (Or.inl ⟨rfl, hu, h8, ?_, fun _ z => absurd h13 z⟩) P fg_E_r l fg_X_r)
        intro _ z
        omega
      · refine br_f (fun z => h13 (fg_inj (b := 13) z (by omega) (by decide))) ?_
        by_cases hj : 8 ≤ o p ∧ o p ≤ 10
        · refine fg_xjumps1 hj.1 hj.2 (br_f (by decide) ⟨hi, ?_⟩)
          rw [nI_clamp (n := p) (by omega)]
          refine fg_xcome hn h8 P l (fun g hg => (F g hg).2.2.1 hj.1 hj.2) ?_
          intro gd1 L1 h1 li1 hc P1 E1 l1 X1
          have K1 : ∀ (ldd : Nat → Int32), wX_follow_88 post (nI p) (nI (o p)) (nI (fg_n (o p) d)) (nI n) ck gd1 (nI L1) sx fu pa dp op con h1 ldd bc be li1 s c := by
            intro ldd
            refine fg_x88 hn hp h14 h13 hu h8 F P1 l1 ?_ ?_
            · rcases hc with ⟨g, t⟩ | g0
              · exact Or.inl ⟨g, fun _ _ => t⟩
              · exact Or.inr g0
            · intro gd2 L2 h2 ld2 li2 hc2 P2 E2 l2 X2
              exact K gd2 L2 h2 ld2 li2 hc2 P2 (fg_E_t E1 E2) l2 (fg_X_t X1 X2)
          by_cases hg : gd1 = 0
          · exact br_t hg (K1 ld)
          · refine br_f hg ⟨hi, ?_⟩
            rcases hc with ⟨_, j, hj, e, _⟩ | ⟨g0, _⟩
            · exact ⟨by rw [e]; exact vp_in_nI (by omega) (by decide), nm_e (K1 _)⟩
            · exact absurd g0 hg
        · refine fg_xjumps0 h14 hj (br_t rfl ?_)
          exact fg_x88 hn hp h14 h13 hu h8 F P l (Or.inl ⟨rfl, fun a b => absurd ⟨a, b⟩ hj⟩) K
    · refine br_f (fun z => h8 ((nI_leI (b := 8) (by omega) (by decide)).mp z)) (K 0 L h ld li (Or.inr ⟨rfl, fun g hg => h8 (F g hg).2.1⟩) P fg_E_r l fg_X_r)
  · refine nm_e (fg_xuses h14 (br_t (nI_lt (by omega) (by omega)) (K 0 L h ld li (Or.inr ⟨rfl, fun g hg => hu (F g hg).1⟩) P fg_E_r l fg_X_r)))
end FGxcheck
end
section
section FGxloops
variable {n : Nat} {o : Nat → Nat} {op con : Nat → Int32} {ck gd ls sx fu pa dp : Int32} {h ld bc be li s c : Nat → Int32}
def fg_Op (n : Nat) (o : Nat → Nat) (op : Nat → Int32) : Prop := ∀ p, p < n → op p = nI (o p) ∧ o p ≤ 14
/-! blocks -/
def fg_pl (j : Nat) : Prop := j ≠ 8 ∧ j ≠ 9 ∧ j ≠ 10 ∧ j ≠ 13
def fg_B (n : Nat) (o : Nat → Nat) (con bc be : Nat → Int32) (p : Nat) : Prop :=
  ∃ k, p + k < n ∧ be p = nI (p + k) ∧ bc p = nI (fg_cs o con (k + 1) p) ∧ ∀ i, i < k → fg_pl (o (p + i))
def fg_BB (n : Nat) (o : Nat → Nat) (con bc be : Nat → Int32) (m : Nat) : Prop := ∀ p, m ≤ p → p < n → fg_B n o con bc be p
theorem fg_BB_u {p e cc : Nat} (H : fg_BB n o con bc be (p + 1)) (hb : fg_B n o con (upd bc p (nI cc)) (upd be p (nI e)) p) : fg_BB n o con (upd bc p (nI cc)) (upd be p (nI e)) p := by
  intro q hq hqn
  by_cases z : q = p
  · subst z
    exact hb
  · obtain ⟨k, hk, e1, e2, hpl⟩ := H q (by omega) hqn
    exact ⟨k, hk, by rw [pk_un z]; exact e1, by rw [pk_un z]; exact e2, hpl⟩
theorem fg_x61 {post : SX → Prop} {J : Int32 → (Nat → Int32) → (Nat → Int32) → (Nat → Int32) → (Nat → Int32) → (Nat → Int32) → (Nat → Int32) → (Nat → Int32) → (Nat → Int32) → (Nat → Int32) → Prop} {p : Nat}
    (hn : n ≤ 24) (hp : p < n) (H : fg_BB n o con bc be (p + 1))
    (K : ∀ bc' be', fg_BB n o con bc' be' p → J (nI p + (-1)) op con h ld bc' be' li s c) :
    wX_makeBlocks_61 post J (nI p) (nI (fg_c o con p)) (nI n) ck gd ls sx fu pa dp op con h ld bc be li s c := by
  have hi : vp_in (nI p) 24 := vp_in_nI (by omega) (by decide)
  unfold wX_makeBlocks_61 wX_makeBlocks_66
  refine br_f (by decide) ?_
  unfold wX_makeBlocks_88
  rw [nI_clamp (n := p) (by omega)]
  refine ⟨hi, nm_e (br_f (by decide) ⟨hi, nm_e (nm_e (K _ _ (fg_BB_u H ?_)))⟩)⟩
  exact ⟨0, hp, pk_us, pk_us, fun i hi => absurd hi (Nat.not_lt_zero i)⟩
theorem fg_x66 {post : SX → Prop} {J : Int32 → (Nat → Int32) → (Nat → Int32) → (Nat → Int32) → (Nat → Int32) → (Nat → Int32) → (Nat → Int32) → (Nat → Int32) → (Nat → Int32) → (Nat → Int32) → Prop} {p : Nat}
    (hn : n ≤ 24) (hp : p + 1 < n) (hpl : fg_pl (o p)) (H : fg_BB n o con bc be (p + 1))
    (K : ∀ bc' be', fg_BB n o con bc' be' p → J (nI p + (-1)) op con h ld bc' be' li s c) :
    wX_makeBlocks_66 post J (nI p) (nI (fg_c o con p)) 0 (nI n) ck gd ls sx fu pa dp op con h ld bc be li s c := by
  have hi : vp_in (nI p) 24 := vp_in_nI (by omega) (by decide)
  have hi1 : vp_in (nI (p + 1)) 24 := vp_in_nI (by omega) (by decide)
  obtain ⟨k, hk, e1, e2, hpl2⟩ := H (p + 1) (Nat.le_refl _) hp
  unfold wX_makeBlocks_66
  refine br_t rfl ?_
  rw [nI_1 p, nI_clamp (n := p + 1) (by omega), e1]
  refine ⟨hi1, ?_⟩
  unfold wX_makeBlocks_88
  rw [nI_clamp (n := p) (by omega)]
  refine ⟨hi, nm_e (br_t rfl ?_)⟩
  rw [nI_1 p, nI_clamp (n := p + 1) (by omega), e2, nI_add]
  refine ⟨hi1, hi, nm_e (nm_e (K _ _ (fg_BB_u H ?_)))⟩
  refine ⟨k + 1, by omega, ?_, pk_us, ?_⟩
  · rw [pk_us]
    exact congrArg nI (by omega)
  · intro i hi
    by_cases z : i = 0
    · subst z
      exact hpl
    · have := hpl2 (i - 1) (by omega)
      rw [show p + 1 + (i - 1) = p + i by omega] at this
      exact this
theorem fg_x7 {post : SX → Prop} (hn : n ≤ 24) (O : fg_Op n o op)
    (K : ∀ bc' be', fg_BB n o con bc' be' 0 → post (nI n, ck, gd, ls, sx, fu, pa, dp, op, con, h, ld, bc', be', li, s, c)) :
    ∀ (m : Nat) (bc be : Nat → Int32), m ≤ n → fg_BB n o con bc be m → wX_makeBlocks_7 post (nI n) ck gd ls sx fu pa dp (m + 1) (nI m + (-1)) op con h ld bc be li s c := by
  intro m
  induction m with
  | zero =>
    intro bc be _ H
    exact br_t (by decide) (K bc be H)
  | succ p ih =>
    intro bc be hm H
    have hi : vp_in (nI p) 24 := vp_in_nI (by omega) (by decide)
    obtain ⟨ho, h14⟩ := O p (by omega)
    have K' : ∀ bc' be', fg_BB n o con bc' be' p → wX_makeBlocks_7 post (nI n) ck gd ls sx fu pa dp (p + 1) (nI p + (-1)) op con h ld bc' be' li s c := fun bc' be' H' => ih bc' be' (by omega) H'
    rw [pk_m1 p]
    refine br_f (nI_pos (by omega)) (fg_xcost (by omega) ho h14 ⟨hi, ?_⟩)
    rw [nI_clamp (n := p) (by omega), ho]
    by_cases hj : 8 ≤ o p ∧ o p ≤ 10
    · exact fg_xjumps1 hj.1 hj.2 (br_f (by decide) (fg_x61 hn (by omega) H K'))
    · refine fg_xjumps0 h14 hj (br_t rfl ⟨hi, ?_⟩)
      by_cases h13 : o p = 13
      · exact br_t (by rw [h13]; rfl) (fg_x61 hn (by omega) H K')
      · refine br_f (fun z => h13 (fg_inj (b := 13) z (by omega) (by decide))) ?_
        rw [fg_s1 (d := n) (by omega)]
        by_cases hl : p = n - 1
        · exact br_t (by rw [hl]) (fg_x61 hn (by omega) H K')
        · refine br_f (fun z => hl (fg_inj z (by omega) (by omega))) ?_
          rw [nI_1 p]
          refine ⟨vp_in_nI (by omega) (by decide), br_c (fun _ => ?_) (fun _ => fg_x61 hn (by omega) H K')⟩
          exact fg_x66 hn (by omega) ⟨by omega, by omega, by omega, h13⟩ H K'
theorem fg_xmake {post : SX → Prop} (hn : n ≤ 24) (h0 : 0 < n) (O : fg_Op n o op)
    (K : ∀ bc' be', fg_BB n o con bc' be' 0 → post (nI n, ck, gd, ls, sx, fu, pa, dp, op, con, h, ld, bc', be', li, s, c)) : wpX_makeBlocks post (nI n, ck, gd, ls, sx, fu, pa, dp, op, con, h, ld, bc, be, li, s, c) := by
  refine nm_r (e' := nI n + (-1)) (by rw [fg_s1 h0, fg_m1 h0]) ⟨n + 1, ?_⟩
  exact fg_x7 hn O K n bc be (Nat.le_refl _) (fun p h1 h2 => absurd h2 (by omega))
/-! the check -/
def fg_CK (n : Nat) (o : Nat → Nat) (con : Nat → Int32) (gd : Int32) (h bc be : Nat → Int32) : Prop :=
  (gd = 1 ∧ fg_Cl n o con h ∧ fg_P n o con h ∧ fg_BB n o con bc be 0) ∨ (gd = 0 ∧ fg_No n o con)
theorem fg_x116 {post : SX → Prop} (hn : n ≤ 24) (O : fg_Op n o op) (G : (gd = 1 ∧ fg_Cl n o con h ∧ fg_P n o con h) ∨ (gd = 0 ∧ fg_No n o con))
    (K : ∀ bc' be', fg_CK n o con gd h bc' be' → post (nI n, ck, gd, ls, sx, fu, pa, dp, op, con, h, ld, bc', be', li, s, c)) : wX_check_116 post (nI n) ck gd ls sx fu pa dp op con h ld bc be li s c := by
  rcases G with ⟨rfl, C, P⟩ | ⟨rfl, hno⟩
  · exact br_f (by decide) (fg_xmake hn C.1 O (fun bc' be' H => K bc' be' (Or.inl ⟨rfl, C, P, H⟩)))
  · exact br_t rfl (K bc be (Or.inr ⟨rfl, hno⟩))
/-- what is done of the list -/
def fg_D (n : Nat) (o : Nat → Nat) (con h li : Nat → Int32) (i : Nat) : Prop := ∀ k, k < i → ∃ p d, p < n ∧ d ≤ 8 ∧ li k = nI p ∧ h p = nI d ∧ fg_S n o con h p d
theorem fg_D_s {h' li' : Nat → Int32} {i L L' p d : Nat} (hn : n ≤ 24) (D : fg_D n o con h li i) (hi : i < L) (E : fg_E h h') (X : fg_X L li L' li')
    (hp : p < n) (hd : d ≤ 8) (e : li i = nI p) (hh : h p = nI d) (S : fg_S n o con h' p d) : fg_D n o con h' li' (i + 1) := by
  have up : ∀ q c, q < n → c ≤ 8 → h q = nI c → h' q = nI c := by
    intro q c hq hc hh
    rw [E q (by omega) (by rw [hh]; exact fg_ne (by omega)), hh]
  intro k hk
  by_cases z : k = i
  · subst z
    exact ⟨p, d, hp, hd, by rw [X.2 k hi]; exact e, up p d hp hd hh, S⟩
  · obtain ⟨q, c, hq, hc, e2, hh2, S2⟩ := D k (by omega)
    exact ⟨q, c, hq, hc, by rw [X.2 k (by omega)]; exact e2, up q c hq hc hh2, fg_S_m hn E S2⟩
theorem fg_x85 {post : SX → Prop} (hn : n ≤ 24) (h0 : 0 < n) (O : fg_Op n o op)
    (K : ∀ gd' ls' h' ld' bc' be' li', fg_CK n o con gd' h' bc' be' → post (nI n, ck, gd', ls', sx, fu, pa, dp, op, con, h', ld', bc', be', li', s, c)) :
    ∀ (N i L : Nat) (gd : Int32) (h ld li : Nat → Int32), 24 < N + i → i ≤ L → fg_P n o con h → fg_L n h L li → h 0 = nI 0 →
      ((gd = 1 ∧ fg_D n o con h li i) ∨ (gd = 0 ∧ fg_No n o con)) → wX_check_85 post N (nI i) (nI n) ck gd (nI L) sx fu pa dp op con h ld bc be li s c := by
  intro N
  induction N with
  | zero =>
    intro i L gd h ld li hN hi P l T G
    have := fg_L_le l
    omega
  | succ N ih =>
    intro i L gd h ld li hN hi P l T G
    have hL := fg_L_le l
    rcases G with ⟨rfl, D⟩ | ⟨rfl, hno⟩
    · by_cases hiL : i = L
      · subst hiL
        refine br_t (nI_le (Nat.le_refl _) (by omega)) (fg_x116 hn O (Or.inl ⟨rfl, ⟨h0, T, ?_⟩, P⟩) (fun bc' be' c => K _ _ _ _ _ _ _ c))
        intro p d hp hd hh
        obtain ⟨k, hk, e⟩ := l.2.1 p (by omega) (by rw [hh]; exact fg_ne (by omega))
        obtain ⟨q, d2, hq, hd2, e2, hh2, S⟩ := D k hk
        have := fg_inj (e.symm.trans e2) (by omega) (by omega)
        subst this
        have := fg_inj (hh.symm.trans hh2) (by omega) (by omega)
        subst this
        exact S
      · obtain ⟨p, hp, e, hh⟩ := l.2.2 i (by omega)
        obtain ⟨ho, h14⟩ := O p hp
        rcases P p (by omega) with z | ⟨_, d, hd, hd2, _⟩
        · exact absurd z hh
        · refine br_f (nI_ge (by omega) (by omega)) (br_f (by decide) ⟨vp_in_nI (by omega) (by decide), ?_⟩)
          rw [nI_clamp (n := i) (by omega), e]
          refine fg_xfollow hn hp ho h14 hd hd2 P l ?_
          intro gd' L' h' ld' li' G' P' E' l' X'
          refine nm_r (nI_1 i) (ih (i + 1) L' gd' h' ld' li' (by omega) ?_ P' l' ?_ ?_)
          · have := X'.1
            omega
          · rw [E' 0 (by omega) (by rw [T]; exact fg_ne (by omega)), T]
          · rcases G' with ⟨g, S⟩ | g
            · exact Or.inl ⟨g, fg_D_s hn D (by omega) E' X' hp hd e hd2 S⟩
            · exact Or.inr g
    · have Q := fg_x116 (ck := ck) (ls := nI L) (sx := sx) (fu := fu) (pa := pa) (dp := dp) (ld := ld) (bc := bc) (be := be) (li := li) (s := s) (c := c) (post := post) (gd := 0) (h := h) hn O (Or.inr ⟨rfl, hno⟩) (fun bc' be' cc => K _ _ _ _ _ _ _ cc)
      exact br_c (fun _ => Q) (fun _ => br_t rfl Q)
theorem fg_x85z {post : SX → Prop} (hno : fg_No n o con)
    (K : ∀ gd' ls' h' ld' bc' be' li', fg_CK n o con gd' h' bc' be' → post (nI n, ck, gd', ls', sx, fu, pa, dp, op, con, h', ld', bc', be', li', s, c)) (hn : n ≤ 24) (O : fg_Op n o op) (N : Nat) (x : Int32) :
    wX_check_85 post (N + 1) x (nI n) ck 0 ls sx fu pa dp op con h ld bc be li s c := by
  have Q := fg_x116 (ck := ck) (ls := ls) (sx := sx) (fu := fu) (pa := pa) (dp := dp) (ld := ld) (bc := bc) (be := be) (li := li) (s := s) (c := c) (post := post) (gd := 0) (h := h) hn O (Or.inr ⟨rfl, hno⟩) (fun bc' be' cc => K _ _ _ _ _ _ _ cc)
  exact br_c (fun _ => Q) (fun _ => br_t rfl Q)
theorem fg_No0 (h0 : n = 0) : fg_No n o con := fun g hg => by
  have := hg.1
  omega
theorem fg_L_0 (e : ∀ p, p < 24 → h p = -1) : fg_L n h 0 li :=
  ⟨(fg_cnt_0 e 24 (Nat.le_refl _)).symm, fun p hp hh => absurd (e p hp) hh, fun i hi => absurd hi (Nat.not_lt_zero i)⟩
theorem fg_x36 {post : SX → Prop} (hn : n ≤ 24) (O : fg_Op n o op) (G : (gd = 1 ∧ 0 < n) ∨ (gd = 0 ∧ n = 0))
    (K : ∀ gd' ls' h' ld' bc' be' li', fg_CK n o con gd' h' bc' be' → post (nI n, ck, gd', ls', sx, fu, pa, dp, op, con, h', ld', bc', be', li', s, c)) :
    ∀ (N i : Nat) (h ld : Nat → Int32), 24 < N + i → i ≤ 24 → (∀ p, p < i → h p = -1) → wX_check_36 post (nI n) ck gd 0 sx fu pa dp N (nI i) op con h ld bc be li s c := by
  intro N
  induction N with
  | zero =>
    intro i h ld hN hi _
    omega
  | succ N ih =>
    intro i h ld hN hi H
    by_cases h24 : i = 24
    · subst h24
      refine br_t (nI_le (a := 24) (Nat.le_refl _) (by decide)) ?_
      rcases G with ⟨rfl, h0⟩ | ⟨rfl, h0⟩
      · refine br_f (by decide) ?_
        refine fg_xcome (o := o) (d := 0) (L := 0) hn (by omega) (fg_P_0 H) (fg_L_0 H) (fun g hg => ⟨0, hg.1, rfl, hg.2.1⟩) ?_
        intro gd' L' h' li' G' P' E' l' X'
        rcases G' with ⟨g1, j, hj, e, hh⟩ | ⟨g0, hno⟩
        · have := fg_inj (a := 0) e (by decide) (by omega)
          subst this
          exact ⟨25, fg_x85 hn h0 O K 25 0 L' gd' h' ld li' (by omega) (Nat.zero_le _) P' l' hh (Or.inl ⟨g1, fun k hk => absurd hk (Nat.not_lt_zero k)⟩)⟩
        · subst g0
          exact ⟨1, fg_x85z hno K hn O 0 0⟩
      · exact br_t rfl ⟨1, fg_x85z (fg_No0 h0) K hn O 0 0⟩
    · have hin : vp_in (nI i) 24 := vp_in_nI (by omega) (by decide)
      refine br_f (nI_ge (b := 24) (by omega) (by decide)) ⟨hin, ?_⟩
      rw [nI_clamp (n := i) (by omega)]
      have H' : ∀ p, p < i + 1 → upd h i (-1) p = -1 := by
        intro p hp
        by_cases z : p = i
        · rw [z, pk_us]
        · rw [pk_un z]
          exact H p (by omega)
      refine nm_e (br_c (fun _ => ⟨hin, nm_e (nm_r (nI_1 i) ?_)⟩) (fun _ => ⟨hin, nm_e (nm_r (nI_1 i) ?_)⟩))
      · exact ih (i + 1) _ _ (by omega) (by omega) H'
      · exact ih (i + 1) _ _ (by omega) (by omega) H'
theorem fg_xcheck {post : SX → Prop} (hn : n ≤ 24) (O : fg_Op n o op) (G : ck = 0 ∨ (ck = 1 ∧ fg_CK n o con gd h bc be))
    (K : ∀ gd' ls' h' ld' bc' be' li', fg_CK n o con gd' h' bc' be' → ((ck = 1 ∧ gd' = gd ∧ h' = h ∧ bc' = bc ∧ be' = be) ∨ ck = 0) → post (nI n, 1, gd', ls', sx, fu, pa, dp, op, con, h', ld', bc', be', li', s, c)) : wpX_check post (nI n, ck, gd, ls, sx, fu, pa, dp, op, con, h, ld, bc, be, li, s, c) := by
  rcases G with rfl | ⟨rfl, C⟩
  · refine br_t rfl ?_
    by_cases h0 : n = 0
    · exact br_t (by rw [h0]; decide) ⟨25, fg_x36 hn O (Or.inr ⟨rfl, h0⟩) (fun gd' ls' h' ld' bc' be' li' C => K gd' ls' h' ld' bc' be' li' C (Or.inr rfl)) 25 0 h ld (by omega) (by omega) (fun p hp => absurd hp (Nat.not_lt_zero p))⟩
    · exact br_f (nI_nle (by omega) (by omega)) ⟨25, fg_x36 hn O (Or.inl ⟨rfl, by omega⟩) (fun gd' ls' h' ld' bc' be' li' C => K gd' ls' h' ld' bc' be' li' C (Or.inr rfl)) 25 0 h ld (by omega) (by omega) (fun p hp => absurd hp (Nat.not_lt_zero p))⟩
  · exact br_f (by decide) (K gd ls h ld bc be li C (Or.inl ⟨rfl, rfl, rfl, rfl, rfl⟩))
end FGxloops
end
section
section FGycheck
variable {n : Nat} {o : Nat → Nat} {op con : Nat → Int32} {sy fu pa tp : Int32} {c hy s : Nat → Int32}
/-! small methods of the reference -/
theorem fg_yneeds {post : Int32 → Prop} {j : Nat} (hj : j ≤ 14) (hp : post (nI (fg_u j))) : wpY_needs post (nI n, sy, fu, pa, tp, op, con, c, hy, s) (nI j) := by
  unfold wpY_needs
  obtain rfl | rfl | rfl | rfl | rfl | rfl | rfl | rfl | rfl | rfl | rfl | rfl | rfl | rfl | rfl := fg_c15 hj <;>
    repeat first | exact hp | refine br_t (by decide) ?_ | refine br_f (by decide) ?_
theorem fg_ychange {post : Int32 → Prop} {j : Nat} (hj : j ≤ 14) (hp : post (fg_g j)) : wpY_change post (nI n, sy, fu, pa, tp, op, con, c, hy, s) (nI j) := by
  unfold wpY_change wY_change_38
  obtain rfl | rfl | rfl | rfl | rfl | rfl | rfl | rfl | rfl | rfl | rfl | rfl | rfl | rfl | rfl := fg_c15 hj <;>
    repeat first | exact hp | refine br_t (by decide) ?_ | refine br_f (by decide) ?_
theorem fg_ycost {post : Int32 → Prop} {p : Nat} (hp : p < 24) (ho : op p = nI (o p)) (h14 : o p ≤ 14) (H : post (nI (fg_c o con p))) : wpY_cost post (nI n, sy, fu, pa, tp, op, con, c, hy, s) (nI p) := by
  have hi : vp_in (nI p) 24 := vp_in_nI hp (by decide)
  have e : op (nI p).toNatClampNeg = nI (o p) := fg_at (by omega) ho
  unfold fg_c at H
  refine And.intro hi ?_
  rw [e, nI_clamp (n := p) (by omega)]
  by_cases h4 : o p = 14
  · rw [if_neg (by omega), if_pos h4] at H
    refine br_t (by rw [h4]; rfl) ⟨hi, ?_⟩
    rw [fg_and15]
    exact H
  · refine br_f (fun z => h4 (fg_inj (b := 14) z (by omega) (by decide))) ⟨hi, ?_⟩
    by_cases h5 : o p = 5
    · rw [if_pos h5] at H
      exact br_t (by rw [h5]; rfl) H
    · rw [if_neg h5, if_neg h4] at H
      exact br_f (fun z => h5 (fg_inj (b := 5) z (by omega) (by decide))) H
theorem fg_ycome {post : Int32 → SY → Prop} {q : Int32} {d : Nat} (hn : n ≤ 24) (hd : d ≤ 8) (P : fg_P n o con hy)
    (F : ∀ g, fg_Cl n o con g → fg_T n g q d)
    (K : ∀ (r : Int32) (h' : Nat → Int32), ((r = 1 ∧ fg_T n h' q d) ∨ (r = 0 ∧ fg_No n o con)) → fg_P n o con h' → fg_E hy h' → (h' = hy ∨ fg_cnt hy 24 < fg_cnt h' 24) → post r (nI n, sy, fu, pa, tp, op, con, c, h', s)) :
    wpY_come post (nI n, sy, fu, pa, tp, op, con, c, hy, s) q (nI d) := by
  rcases fg_come hn hd P F with ⟨h1, hno⟩ | ⟨h1, h2, hno⟩ | ⟨j, hj, rfl, hh⟩
  · exact br_t h1 (K 0 hy (Or.inr ⟨rfl, hno⟩) P fg_E_r (Or.inl rfl))
  · exact br_f h1 (br_f h2 (K 0 hy (Or.inr ⟨rfl, hno⟩) P fg_E_r (Or.inl rfl)))
  · have hcl : (nI j).toNatClampNeg = j := nI_clamp (by omega)
    have hi : vp_in (nI j) 24 := vp_in_nI (by omega) (by decide)
    refine br_f (nI_pos (by omega)) (br_t (nI_lt hj (by omega)) ⟨hi, ?_⟩)
    rw [hcl]
    rcases hh with ⟨hm, F'⟩ | he | ⟨d', hd', hne, he, hno⟩
    · refine br_t (by rw [hm]; exact fg_n1lt) ⟨hi, nm_e ?_⟩
      refine K 1 _ (Or.inl ⟨rfl, j, hj, rfl, pk_us⟩) (fg_P_u P hj hd F') (fg_E_u hm) (Or.inr ?_)
      rw [fg_cnt_up hm (fg_ne (by omega)) 24 (by omega)]
      omega
    · refine br_f (by rw [he]; exact nI_pos (by omega)) ⟨hi, br_t he ⟨hi, nm_r (fg_same he) ?_⟩⟩
      exact K 1 hy (Or.inl ⟨rfl, j, hj, rfl, he⟩) P fg_E_r (Or.inl rfl)
    · exact br_f (by rw [he]; exact nI_pos (by omega)) ⟨hi, br_f (by rw [he]; exact fun z => hne (fg_inj z (by omega) (by omega))) (K 0 hy (Or.inr ⟨rfl, hno⟩) P fg_E_r (Or.inl rfl))⟩
theorem fg_G_t {h h' h'' : Nat → Int32} (E2 : fg_E h' h'') (a : h' = h ∨ fg_cnt h 24 < fg_cnt h' 24) (b : h'' = h' ∨ fg_cnt h' 24 < fg_cnt h'' 24) : h'' = h ∨ fg_cnt h 24 < fg_cnt h'' 24 := by
  have m := fg_cnt_mono E2 24 (Nat.le_refl _)
  rcases a with rfl | a
  · exact b
  · exact Or.inr (by omega)
theorem fg_y70 {post : Int32 → SY → Prop} {p d : Nat} (hn : n ≤ 24) (hp : p < n) (h14 : o p ≤ 14) (hu : fg_u (o p) ≤ d) (h8 : fg_n (o p) d ≤ 8)
    (F : ∀ g, fg_Cl n o con g → fg_S n o con g p d) (P : fg_P n o con hy)
    (G : 8 ≤ o p → o p ≤ 10 → fg_T n hy (con p) (fg_n (o p) d))
    (K : ∀ (r : Int32) (h' : Nat → Int32), ((r = 1 ∧ fg_S n o con h' p d) ∨ (r = 0 ∧ fg_No n o con)) → fg_P n o con h' → fg_E hy h' → (h' = hy ∨ fg_cnt hy 24 < fg_cnt h' 24) → post r (nI n, sy, fu, pa, tp, op, con, c, h', s)) :
    wY_check_70 post (nI p) (nI (o p)) (nI (fg_n (o p) d)) (nI n) sy fu pa tp op con c hy s := by
  by_cases e8 : o p = 8
  · exact br_t (by rw [e8]; rfl) (K 1 hy (Or.inl ⟨rfl, hu, h8, G, fun z => absurd e8 z⟩) P fg_E_r (Or.inl rfl))
  · refine br_f (fun z => e8 (fg_inj (b := 8) z (by omega) (by decide))) ?_
    by_cases e13 : o p = 13
    · exact br_t (by rw [e13]; rfl) (K 1 hy (Or.inl ⟨rfl, hu, h8, G, fun _ z => absurd e13 z⟩) P fg_E_r (Or.inl rfl))
    · refine br_f (fun z => e13 (fg_inj (b := 13) z (by omega) (by decide))) ?_
      rw [nI_1 p]
      refine fg_ycome hn h8 P (fun g hg => (F g hg).2.2.2 e8 e13) ?_
      intro r h' hc P' E' C'
      rcases hc with ⟨rfl, t⟩ | ⟨rfl, hno⟩
      · exact br_f (by decide) (K 1 h' (Or.inl ⟨rfl, hu, h8, fun a b => fg_T_m hn h8 E' (G a b), fun _ _ => t⟩) P' E' C')
      · exact br_t rfl (K 0 h' (Or.inr ⟨rfl, hno⟩) P' E' C')
theorem fg_ycheck {post : Int32 → SY → Prop} {p d : Nat} (hn : n ≤ 24) (hp : p < n) (ho : op p = nI (o p)) (h14 : o p ≤ 14) (hd : d ≤ 8) (hh : hy p = nI d)
    (P : fg_P n o con hy)
    (K : ∀ (r : Int32) (h' : Nat → Int32), ((r = 1 ∧ fg_S n o con h' p d) ∨ (r = 0 ∧ fg_No n o con)) → fg_P n o con h' → fg_E hy h' → (h' = hy ∨ fg_cnt hy 24 < fg_cnt h' 24) → post r (nI n, sy, fu, pa, tp, op, con, c, h', s)) :
    wpY_check post (nI n, sy, fu, pa, tp, op, con, c, hy, s) (nI p) := by
  have F := fg_F P (by omega) hd hh
  have hi : vp_in (nI p) 24 := vp_in_nI (by omega) (by decide)
  have u2 := fg_ule h14
  have n1 := fg_n_le (o p) d
  refine And.intro hi (nm_r (fg_at (by omega) ho) ⟨hi, fg_ychange h14 ?_⟩)
  rw [nI_clamp (n := p) (by omega), hh]
  by_cases hu : fg_u (o p) ≤ d
  · refine nm_r (fg_gn h14 hu) ⟨hi, fg_yneeds h14 (br_f (nI_nlt hu (by omega)) ?_)⟩
    by_cases h8 : fg_n (o p) d ≤ 8
    · refine br_t (nI_le (b := 8) h8 (by decide)) ?_
      by_cases hj : 8 ≤ o p ∧ o p ≤ 10
      · refine br_f (nI_nlt (b := 8) hj.1 (by omega)) (br_f (nI_nlt (a := 10) hj.2 (by omega)) ⟨hi, ?_⟩)
        refine fg_ycome hn h8 P (fun g hg => (F g hg).2.2.1 hj.1 hj.2) ?_
        intro r h' hc P' E' C'
        rcases hc with ⟨rfl, t⟩ | ⟨rfl, hno⟩
        · refine br_f (by decide) (fg_y70 hn hp h14 hu h8 F P' (fun _ _ => t) ?_)
          intro r2 h2 hc2 P2 E2 C2
          exact K r2 h2 hc2 P2 (fg_E_t E' E2) (fg_G_t E2 C' C2)
        · exact br_t rfl (K 0 h' (Or.inr ⟨rfl, hno⟩) P' E' C')
      · have Q := fg_y70 (sy := sy) (fu := fu) (pa := pa) (tp := tp) (op := op) (c := c) (s := s) hn hp h14 hu h8 F P (fun a b => absurd ⟨a, b⟩ hj) K
        by_cases l8 : o p < 8
        · exact br_t (nI_lt (b := 8) l8 (by decide)) Q
        · exact br_f (nI_nlt (b := 8) (by omega) (by omega)) (br_t (nI_lt (a := 10) (by omega) (by omega)) Q)
    · exact br_f (fun z => h8 ((nI_leI (b := 8) (by omega) (by decide)).mp z)) (K 0 hy (Or.inr ⟨rfl, fun g hg => h8 (F g hg).2.1⟩) P fg_E_r (Or.inl rfl))
  · exact nm_e ⟨hi, fg_yneeds h14 (br_t (nI_lt (by omega) (by omega)) (K 0 hy (Or.inr ⟨rfl, fun g hg => hu (F g hg).1⟩) P fg_E_r (Or.inl rfl)))⟩
/-! the sweeps -/
def fg_W (n : Nat) (o : Nat → Nat) (con h0 h : Nat → Int32) (i : Nat) : Prop :=
  (h = h0 ∧ ∀ p d, p < i → d ≤ 8 → h0 p = nI d → fg_S n o con h0 p d) ∨ fg_cnt h0 24 < fg_cnt h 24
theorem fg_y42 {post : Int32 → SY → Prop} {J : Int32 → Int32 → Int32 → Int32 → Int32 → Int32 → (Nat → Int32) → (Nat → Int32) → (Nat → Int32) → (Nat → Int32) → (Nat → Int32) → Prop} {x : Nat} {h0 : Nat → Int32}
    (hn : n ≤ 24) (O : fg_Op n o op)
    (K0 : ∀ h', fg_No n o con → post 0 (nI n, sy, fu, pa, tp, op, con, c, h', s))
    (K1 : ∀ h', fg_P n o con h' → fg_E h0 h' → fg_W n o con h0 h' n → J (nI (x + 1)) (nI n) sy fu pa tp op con c h' s) :
    ∀ (N i : Nat) (hy : Nat → Int32), n < N + i → i ≤ n → fg_P n o con hy → fg_E h0 hy → fg_W n o con h0 hy i → wY_sound_42 post J (nI x) N (nI i) (nI n) sy fu pa tp op con c hy s := by
  intro N
  induction N with
  | zero =>
    intro i hy hN hi _ _ _
    omega
  | succ N ih =>
    intro i hy hN hi P E W
    by_cases hin : i = n
    · subst hin
      exact br_t (nI_le (Nat.le_refl _) (by omega)) (nm_r (nI_1 x) (K1 hy P E W))
    · refine br_f (nI_ge (by omega) (by omega)) ⟨vp_in_nI (by omega) (by decide), ?_⟩
      rw [nI_clamp (n := i) (by omega)]
      obtain ⟨ho, h14⟩ := O i (by omega)
      rcases P i (by omega) with z | ⟨_, d, hd, hh, _⟩
      · refine br_t (by rw [z]; exact fg_n1lt) (nm_r (nI_1 i) (ih (i + 1) hy (by omega) (by omega) P E ?_))
        rcases W with ⟨rfl, W⟩ | W
        · refine Or.inl ⟨rfl, fun p d hp hd hh => ?_⟩
          by_cases e : p = i
          · rw [e, z] at hh
            exact absurd hh.symm (fg_ne (by omega))
          · exact W p d (by omega) hd hh
        · exact Or.inr W
      · refine br_f (by rw [hh]; exact nI_pos (by omega)) (fg_ycheck hn (by omega) ho h14 hd hh P ?_)
        intro r h' hc P' E' C'
        rcases hc with ⟨rfl, S⟩ | ⟨rfl, hno⟩
        · refine br_f (by decide) (nm_r (nI_1 i) (ih (i + 1) h' (by omega) (by omega) P' (fg_E_t E E') ?_))
          rcases W with ⟨rfl, W⟩ | W
          · rcases C' with rfl | C'
            · refine Or.inl ⟨rfl, fun p d2 hp hd2 hh2 => ?_⟩
              by_cases e : p = i
              · subst e
                have := fg_inj (hh.symm.trans hh2) (by omega) (by omega)
                subst this
                exact S
              · exact W p d2 (by omega) hd2 hh2
            · exact Or.inr C'
          · have m := fg_cnt_mono E' 24 (Nat.le_refl _)
            exact Or.inr (by omega)
        · exact br_t rfl (K0 h' hno)
theorem fg_y34 {post : Int32 → SY → Prop} (hn : n ≤ 24) (h0 : 0 < n) (O : fg_Op n o op)
    (K : ∀ r h', ((r = 1 ∧ fg_Cl n o con h' ∧ fg_P n o con h') ∨ (r = 0 ∧ fg_No n o con)) → post r (nI n, sy, fu, pa, tp, op, con, c, h', s)) :
    ∀ (N x : Nat) (hy : Nat → Int32), 25 < N + x → x ≤ 25 → fg_P n o con hy → hy 0 = nI 0 → (fg_Cl n o con hy ∨ x < fg_cnt hy 24) → wY_sound_34 post N (nI x) (nI n) sy fu pa tp op con c hy s := by
  intro N
  induction N with
  | zero =>
    intro x hy hN hx _ _ _
    omega
  | succ N ih =>
    intro x hy hN hx P T G
    by_cases h25 : x = 25
    · subst h25
      refine br_t (nI_le (a := 25) (Nat.le_refl _) (by decide)) (K 1 hy (Or.inl ⟨rfl, ?_, P⟩))
      rcases G with C | z
      · exact C
      · have := fg_cnt_le hy 24
        omega
    · refine br_f (nI_ge (b := 25) (by omega) (by decide)) ⟨25, ?_⟩
      refine fg_y42 hn O (fun h' hno => K 0 h' (Or.inr ⟨rfl, hno⟩)) ?_ 25 0 hy (by omega) (Nat.zero_le _) P fg_E_r (Or.inl ⟨rfl, fun p d hp => absurd hp (Nat.not_lt_zero p)⟩)
      intro h' P' E' W
      refine ih (x + 1) h' (by omega) (by omega) P' ?_ ?_
      · rw [E' 0 (by omega) (by rw [T]; exact fg_ne (by omega)), T]
      · rcases W with ⟨rfl, W⟩ | W
        · exact Or.inl ⟨h0, T, W⟩
        · rcases G with C | z
          · have := fg_cnt_mono (fg_Cl_E C P') 24 (Nat.le_refl _)
            omega
          · exact Or.inr (by omega)
theorem fg_cnt_1 {p : Nat} (hp : hy p ≠ -1) : ∀ k, p < k → 0 < fg_cnt hy k := by
  intro k
  induction k with
  | zero => intro z; omega
  | succ k ih =>
    intro z
    rw [fg_cnt_s]
    by_cases e : p = k
    · rw [← e, if_neg hp]
      omega
    · have := ih (by omega)
      omega
theorem fg_y2 {post : Int32 → SY → Prop} (hn : n ≤ 24) (O : fg_Op n o op)
    (K : ∀ r h', ((r = 1 ∧ fg_Cl n o con h' ∧ fg_P n o con h') ∨ (r = 0 ∧ fg_No n o con)) → post r (nI n, sy, fu, pa, tp, op, con, c, h', s)) :
    ∀ (N i : Nat) (hy : Nat → Int32), 24 < N + i → i ≤ 24 → (∀ p, p < i → hy p = -1) → wY_sound_2 post (nI n) sy fu pa tp N (nI i) op con c hy s := by
  intro N
  induction N with
  | zero =>
    intro i hy hN hi _
    omega
  | succ N ih =>
    intro i hy hN hi H
    by_cases h24 : i = 24
    · subst h24
      refine br_t (nI_le (a := 24) (Nat.le_refl _) (by decide)) ?_
      refine fg_ycome (o := o) (d := 0) hn (by omega) (fg_P_0 H) (fun g hg => ⟨0, hg.1, rfl, hg.2.1⟩) ?_
      intro r h' hc P' E' C'
      rcases hc with ⟨rfl, j, hj, e, hh⟩ | ⟨rfl, hno⟩
      · have := fg_inj (a := 0) e (by decide) (by omega)
        subst this
        refine br_f (by decide) ⟨26, fg_y34 hn hj O K 26 0 h' (by omega) (Nat.zero_le _) P' hh (Or.inr ?_)⟩
        exact fg_cnt_1 (by rw [hh]; exact fg_ne (by omega)) 24 (by omega)
      · exact br_t rfl (K 0 h' (Or.inr ⟨rfl, hno⟩))
    · have hin : vp_in (nI i) 24 := vp_in_nI (by omega) (by decide)
      refine br_f (nI_ge (b := 24) (by omega) (by decide)) ⟨hin, ?_⟩
      rw [nI_clamp (n := i) (by omega)]
      refine nm_e (nm_r (nI_1 i) (ih (i + 1) _ (by omega) (by omega) ?_))
      intro p hp
      by_cases z : p = i
      · rw [z, pk_us]
      · rw [pk_un z]
        exact H p (by omega)
theorem fg_ysound {post : Int32 → SY → Prop} (hn : n ≤ 24) (O : fg_Op n o op)
    (K : ∀ r h', ((r = 1 ∧ fg_Cl n o con h' ∧ fg_P n o con h') ∨ (r = 0 ∧ fg_No n o con)) → post r (nI n, sy, fu, pa, tp, op, con, c, h', s)) : wpY_sound post (nI n, sy, fu, pa, tp, op, con, c, hy, s) :=
  Exists.intro 25 (fg_y2 hn O K 25 0 hy (by omega) (by omega) (fun p hp => absurd hp (Nat.not_lt_zero p)))
end FGycheck
end
section
section FGstep
variable {op con : Nat → Int32} {s c : Nat → Int32} {a d e : Nat}
def fg_TX (op con : Nat → Int32) (a d : Nat) (s c : Nat → Int32) (a' d' : Nat) (s' c' : Nat → Int32) : Prop :=
  ∀ (post : SX → Prop) (n : Nat) (ck gd ls sx fu : Int32) (h ld bc be li : Nat → Int32), post (nI n, ck, gd, ls, sx, fu, nI a', nI d', op, con, h, ld, bc, be, li, s', c') → wpX_perform post (nI n, ck, gd, ls, sx, fu, nI a, nI d, op, con, h, ld, bc, be, li, s, c)
def fg_TY (op con : Nat → Int32) (a d : Nat) (s c : Nat → Int32) (a' d' : Nat) (s' c' : Nat → Int32) : Prop :=
  ∀ (post : SY → Prop) (n : Nat) (sy fu : Int32) (hy : Nat → Int32), post (nI n, sy, fu, nI a', nI d', op, con, c', hy, s') → wpY_carryOut post (nI n, sy, fu, nI a, nI d, op, con, c, hy, s)
theorem fg_sub2 (e : Nat) : nI (e + 2) - 2 = nI e := pk_sub (a := e + 2) (b := 2) (by omega)
theorem fg_sub1 (e : Nat) : nI (e + 2) - 1 = nI (e + 1) := nI_pred (e + 1)
theorem fg_in3 (x : Int32) : vp_in (x &&& 3) 4 := pk_andIn x 2 (by decide) (by decide)
/-! X's parts -/
section
variable {post : SX → Prop} {n : Nat} {ck gd ls sx fu pa : Int32} {h ld bc be li : Nat → Int32} {v : Int32}
theorem fg_xpush (hd : d < 9) (H : post (nI n, ck, gd, ls, sx, fu, pa, nI (d + 1), op, con, h, ld, bc, be, li, upd s d v, c)) : wpX_push post (nI n, ck, gd, ls, sx, fu, pa, nI d, op, con, h, ld, bc, be, li, s, c) v := by
  refine And.intro (vp_in_nI hd (by decide)) ?_
  rw [nI_clamp (n := d) (by omega)]
  exact nm_e (nm_r (nI_1 d) H)
theorem fg_xar {j : Nat} (he : e + 1 < 9)
    (H3 : j = 3 → post (nI n, ck, gd, ls, sx, fu, pa, nI (e + 1), op, con, h, ld, bc, be, li, upd s e (s e + s (e + 1)), c))
    (H4 : j = 4 → post (nI n, ck, gd, ls, sx, fu, pa, nI (e + 1), op, con, h, ld, bc, be, li, upd s e (s e - s (e + 1)), c))
    (H5 : j = 5 → post (nI n, ck, gd, ls, sx, fu, pa, nI (e + 1), op, con, h, ld, bc, be, li, upd s e (s e * s (e + 1)), c))
    (hj : j = 3 ∨ j = 4 ∨ j = 5) : wpX_arithmetic post (nI n, ck, gd, ls, sx, fu, pa, nI (e + 2), op, con, h, ld, bc, be, li, s, c) (nI j) := by
  have c0 : (nI e).toNatClampNeg = e := nI_clamp (by omega)
  have c1 : (nI (e + 1)).toNatClampNeg = e + 1 := nI_clamp (by omega)
  have i0 : vp_in (nI e) 9 := vp_in_nI (by omega) (by decide)
  have i1 : vp_in (nI (e + 1)) 9 := vp_in_nI he (by decide)
  unfold wpX_arithmetic
  dsimp only
  rw [fg_sub2, fg_sub1, c0, c1]
  refine And.intro i0 (nm_e ⟨i1, nm_e (nm_e ?_)⟩)
  rw [nI_pred e, c0]
  rcases hj with rfl | rfl | rfl
  · exact br_t (by decide) ⟨i0, nm_e (H3 rfl)⟩
  · exact br_f (by decide) (br_t (by decide) ⟨i0, nm_e (H4 rfl)⟩)
  · exact br_f (by decide) (br_f (by decide) ⟨i0, nm_e (H5 rfl)⟩)
theorem fg_xex (he : e + 1 < 9) (H : post (nI n, ck, gd, ls, sx, fu, pa, nI (e + 2), op, con, h, ld, bc, be, li, upd (upd s (e + 1) (s e)) e (s (e + 1)), c)) : wpX_exchange post (nI n, ck, gd, ls, sx, fu, pa, nI (e + 2), op, con, h, ld, bc, be, li, s, c) := by
  have c0 : (nI e).toNatClampNeg = e := nI_clamp (by omega)
  have c1 : (nI (e + 1)).toNatClampNeg = e + 1 := nI_clamp (by omega)
  have i0 : vp_in (nI e) 9 := vp_in_nI (by omega) (by decide)
  have i1 : vp_in (nI (e + 1)) 9 := vp_in_nI he (by decide)
  unfold wpX_exchange
  dsimp only
  rw [fg_sub2, fg_sub1, c0, c1]
  exact And.intro i1 (nm_e ⟨i0, i1, nm_e ⟨i0, nm_e H⟩⟩)
end
/-! the reference's parts -/
section
variable {n : Nat} {sy fu pa : Int32} {hy : Nat → Int32} {v : Int32}
theorem fg_yput {post : SY → Prop} (hd : d < 16) (H : post (nI n, sy, fu, pa, nI (d + 1), op, con, c, hy, upd s d v)) : wpY_put post (nI n, sy, fu, pa, nI d, op, con, c, hy, s) v := by
  refine br_f (nI_ge (b := 16) hd (by decide)) ⟨vp_in_nI hd (by decide), ?_⟩
  rw [nI_clamp (n := d) (by omega)]
  exact nm_e (nm_r (nI_1 d) H)
theorem fg_ytake {post : Int32 → SY → Prop} (he : e < 16) (H : post (s e) (nI n, sy, fu, pa, nI e, op, con, c, hy, s)) : wpY_take post (nI n, sy, fu, pa, nI (e + 1), op, con, c, hy, s) := by
  refine br_f (nI_ne0 (by omega) (by omega)) (nm_r (nI_pred e) ⟨vp_in_nI he (by decide), ?_⟩)
  rw [nI_clamp (n := e) (by omega)]
  exact H
theorem fg_ytwo {post : SY → Prop} {j : Nat} (he : e + 2 < 16)
    (H3 : j = 3 → post (nI n, sy, fu, pa, nI (e + 1), op, con, c, hy, upd s e (s e + s (e + 1))))
    (H4 : j = 4 → post (nI n, sy, fu, pa, nI (e + 1), op, con, c, hy, upd s e (s e - s (e + 1))))
    (H5 : j = 5 → post (nI n, sy, fu, pa, nI (e + 1), op, con, c, hy, upd s e (s e * s (e + 1))))
    (H6 : j = 6 → post (nI n, sy, fu, pa, nI (e + 2), op, con, c, hy, upd (upd s e (s (e + 1))) (e + 1) (s e)))
    (H7 : j = 7 → post (nI n, sy, fu, pa, nI (e + 3), op, con, c, hy, upd (upd (upd s e (s e)) (e + 1) (s (e + 1))) (e + 2) (s e)))
    (hj : j = 3 ∨ j = 4 ∨ j = 5 ∨ j = 6 ∨ j = 7) : wpY_two post (nI n, sy, fu, pa, nI (e + 2), op, con, c, hy, s) (nI j) := by
  unfold wpY_two
  dsimp only
  refine fg_ytake (e := e + 1) (by omega) ?_
  dsimp only
  refine fg_ytake (e := e) (by omega) ?_
  dsimp only
  rcases hj with rfl | rfl | rfl | rfl | rfl
  · exact br_t (by decide) (fg_yput (by omega) (H3 rfl))
  · exact br_f (by decide) (br_t (by decide) (fg_yput (by omega) (H4 rfl)))
  · exact br_f (by decide) (br_f (by decide) (br_t (by decide) (fg_yput (by omega) (H5 rfl))))
  · refine br_f (by decide) (br_f (by decide) (br_f (by decide) (br_t (by decide) ?_)))
    refine fg_yput (by omega) ?_
    dsimp only
    exact fg_yput (by omega) (H6 rfl)
  · refine br_f (by decide) (br_f (by decide) (br_f (by decide) (br_f (by decide) ?_)))
    refine fg_yput (by omega) ?_
    dsimp only
    refine fg_yput (by omega) ?_
    dsimp only
    exact fg_yput (by omega) (H7 rfl)
end
/-! X's instructions -/
theorem fg_tx0 (ha : a < 24) (ho : op a = nI 0) (hd : d < 9) : fg_TX op con a d s c (a + 1) (d + 1) (upd s d (con a)) c := by
  intro post n ck gd ls sx fu h ld bc be li H
  have hi : vp_in (nI a) 24 := vp_in_nI ha (by decide)
  refine And.intro hi (nm_r (fg_at (by omega) ho) (nm_r (nI_1 a) ?_))
  iterate 2 refine br_f (by decide) ?_
  refine br_t (by decide) ⟨hi, ?_⟩
  rw [nI_clamp (n := a) (by omega)]
  exact fg_xpush hd (br_f (by decide) H)
theorem fg_tx1 (ha : a < 24) (ho : op a = nI 1) : fg_TX op con a (e + 1) s c (a + 1) e s c := by
  intro post n ck gd ls sx fu h ld bc be li H
  have hi : vp_in (nI a) 24 := vp_in_nI ha (by decide)
  refine And.intro hi (nm_r (fg_at (by omega) ho) (nm_r (nI_1 a) ?_))
  iterate 3 refine br_f (by decide) ?_
  exact br_t (by decide) (nm_r (nI_pred e) (br_f (by decide) H))
theorem fg_tx2 (ha : a < 24) (ho : op a = nI 2) (he : e + 1 < 9) : fg_TX op con a (e + 1) s c (a + 1) (e + 2) (upd s (e + 1) (s e)) c := by
  intro post n ck gd ls sx fu h ld bc be li H
  have hi : vp_in (nI a) 24 := vp_in_nI ha (by decide)
  refine And.intro hi (nm_r (fg_at (by omega) ho) (nm_r (nI_1 a) ?_))
  iterate 4 refine br_f (by decide) ?_
  refine br_t (by decide) ?_
  rw [nI_pred e, nI_clamp (n := e) (by omega)]
  exact ⟨vp_in_nI (by omega) (by decide), fg_xpush he (br_f (by decide) H)⟩
theorem fg_tx3 (ha : a < 24) (ho : op a = nI 3) (he : e + 1 < 9) : fg_TX op con a (e + 2) s c (a + 1) (e + 1) (upd s e (s e + s (e + 1))) c := by
  intro post n ck gd ls sx fu h ld bc be li H
  have hi : vp_in (nI a) 24 := vp_in_nI ha (by decide)
  refine And.intro hi (nm_r (fg_at (by omega) ho) (nm_r (nI_1 a) ?_))
  iterate 5 refine br_f (by decide) ?_
  refine br_t (by decide) ?_
  unfold wX_perform_131
  exact fg_xar he (fun _ => br_f (by decide) H) (fun z => absurd z (by decide)) (fun z => absurd z (by decide)) (Or.inl rfl)
theorem fg_tx4 (ha : a < 24) (ho : op a = nI 4) (he : e + 1 < 9) : fg_TX op con a (e + 2) s c (a + 1) (e + 1) (upd s e (s e - s (e + 1))) c := by
  intro post n ck gd ls sx fu h ld bc be li H
  have hi : vp_in (nI a) 24 := vp_in_nI ha (by decide)
  refine And.intro hi (nm_r (fg_at (by omega) ho) (nm_r (nI_1 a) ?_))
  iterate 6 refine br_f (by decide) ?_
  refine br_t (by decide) ?_
  unfold wX_perform_131
  exact fg_xar he (fun z => absurd z (by decide)) (fun _ => br_f (by decide) H) (fun z => absurd z (by decide)) (Or.inr (Or.inl rfl))
theorem fg_tx5 (ha : a < 24) (ho : op a = nI 5) (he : e + 1 < 9) : fg_TX op con a (e + 2) s c (a + 1) (e + 1) (upd s e (s e * s (e + 1))) c := by
  intro post n ck gd ls sx fu h ld bc be li H
  have hi : vp_in (nI a) 24 := vp_in_nI ha (by decide)
  refine And.intro hi (nm_r (fg_at (by omega) ho) (nm_r (nI_1 a) ?_))
  iterate 7 refine br_f (by decide) ?_
  refine br_t (by decide) ?_
  unfold wX_perform_131
  exact fg_xar he (fun z => absurd z (by decide)) (fun z => absurd z (by decide)) (fun _ => br_f (by decide) H) (Or.inr (Or.inr rfl))
theorem fg_tx6 (ha : a < 24) (ho : op a = nI 6) (he : e + 1 < 9) : fg_TX op con a (e + 2) s c (a + 1) (e + 2) (upd (upd s (e + 1) (s e)) e (s (e + 1))) c := by
  intro post n ck gd ls sx fu h ld bc be li H
  have hi : vp_in (nI a) 24 := vp_in_nI ha (by decide)
  refine And.intro hi (nm_r (fg_at (by omega) ho) (nm_r (nI_1 a) ?_))
  iterate 8 refine br_f (by decide) ?_
  exact br_t (by decide) (fg_xex he (br_f (by decide) H))
theorem fg_tx7 (ha : a < 24) (ho : op a = nI 7) (he : e + 2 < 9) : fg_TX op con a (e + 2) s c (a + 1) (e + 3) (upd s (e + 2) (s e)) c := by
  intro post n ck gd ls sx fu h ld bc be li H
  have hi : vp_in (nI a) 24 := vp_in_nI ha (by decide)
  refine And.intro hi (nm_r (fg_at (by omega) ho) (nm_r (nI_1 a) ?_))
  iterate 9 refine br_f (by decide) ?_
  refine br_t (by decide) ?_
  rw [fg_sub2 e, nI_clamp (n := e) (by omega)]
  exact ⟨vp_in_nI (by omega) (by decide), fg_xpush he (br_f (by decide) H)⟩
theorem fg_tx8 {j : Nat} (ha : a < 24) (ho : op a = nI 8) (hc : con a = nI j) : fg_TX op con a d s c j d s c := by
  intro post n ck gd ls sx fu h ld bc be li H
  have hi : vp_in (nI a) 24 := vp_in_nI ha (by decide)
  refine And.intro hi (nm_r (fg_at (by omega) ho) (nm_r (nI_1 a) ?_))
  iterate 10 refine br_f (by decide) ?_
  exact br_t (by decide) ⟨hi, nm_r (fg_at (by omega) hc) (br_f (by decide) H)⟩
theorem fg_tx9 {j : Nat} (ha : a < 24) (ho : op a = nI 9) (hc : con a = nI j) (he : e < 9) : fg_TX op con a (e + 1) s c (if s e = 0 then j else a + 1) e s c := by
  intro post n ck gd ls sx fu h ld bc be li H
  have hi : vp_in (nI a) 24 := vp_in_nI ha (by decide)
  refine And.intro hi (nm_r (fg_at (by omega) ho) (nm_r (nI_1 a) ?_))
  iterate 11 refine br_f (by decide) ?_
  refine br_t (by decide) (nm_r (nI_pred e) ⟨vp_in_nI he (by decide), ?_⟩)
  rw [nI_clamp (n := e) (by omega)]
  by_cases z : s e = 0
  · rw [if_pos z] at H
    exact br_t z ⟨hi, nm_r (fg_at (by omega) hc) (br_f (by decide) H)⟩
  · rw [if_neg z] at H
    exact br_f z (br_f (by decide) H)
theorem fg_tx10 {j : Nat} (ha : a < 24) (ho : op a = nI 10) (hc : con a = nI j) (he : e < 9) : fg_TX op con a (e + 1) s c (if s e ≤ 0 then a + 1 else j) e s c := by
  intro post n ck gd ls sx fu h ld bc be li H
  have hi : vp_in (nI a) 24 := vp_in_nI ha (by decide)
  refine And.intro hi (nm_r (fg_at (by omega) ho) (nm_r (nI_1 a) ?_))
  iterate 12 refine br_f (by decide) ?_
  refine br_t (by decide) (nm_r (nI_pred e) ⟨vp_in_nI he (by decide), ?_⟩)
  rw [nI_clamp (n := e) (by omega)]
  by_cases z : s e ≤ 0
  · rw [if_pos z] at H
    exact br_t z (br_f (by decide) H)
  · rw [if_neg z] at H
    exact br_f z ⟨hi, nm_r (fg_at (by omega) hc) (br_f (by decide) H)⟩
theorem fg_tx11 (ha : a < 24) (ho : op a = nI 11) (hd : d < 9) : fg_TX op con a d s c (a + 1) (d + 1) (upd s d (c (con a &&& 3).toNatClampNeg)) c := by
  intro post n ck gd ls sx fu h ld bc be li H
  have hi : vp_in (nI a) 24 := vp_in_nI ha (by decide)
  refine And.intro hi (nm_r (fg_at (by omega) ho) (nm_r (nI_1 a) ?_))
  iterate 13 refine br_f (by decide) ?_
  refine br_t (by decide) ⟨hi, ?_⟩
  rw [nI_clamp (n := a) (by omega)]
  exact ⟨fg_in3 _, fg_xpush hd (br_f (by decide) H)⟩
theorem fg_tx12 (ha : a < 24) (ho : op a = nI 12) (he : e < 9) : fg_TX op con a (e + 1) s c (a + 1) e s (upd c (con a &&& 3).toNatClampNeg (s e)) := by
  intro post n ck gd ls sx fu h ld bc be li H
  have hi : vp_in (nI a) 24 := vp_in_nI ha (by decide)
  refine And.intro hi (nm_r (fg_at (by omega) ho) (nm_r (nI_1 a) ?_))
  iterate 14 refine br_f (by decide) ?_
  refine br_t (by decide) (nm_r (nI_pred e) ⟨hi, vp_in_nI he (by decide), ?_⟩)
  rw [nI_clamp (n := a) (by omega), nI_clamp (n := e) (by omega)]
  exact ⟨fg_in3 _, nm_e (br_f (by decide) H)⟩
theorem fg_tx14 (ha : a < 24) (ho : op a = nI 14) : fg_TX op con a d s c (a + 1) d s c := by
  intro post n ck gd ls sx fu h ld bc be li H
  have hi : vp_in (nI a) 24 := vp_in_nI ha (by decide)
  refine And.intro hi (nm_r (fg_at (by omega) ho) (nm_r (nI_1 a) ?_))
  exact br_f (by decide) (br_t (by decide) (br_f (by decide) H))
theorem fg_tx13 {post : SX → Prop} {n : Nat} {ck gd ls sx fu : Int32} {h ld bc be li : Nat → Int32} (ha : a < 24) (ho : op a = nI 13)
    (H : post (nI n, ck, gd, ls, 1, fu, nI a, nI d, op, con, h, ld, bc, be, li, s, c)) : wpX_perform post (nI n, ck, gd, ls, sx, fu, nI a, nI d, op, con, h, ld, bc, be, li, s, c) := by
  have hi : vp_in (nI a) 24 := vp_in_nI ha (by decide)
  refine And.intro hi (nm_r (fg_at (by omega) ho) (nm_r (nI_1 a) ?_))
  exact br_f (by decide) (br_t (by decide) (br_t (by decide) H))
/-! the reference's instructions -/
theorem fg_ty0 (ha : a < 24) (ho : op a = nI 0) (hd : d < 16) : fg_TY op con a d s c (a + 1) (d + 1) (upd s d (con a)) c := by
  intro post n sy fu hy H
  have hi : vp_in (nI a) 24 := vp_in_nI ha (by decide)
  refine And.intro hi (nm_r (fg_at (by omega) ho) ⟨hi, nm_r (fg_at (by omega) rfl) (nm_r (nI_1 a) ?_)⟩)
  exact br_t (by decide) (fg_yput hd H)
theorem fg_ty1 (ha : a < 24) (ho : op a = nI 1) (he : e < 16) : fg_TY op con a (e + 1) s c (a + 1) e s c := by
  intro post n sy fu hy H
  have hi : vp_in (nI a) 24 := vp_in_nI ha (by decide)
  refine And.intro hi (nm_r (fg_at (by omega) ho) ⟨hi, nm_r (fg_at (by omega) rfl) (nm_r (nI_1 a) ?_)⟩)
  iterate 1 refine br_f (by decide) ?_
  exact br_t (by decide) (br_f (nI_nle (by omega) (by omega)) (nm_r (nI_pred e) H))
theorem fg_ty2 (ha : a < 24) (ho : op a = nI 2) (he : e + 1 < 16) : fg_TY op con a (e + 1) s c (a + 1) (e + 2) (upd s (e + 1) (s e)) c := by
  intro post n sy fu hy H
  have hi : vp_in (nI a) 24 := vp_in_nI ha (by decide)
  refine And.intro hi (nm_r (fg_at (by omega) ho) ⟨hi, nm_r (fg_at (by omega) rfl) (nm_r (nI_1 a) ?_)⟩)
  iterate 2 refine br_f (by decide) ?_
  refine br_t (by decide) (br_f (by decide) (br_t (nI_lt (a := 0) (by omega) (by omega)) ?_))
  rw [nI_pred e, Int32.sub_zero, nI_clamp (n := e) (by omega)]
  exact ⟨vp_in_nI (by omega) (by decide), fg_yput he H⟩
theorem fg_ty3 (ha : a < 24) (ho : op a = nI 3) (he : e + 2 < 16) : fg_TY op con a (e + 2) s c (a + 1) (e + 1) (upd s e (s e + s (e + 1))) c := by
  intro post n sy fu hy H
  have hi : vp_in (nI a) 24 := vp_in_nI ha (by decide)
  refine And.intro hi (nm_r (fg_at (by omega) ho) ⟨hi, nm_r (fg_at (by omega) rfl) (nm_r (nI_1 a) ?_)⟩)
  iterate 4 refine br_f (by decide) ?_
  exact fg_ytwo he (fun _ => H) (fun z => absurd z (by decide)) (fun z => absurd z (by decide)) (fun z => absurd z (by decide)) (fun z => absurd z (by decide)) (Or.inl rfl)
theorem fg_ty4 (ha : a < 24) (ho : op a = nI 4) (he : e + 2 < 16) : fg_TY op con a (e + 2) s c (a + 1) (e + 1) (upd s e (s e - s (e + 1))) c := by
  intro post n sy fu hy H
  have hi : vp_in (nI a) 24 := vp_in_nI ha (by decide)
  refine And.intro hi (nm_r (fg_at (by omega) ho) ⟨hi, nm_r (fg_at (by omega) rfl) (nm_r (nI_1 a) ?_)⟩)
  iterate 4 refine br_f (by decide) ?_
  exact fg_ytwo he (fun z => absurd z (by decide)) (fun _ => H) (fun z => absurd z (by decide)) (fun z => absurd z (by decide)) (fun z => absurd z (by decide)) (Or.inr (Or.inl rfl))
theorem fg_ty5 (ha : a < 24) (ho : op a = nI 5) (he : e + 2 < 16) : fg_TY op con a (e + 2) s c (a + 1) (e + 1) (upd s e (s e * s (e + 1))) c := by
  intro post n sy fu hy H
  have hi : vp_in (nI a) 24 := vp_in_nI ha (by decide)
  refine And.intro hi (nm_r (fg_at (by omega) ho) ⟨hi, nm_r (fg_at (by omega) rfl) (nm_r (nI_1 a) ?_)⟩)
  iterate 4 refine br_f (by decide) ?_
  exact fg_ytwo he (fun z => absurd z (by decide)) (fun z => absurd z (by decide)) (fun _ => H) (fun z => absurd z (by decide)) (fun z => absurd z (by decide)) (Or.inr (Or.inr (Or.inl rfl)))
theorem fg_ty6 (ha : a < 24) (ho : op a = nI 6) (he : e + 2 < 16) : fg_TY op con a (e + 2) s c (a + 1) (e + 2) (upd (upd s (e + 1) (s e)) e (s (e + 1))) c := by
  intro post n sy fu hy H
  have hi : vp_in (nI a) 24 := vp_in_nI ha (by decide)
  rw [fg_comm (by omega)] at H
  refine And.intro hi (nm_r (fg_at (by omega) ho) ⟨hi, nm_r (fg_at (by omega) rfl) (nm_r (nI_1 a) ?_)⟩)
  iterate 4 refine br_f (by decide) ?_
  exact fg_ytwo he (fun z => absurd z (by decide)) (fun z => absurd z (by decide)) (fun z => absurd z (by decide)) (fun _ => H) (fun z => absurd z (by decide)) (Or.inr (Or.inr (Or.inr (Or.inl rfl))))
theorem fg_ty7 (ha : a < 24) (ho : op a = nI 7) (he : e + 2 < 16) : fg_TY op con a (e + 2) s c (a + 1) (e + 3) (upd s (e + 2) (s e)) c := by
  intro post n sy fu hy H
  have hi : vp_in (nI a) 24 := vp_in_nI ha (by decide)
  have q : upd (upd s e (s e)) (e + 1) (s (e + 1)) = s := by rw [fg_same (k := e) rfl, fg_same rfl]
  refine And.intro hi (nm_r (fg_at (by omega) ho) ⟨hi, nm_r (fg_at (by omega) rfl) (nm_r (nI_1 a) ?_)⟩)
  iterate 4 refine br_f (by decide) ?_
  exact fg_ytwo he (fun z => absurd z (by decide)) (fun z => absurd z (by decide)) (fun z => absurd z (by decide)) (fun z => absurd z (by decide)) (fun _ => by rw [q]; exact H) (Or.inr (Or.inr (Or.inr (Or.inr rfl))))
theorem fg_ty8 {j : Nat} (ha : a < 24) (ho : op a = nI 8) (hc : con a = nI j) : fg_TY op con a d s c j d s c := by
  intro post n sy fu hy H
  have hi : vp_in (nI a) 24 := vp_in_nI ha (by decide)
  refine And.intro hi (nm_r (fg_at (by omega) ho) ⟨hi, nm_r (fg_at (by omega) hc) (nm_r (nI_1 a) ?_)⟩)
  iterate 3 refine br_f (by decide) ?_
  exact br_t (by decide) (br_t (by decide) H)
theorem fg_ty9 {j : Nat} (ha : a < 24) (ho : op a = nI 9) (hc : con a = nI j) (he : e < 16) : fg_TY op con a (e + 1) s c (if s e = 0 then j else a + 1) e s c := by
  intro post n sy fu hy H
  have hi : vp_in (nI a) 24 := vp_in_nI ha (by decide)
  refine And.intro hi (nm_r (fg_at (by omega) ho) ⟨hi, nm_r (fg_at (by omega) hc) (nm_r (nI_1 a) ?_)⟩)
  iterate 3 refine br_f (by decide) ?_
  refine br_t (by decide) (br_f (by decide) (br_t (by decide) (fg_ytake he ?_)))
  by_cases z : s e = 0
  · rw [if_pos z] at H
    exact br_t z H
  · rw [if_neg z] at H
    exact br_f z H
theorem fg_ty10 {j : Nat} (ha : a < 24) (ho : op a = nI 10) (hc : con a = nI j) (he : e < 16) : fg_TY op con a (e + 1) s c (if s e ≤ 0 then a + 1 else j) e s c := by
  intro post n sy fu hy H
  have hi : vp_in (nI a) 24 := vp_in_nI ha (by decide)
  refine And.intro hi (nm_r (fg_at (by omega) ho) ⟨hi, nm_r (fg_at (by omega) hc) (nm_r (nI_1 a) ?_)⟩)
  iterate 3 refine br_f (by decide) ?_
  refine br_t (by decide) (br_f (by decide) (br_f (by decide) (br_t (by decide) (fg_ytake he ?_))))
  by_cases z : s e ≤ 0
  · rw [if_pos z] at H
    exact br_t z H
  · rw [if_neg z] at H
    exact br_f z H
theorem fg_ty11 (ha : a < 24) (ho : op a = nI 11) (hd : d < 16) : fg_TY op con a d s c (a + 1) (d + 1) (upd s d (c (con a &&& 3).toNatClampNeg)) c := by
  intro post n sy fu hy H
  have hi : vp_in (nI a) 24 := vp_in_nI ha (by decide)
  refine And.intro hi (nm_r (fg_at (by omega) ho) ⟨hi, nm_r (fg_at (by omega) rfl) (nm_r (nI_1 a) ?_)⟩)
  iterate 3 refine br_f (by decide) ?_
  exact br_t (by decide) (br_f (by decide) (br_f (by decide) (br_f (by decide) (br_t (by decide) ⟨fg_in3 _, fg_yput hd H⟩))))
theorem fg_ty12 (ha : a < 24) (ho : op a = nI 12) (he : e < 16) : fg_TY op con a (e + 1) s c (a + 1) e s (upd c (con a &&& 3).toNatClampNeg (s e)) := by
  intro post n sy fu hy H
  have hi : vp_in (nI a) 24 := vp_in_nI ha (by decide)
  refine And.intro hi (nm_r (fg_at (by omega) ho) ⟨hi, nm_r (fg_at (by omega) rfl) (nm_r (nI_1 a) ?_)⟩)
  iterate 3 refine br_f (by decide) ?_
  refine br_t (by decide) (br_f (by decide) (br_f (by decide) (br_f (by decide) (br_f (by decide) (br_t (by decide) (fg_ytake he ?_))))))
  exact And.intro (fg_in3 _) (nm_e H)
theorem fg_ty14 (ha : a < 24) (ho : op a = nI 14) : fg_TY op con a d s c (a + 1) d s c := by
  intro post n sy fu hy H
  have hi : vp_in (nI a) 24 := vp_in_nI ha (by decide)
  refine And.intro hi (nm_r (fg_at (by omega) ho) ⟨hi, nm_r (fg_at (by omega) rfl) (nm_r (nI_1 a) ?_)⟩)
  iterate 3 refine br_f (by decide) ?_
  exact br_t (by decide) (br_f (by decide) (br_f (by decide) (br_f (by decide) (br_f (by decide) (br_f (by decide) H)))))
end FGstep
end
section
section FGrun
variable {n : Nat} {o : Nat → Nat} {op con h : Nat → Int32}
/-- a reached place with its height -/
def fg_R (n : Nat) (h : Nat → Int32) (a d : Nat) : Prop := a < n ∧ d ≤ 8 ∧ h a = nI d
/-- one instruction: one outcome for both sides -/
theorem fg_step (hn : n ≤ 24) (O : fg_Op n o op) (C : fg_Cl n o con h) {a d : Nat} (s c : Nat → Int32) (R : fg_R n h a d) (h13 : o a ≠ 13) :
    ∃ a' d' s' c', fg_R n h a' d' ∧ (fg_pl (o a) → a' = a + 1) ∧ fg_TX op con a d s c a' d' s' c' ∧ fg_TY op con a d s c a' d' s' c' := by
  obtain ⟨ha, hd, hh⟩ := R
  have S := C.2.2 a d ha hd hh
  obtain ⟨ho, h14⟩ := O a ha
  have hu := S.1
  have h8 := S.2.1
  have tg := S.2.2.1
  have nx := fun z8 => fg_next hn ha S z8 h13
  have a24 : a < 24 := by omega
  rcases fg_c15 h14 with e | e | e | e | e | e | e | e | e | e | e | e | e | e | e <;> rw [e] at ho hu h8 nx tg
  · obtain ⟨n1, n2⟩ := nx (by decide)
    exact ⟨a + 1, d + 1, _, _, ⟨n1, h8, n2⟩, fun _ => rfl, fg_tx0 a24 ho (by omega), fg_ty0 a24 ho (by omega)⟩
  · obtain ⟨n1, n2⟩ := nx (by decide)
    obtain ⟨f, rfl⟩ : ∃ f, d = f + 1 := ⟨d - 1, by have : 1 ≤ d := hu; omega⟩
    exact ⟨a + 1, f, _, _, ⟨n1, h8, n2⟩, fun _ => rfl, fg_tx1 a24 ho, fg_ty1 a24 ho (by omega)⟩
  · obtain ⟨n1, n2⟩ := nx (by decide)
    obtain ⟨f, rfl⟩ : ∃ f, d = f + 1 := ⟨d - 1, by have : 1 ≤ d := hu; omega⟩
    exact ⟨a + 1, f + 2, _, _, ⟨n1, h8, n2⟩, fun _ => rfl, fg_tx2 a24 ho (by omega), fg_ty2 a24 ho (by omega)⟩
  · obtain ⟨n1, n2⟩ := nx (by decide)
    obtain ⟨f, rfl⟩ : ∃ f, d = f + 2 := ⟨d - 2, by have : 2 ≤ d := hu; omega⟩
    exact ⟨a + 1, f + 1, _, _, ⟨n1, h8, n2⟩, fun _ => rfl, fg_tx3 a24 ho (by omega), fg_ty3 a24 ho (by omega)⟩
  · obtain ⟨n1, n2⟩ := nx (by decide)
    obtain ⟨f, rfl⟩ : ∃ f, d = f + 2 := ⟨d - 2, by have : 2 ≤ d := hu; omega⟩
    exact ⟨a + 1, f + 1, _, _, ⟨n1, h8, n2⟩, fun _ => rfl, fg_tx4 a24 ho (by omega), fg_ty4 a24 ho (by omega)⟩
  · obtain ⟨n1, n2⟩ := nx (by decide)
    obtain ⟨f, rfl⟩ : ∃ f, d = f + 2 := ⟨d - 2, by have : 2 ≤ d := hu; omega⟩
    exact ⟨a + 1, f + 1, _, _, ⟨n1, h8, n2⟩, fun _ => rfl, fg_tx5 a24 ho (by omega), fg_ty5 a24 ho (by omega)⟩
  · obtain ⟨n1, n2⟩ := nx (by decide)
    obtain ⟨f, rfl⟩ : ∃ f, d = f + 2 := ⟨d - 2, by have : 2 ≤ d := hu; omega⟩
    exact ⟨a + 1, f + 2, _, _, ⟨n1, h8, n2⟩, fun _ => rfl, fg_tx6 a24 ho (by omega), fg_ty6 a24 ho (by omega)⟩
  · obtain ⟨n1, n2⟩ := nx (by decide)
    obtain ⟨f, rfl⟩ : ∃ f, d = f + 2 := ⟨d - 2, by have : 2 ≤ d := hu; omega⟩
    have h8' : f + 3 ≤ 8 := h8
    exact ⟨a + 1, f + 3, _, _, ⟨n1, h8, n2⟩, fun _ => rfl, fg_tx7 a24 ho (by omega), fg_ty7 a24 ho (by omega)⟩
  · obtain ⟨j, hj, hc, hhj⟩ := tg (by decide) (by decide)
    exact ⟨j, d, _, _, ⟨hj, h8, hhj⟩, fun z => absurd e z.1, fg_tx8 a24 ho hc, fg_ty8 a24 ho hc⟩
  · obtain ⟨n1, n2⟩ := nx (by decide)
    obtain ⟨j, hj, hc, hhj⟩ := tg (by decide) (by decide)
    obtain ⟨f, rfl⟩ : ∃ f, d = f + 1 := ⟨d - 1, by have : 1 ≤ d := hu; omega⟩
    refine ⟨if s f = 0 then j else a + 1, f, _, _, ⟨?_, h8, ?_⟩, fun z => absurd e z.2.1, fg_tx9 a24 ho hc (by omega), fg_ty9 a24 ho hc (by omega)⟩
    · split
      · exact hj
      · exact n1
    · split
      · exact hhj
      · exact n2
  · obtain ⟨n1, n2⟩ := nx (by decide)
    obtain ⟨j, hj, hc, hhj⟩ := tg (by decide) (by decide)
    obtain ⟨f, rfl⟩ : ∃ f, d = f + 1 := ⟨d - 1, by have : 1 ≤ d := hu; omega⟩
    refine ⟨if s f ≤ 0 then a + 1 else j, f, _, _, ⟨?_, h8, ?_⟩, fun z => absurd e z.2.2.1, fg_tx10 a24 ho hc (by omega), fg_ty10 a24 ho hc (by omega)⟩
    · split
      · exact n1
      · exact hj
    · split
      · exact n2
      · exact hhj
  · obtain ⟨n1, n2⟩ := nx (by decide)
    exact ⟨a + 1, d + 1, _, _, ⟨n1, h8, n2⟩, fun _ => rfl, fg_tx11 a24 ho (by omega), fg_ty11 a24 ho (by omega)⟩
  · obtain ⟨n1, n2⟩ := nx (by decide)
    obtain ⟨f, rfl⟩ : ∃ f, d = f + 1 := ⟨d - 1, by have : 1 ≤ d := hu; omega⟩
    exact ⟨a + 1, f, _, _, ⟨n1, h8, n2⟩, fun _ => rfl, fg_tx12 a24 ho (by omega), fg_ty12 a24 ho (by omega)⟩
  · exact absurd e h13
  · obtain ⟨n1, n2⟩ := nx (by decide)
    exact ⟨a + 1, d, _, _, ⟨n1, h8, n2⟩, fun _ => rfl, fg_tx14 a24 ho, fg_ty14 a24 ho⟩
/-! rounds of the reference -/
section
variable {post : Int32 → SY → Prop} {hy s c : Nat → Int32} {fu pa tp : Int32}
/-- a stopped machine: the rest of the rounds -/
theorem fg_spin1 (H : post 1 (nI n, 1, fu, pa, tp, op, con, c, hy, s)) : ∀ (m i : Nat), i + m = 2001 → wY_goOn_7 post (m + 1) (nI i) (nI n) 1 fu pa tp op con c hy s := by
  intro m
  induction m with
  | zero =>
    intro i hi
    exact br_t (nI_lt (a := 2000) (by omega) (by omega)) H
  | succ m ih =>
    intro i hi
    exact br_f (nI_nlt (b := i) (a := 2000) (by omega) (by omega)) (br_f (by decide) (nm_r (nI_1 i) (ih (i + 1) (by omega))))
theorem fg_spin2 {a f : Nat} (hn : n ≤ 24) (O : fg_Op n o op) (ha : a < n) (hf : f < fg_c o con a) (H : post 2 (nI n, 2, nI f, nI a, tp, op, con, c, hy, s)) :
    ∀ (m i : Nat), i + m = 2001 → wY_goOn_7 post (m + 1) (nI i) (nI n) 2 (nI f) (nI a) tp op con c hy s := by
  have hc := fg_c_in o con a
  intro m
  induction m with
  | zero =>
    intro i hi
    exact br_t (nI_lt (a := 2000) (by omega) (by omega)) H
  | succ m ih =>
    intro i hi
    refine br_f (nI_nlt (b := i) (a := 2000) (by omega) (by omega)) (br_t rfl (br_f (nI_pos (by omega)) (br_f (nI_ge ha (by omega)) ?_)))
    refine fg_ycost (by omega) (O a ha).1 (O a ha).2 ?_
    exact br_t (nI_lt hf (by omega)) (nm_r (nI_1 i) (ih (i + 1) (by omega)))
/-- one round of the reference, covered, no stop -/
theorem fg_yround {a d a' d' f i N : Nat} {s' c' : Nat → Int32} (hn : n ≤ 24) (O : fg_Op n o op) (ha : a < n) (h13 : o a ≠ 13) (hi : i ≤ 2000) (hf : fg_c o con a ≤ f) (hf2 : f ≤ 2000)
    (T : fg_TY op con a d s c a' d' s' c') (H : wY_goOn_7 post N (nI (i + 1)) (nI n) 2 (nI (f - fg_c o con a)) (nI a') (nI d') op con c' hy s') :
    wY_goOn_7 post (N + 1) (nI i) (nI n) 2 (nI f) (nI a) (nI d) op con c hy s := by
  refine br_f (nI_nlt (b := i) (a := 2000) (by omega) (by omega)) (br_t rfl (br_f (nI_pos (by omega)) (br_f (nI_ge ha (by omega)) ?_)))
  refine fg_ycost (by omega) (O a ha).1 (O a ha).2 ?_
  refine br_f (nI_nlt hf (by omega)) ?_
  refine fg_ycost (by omega) (O a ha).1 (O a ha).2 ?_
  refine nm_r (pk_sub hf) ⟨vp_in_nI (by omega) (by decide), ?_⟩
  rw [nI_clamp (n := a) (by omega), (O a ha).1]
  refine br_f (fun z => h13 (fg_inj (b := 13) z (by have := (O a ha).2; omega) (by decide))) ?_
  exact T _ _ _ _ _ (nm_r (nI_1 i) H)
/-- one round of the reference, covered, a stop -/
theorem fg_yround13 {a f i N : Nat} (hn : n ≤ 24) (O : fg_Op n o op) (ha : a < n) (h13 : o a = 13) (hi : i ≤ 2000) (hf : fg_c o con a ≤ f) (hf2 : f ≤ 2000)
    (H : wY_goOn_7 post N (nI (i + 1)) (nI n) 1 (nI (f - fg_c o con a)) (nI a) tp op con c hy s) :
    wY_goOn_7 post (N + 1) (nI i) (nI n) 2 (nI f) (nI a) tp op con c hy s := by
  refine br_f (nI_nlt (b := i) (a := 2000) (by omega) (by omega)) (br_t rfl (br_f (nI_pos (by omega)) (br_f (nI_ge ha (by omega)) ?_)))
  refine fg_ycost (by omega) (O a ha).1 (O a ha).2 ?_
  refine br_f (nI_nlt hf (by omega)) ?_
  refine fg_ycost (by omega) (O a ha).1 (O a ha).2 ?_
  refine nm_r (pk_sub hf) ⟨vp_in_nI (by omega) (by decide), ?_⟩
  rw [nI_clamp (n := a) (by omega), (O a ha).1]
  exact br_t (by rw [h13]; rfl) (nm_r (nI_1 i) H)
end
/-! a block that is covered -/
def fg_XB (n : Nat) (op con : Nat → Int32) (k a d : Nat) (s c : Nat → Int32) (sx' : Int32) (a' d' : Nat) (s' c' : Nat → Int32) : Prop :=
  ∀ (post : SX → Prop) (i : Nat) (ck gd ls fu : Int32) (h ld bc be li : Nat → Int32), i + k < 100 → post (nI n, ck, gd, ls, sx', fu, nI a', nI d', op, con, h, ld, bc, be, li, s', c') → wX_runBlock_39 post (nI (i + k + 1)) (k + 2) (nI i) (nI n) ck gd ls 0 fu (nI a) (nI d) op con h ld bc be li s c
def fg_YB (n : Nat) (o : Nat → Nat) (op con : Nat → Int32) (k a d : Nat) (s c : Nat → Int32) (sy' : Int32) (a' d' : Nat) (s' c' : Nat → Int32) : Prop :=
  ∀ (post : Int32 → SY → Prop) (N i f : Nat) (hy : Nat → Int32), i + k ≤ 2000 → fg_cs o con (k + 1) a ≤ f → f ≤ 2000 → wY_goOn_7 post N (nI (i + k + 1)) (nI n) sy' (nI (f - fg_cs o con (k + 1) a)) (nI a') (nI d') op con c' hy s' → wY_goOn_7 post (N + (k + 1)) (nI i) (nI n) 2 (nI f) (nI a) (nI d) op con c hy s
theorem fg_blk (hn : n ≤ 24) (O : fg_Op n o op) (C : fg_Cl n o con h) : ∀ (k a d : Nat) (s c : Nat → Int32), a + k < n → (∀ i, i < k → fg_pl (o (a + i))) → fg_R n h a d →
    ∃ sx' sy' a' d' s' c', ((sx' = 1 ∧ sy' = 1) ∨ (sx' = 0 ∧ sy' = 2)) ∧ fg_R n h a' d' ∧ fg_XB n op con k a d s c sx' a' d' s' c' ∧ fg_YB n o op con k a d s c sy' a' d' s' c' := by
  intro k
  induction k with
  | zero =>
    intro a d s c hak hpl R
    have c1 : fg_cs o con (0 + 1) a = fg_c o con a := rfl
    by_cases h13 : o a = 13
    · refine ⟨1, 1, a, d, s, c, Or.inl ⟨rfl, rfl⟩, R, ?_, ?_⟩
      · intro post i ck gd ls fu h ld bc be li hi H
        refine br_f (nI_ge (by omega) (by omega)) ?_
        refine fg_tx13 (by omega) (by rw [(O a R.1).1, h13]) ?_
        exact nm_r (nI_1 i) (br_t (nI_le (Nat.le_refl _) (by omega)) H)
      · intro post N i f hy hi hf hf2 H
        rw [c1] at hf H
        exact fg_yround13 hn O R.1 h13 (by omega) hf hf2 H
    · obtain ⟨a', d', s', c', R', _, TX, TY⟩ := fg_step hn O C s c R h13
      refine ⟨0, 2, a', d', s', c', Or.inr ⟨rfl, rfl⟩, R', ?_, ?_⟩
      · intro post i ck gd ls fu h ld bc be li hi H
        refine br_f (nI_ge (by omega) (by omega)) ?_
        refine TX _ _ _ _ _ _ _ _ _ _ _ _ ?_
        exact nm_r (nI_1 i) (br_t (nI_le (Nat.le_refl _) (by omega)) H)
      · intro post N i f hy hi hf hf2 H
        rw [c1] at hf H
        exact fg_yround hn O R.1 h13 (by omega) hf hf2 TY H
  | succ k ih =>
    intro a d s c hak hpl R
    have pl : fg_pl (o a) := hpl 0 (by omega)
    obtain ⟨a1, d1, s1, c1, R1, e1, TX, TY⟩ := fg_step hn O C s c R pl.2.2.2
    have e1 := e1 pl
    subst e1
    obtain ⟨sx', sy', a', d', s', c', st, R', XB, YB⟩ := ih (a + 1) d1 s1 c1 (by omega) (fun i hi => by have := hpl (i + 1) (by omega); rw [show a + 1 + i = a + (i + 1) by omega]; exact this) R1
    refine ⟨sx', sy', a', d', s', c', st, R', ?_, ?_⟩
    · intro post i ck gd ls fu h ld bc be li hi H
      refine br_f (nI_ge (by omega) (by omega)) ?_
      refine TX _ _ _ _ _ _ _ _ _ _ _ _ ?_
      refine nm_r (nI_1 i) ?_
      have := XB post (i + 1) ck gd ls fu h ld bc be li (by omega) H
      rw [show i + 1 + k + 1 = i + (k + 1) + 1 by omega] at this
      exact this
    · intro post N i f hy hi hf hf2 H
      rw [fg_cs_s] at hf H
      rw [show N + (k + 1 + 1) = (N + (k + 1)) + 1 by omega]
      refine fg_yround hn O R.1 pl.2.2.2 (by omega) (by omega) hf2 TY ?_
      refine YB post N (i + 1) (f - fg_c o con a) hy (by omega) (by omega) (by omega) ?_
      rw [show i + 1 + k + 1 = i + (k + 1) + 1 by omega, show f - fg_c o con a - fg_cs o con (k + 1) (a + 1) = f - (fg_c o con a + fg_cs o con (k + 1) (a + 1)) by omega]
      exact H
/-! a block that isn't covered -/
def fg_XC (n : Nat) (op con : Nat → Int32) (k a d f : Nat) (s c : Nat → Int32) (f' a' d' : Nat) (s' c' : Nat → Int32) : Prop :=
  ∀ (post : SX → Prop) (i : Nat) (ck gd ls : Int32) (h ld bc be li : Nat → Int32), i + k < 24 → post (nI n, ck, gd, ls, 2, nI f', nI a', nI d', op, con, h, ld, bc, be, li, s', c') → wX_crawl_2 post (k + 1) (nI i) (nI n) ck gd ls 0 (nI f) (nI a) (nI d) op con h ld bc be li s c
def fg_YC (n : Nat) (op con : Nat → Int32) (a d f : Nat) (s c : Nat → Int32) (m f' a' d' : Nat) (s' c' : Nat → Int32) : Prop :=
  ∀ (post : Int32 → SY → Prop) (N i : Nat) (hy : Nat → Int32), i + m ≤ 2001 → wY_goOn_7 post N (nI (i + m)) (nI n) 2 (nI f') (nI a') (nI d') op con c' hy s' → wY_goOn_7 post (N + m) (nI i) (nI n) 2 (nI f) (nI a) (nI d) op con c hy s
theorem fg_crawl (hn : n ≤ 24) (O : fg_Op n o op) (C : fg_Cl n o con h) : ∀ (k a d f : Nat) (s c : Nat → Int32), a + k < n → (∀ i, i < k → fg_pl (o (a + i))) → fg_R n h a d → f < fg_cs o con (k + 1) a → f ≤ 2000 →
    ∃ m f' a' d' s' c', f' < fg_c o con a' ∧ f' + m ≤ f ∧ fg_R n h a' d' ∧ fg_XC n op con k a d f s c f' a' d' s' c' ∧ fg_YC n op con a d f s c m f' a' d' s' c' := by
  intro k
  induction k with
  | zero =>
    intro a d f s c hak hpl R hf hf2
    have hc := fg_c_in o con a
    have c1 : fg_cs o con (0 + 1) a = fg_c o con a := rfl
    rw [c1] at hf
    refine ⟨0, f, a, d, s, c, hf, Nat.le_refl _, R, ?_, fun post N i hy _ H => H⟩
    intro post i ck gd ls h ld bc be li hi H
    refine br_f (nI_ge (b := 24) (by omega) (by decide)) (fg_xcost (by omega) (O a R.1).1 (O a R.1).2 ?_)
    exact br_t (nI_lt hf (by omega)) H
  | succ k ih =>
    intro a d f s c hak hpl R hf hf2
    have hc := fg_c_in o con a
    by_cases hfc : f < fg_c o con a
    · refine ⟨0, f, a, d, s, c, hfc, Nat.le_refl _, R, ?_, fun post N i hy _ H => H⟩
      intro post i ck gd ls h ld bc be li hi H
      refine br_f (nI_ge (b := 24) (by omega) (by decide)) (fg_xcost (by omega) (O a R.1).1 (O a R.1).2 ?_)
      exact br_t (nI_lt hfc (by omega)) H
    · have pl : fg_pl (o a) := hpl 0 (by omega)
      obtain ⟨a1, d1, s1, c1, R1, e1, TX, TY⟩ := fg_step hn O C s c R pl.2.2.2
      have e1 := e1 pl
      subst e1
      rw [fg_cs_s] at hf
      obtain ⟨m, f', a', d', s', c', q1, q2, R', XC, YC⟩ := ih (a + 1) d1 (f - fg_c o con a) s1 c1 (by omega) (fun i hi => by have := hpl (i + 1) (by omega); rw [show a + 1 + i = a + (i + 1) by omega]; exact this) R1 (by omega) (by omega)
      refine ⟨m + 1, f', a', d', s', c', q1, by omega, R', ?_, ?_⟩
      · intro post i ck gd ls h ld bc be li hi H
        refine br_f (nI_ge (b := 24) (by omega) (by decide)) (fg_xcost (by omega) (O a R.1).1 (O a R.1).2 ?_)
        refine br_f (nI_nlt (by omega) (by omega)) (fg_xcost (by omega) (O a R.1).1 (O a R.1).2 ?_)
        refine nm_r (pk_sub (by omega)) (TX _ _ _ _ _ _ _ _ _ _ _ _ ?_)
        exact nm_r (nI_1 i) (XC post (i + 1) ck gd ls h ld bc be li (by omega) H)
      · intro post N i hy hi H
        rw [show N + (m + 1) = (N + m) + 1 by omega]
        refine fg_yround hn O R.1 pl.2.2.2 (by omega) (by omega) hf2 TY ?_
        refine YC post N (i + 1) hy (by omega) ?_
        rw [show i + 1 + m = i + (m + 1) by omega]
        exact H
/-! the whole run -/
def fg_XR (n : Nat) (op con h bc be : Nat → Int32) (r a d f : Nat) (s c : Nat → Int32) (st : Int32) (f' a' d' : Nat) (s' c' : Nat → Int32) : Prop :=
  ∀ (post : SX → Prop) (N : Nat) (ck gd ls : Int32) (ld li : Nat → Int32), f + 2 ≤ N → post (nI n, ck, gd, ls, st, nI f', nI a', nI d', op, con, h, ld, bc, be, li, s', c') → wX_carryOn_7 post N (nI r) (nI n) ck gd ls 0 (nI f) (nI a) (nI d) op con h ld bc be li s c
def fg_YR (n : Nat) (op con : Nat → Int32) (i a d f : Nat) (s c : Nat → Int32) (st : Int32) (f' a' d' : Nat) (s' c' : Nat → Int32) : Prop :=
  ∀ (post : Int32 → SY → Prop) (hy : Nat → Int32), post st (nI n, st, nI f', nI a', nI d', op, con, c', hy, s') → ∃ N, wY_goOn_7 post N (nI i) (nI n) 2 (nI f) (nI a) (nI d) op con c hy s
theorem fg_xend {post : SX → Prop} {r N : Nat} {ck gd ls sx fu pa dp : Int32} {ld bc be li s c : Nat → Int32} (hr : r ≤ 2001) (hs : sx ≠ 0) (H : post (nI n, ck, gd, ls, sx, fu, pa, dp, op, con, h, ld, bc, be, li, s, c)) : wX_carryOn_7 post (N + 1) (nI r) (nI n) ck gd ls sx fu pa dp op con h ld bc be li s c := by
  by_cases z : r = 2001
  · exact br_t (nI_lt (a := 2000) (by omega) (by omega)) H
  · exact br_f (nI_nlt (a := 2000) (b := r) (by omega) (by omega)) (br_f hs H)
theorem fg_run (hn : n ≤ 24) (O : fg_Op n o op) (C : fg_Cl n o con h) {bc be : Nat → Int32} (B : fg_BB n o con bc be 0) : ∀ (F f r i a d : Nat) (s c : Nat → Int32), f ≤ F → r + f ≤ 2000 → i + f ≤ 2000 → fg_R n h a d →
    ∃ st f' a' d' s' c', (st = 1 ∨ st = 2) ∧ f' ≤ 2000 ∧ fg_R n h a' d' ∧ fg_XR n op con h bc be r a d f s c st f' a' d' s' c' ∧ fg_YR n op con i a d f s c st f' a' d' s' c' := by
  intro F
  induction F with
  | zero =>
    intro f r i a d s c hF hr hi R
    obtain ⟨k, hk, eb, ec, hpl⟩ := B a (Nat.zero_le _) R.1
    have cb := fg_cs_in o con (k + 1) a
    obtain ⟨m, f', a', d', s', c', q1, q2, R', XC, YC⟩ := fg_crawl hn O C k a d f s c hk hpl R (by omega) (by omega)
    refine ⟨2, f', a', d', s', c', Or.inr rfl, by omega, R', ?_, ?_⟩
    · intro post N ck gd ls ld li hN H
      obtain ⟨M, rfl⟩ : ∃ M, N = M + 2 := ⟨N - 2, by omega⟩
      refine br_f (nI_nlt (a := 2000) (b := r) (by omega) (by omega)) (br_t rfl ⟨vp_in_nI (by have := R.1; omega) (by decide), ?_⟩)
      rw [nI_clamp (n := a) (by have := R.1; omega), ec]
      refine br_t (nI_lt (by omega) (by omega)) (Exists.intro (k + 1) ?_)
      refine XC _ 0 _ _ _ _ _ _ _ _ (by omega) ?_
      exact nm_r (nI_1 r) (fg_xend (by omega) (by decide) H)
    · intro post hy H
      have := fg_c_in o con a'
      exact ⟨2001 - (i + m) + 1 + m, YC post _ i hy (by omega) (fg_spin2 hn O R'.1 q1 H (2001 - (i + m)) (i + m) (by omega))⟩
  | succ F ih =>
    intro f r i a d s c hF hr hi R
    have ha := R.1
    obtain ⟨k, hk, eb, ec, hpl⟩ := B a (Nat.zero_le _) R.1
    have cb := fg_cs_in o con (k + 1) a
    by_cases cov : f < fg_cs o con (k + 1) a
    · obtain ⟨m, f', a', d', s', c', q1, q2, R', XC, YC⟩ := fg_crawl hn O C k a d f s c hk hpl R cov (by omega)
      refine ⟨2, f', a', d', s', c', Or.inr rfl, by omega, R', ?_, ?_⟩
      · intro post N ck gd ls ld li hN H
        obtain ⟨M, rfl⟩ : ∃ M, N = M + 2 := ⟨N - 2, by omega⟩
        refine br_f (nI_nlt (a := 2000) (b := r) (by omega) (by omega)) (br_t rfl ⟨vp_in_nI (by omega) (by decide), ?_⟩)
        rw [nI_clamp (n := a) (by omega), ec]
        refine br_t (nI_lt (by omega) (by omega)) (Exists.intro (k + 1) ?_)
        refine XC _ 0 _ _ _ _ _ _ _ _ (by omega) ?_
        exact nm_r (nI_1 r) (fg_xend (by omega) (by decide) H)
      · intro post hy H
        have := fg_c_in o con a'
        exact ⟨2001 - (i + m) + 1 + m, YC post _ i hy (by omega) (fg_spin2 hn O R'.1 q1 H (2001 - (i + m)) (i + m) (by omega))⟩
    · obtain ⟨sx', sy', a1, d1, s1, c1, st, R1, XB, YB⟩ := fg_blk hn O C k a d s c hk hpl R
      have XS : ∀ (post : SX → Prop) (N : Nat) (ck gd ls : Int32) (ld li : Nat → Int32), wX_carryOn_7 post N (nI (r + 1)) (nI n) ck gd ls sx' (nI (f - fg_cs o con (k + 1) a)) (nI a1) (nI d1) op con h ld bc be li s1 c1 → wX_carryOn_7 post (N + 1) (nI r) (nI n) ck gd ls 0 (nI f) (nI a) (nI d) op con h ld bc be li s c := by
        intro post N ck gd ls ld li H
        have hi24 : vp_in (nI a) 24 := vp_in_nI (by omega) (by decide)
        refine br_f (nI_nlt (a := 2000) (b := r) (by omega) (by omega)) (br_t rfl ⟨hi24, ?_⟩)
        rw [nI_clamp (n := a) (by omega), ec]
        refine br_f (nI_nlt (by omega) (by omega)) ?_
        refine And.intro hi24 (nm_r (fg_at (by omega) eb) (nm_r (e' := nI (0 + k + 1)) ?_ ⟨hi24, nm_r (e' := nI (f - fg_cs o con (k + 1) a)) ?_ ⟨k + 2, ?_⟩⟩))
        · rw [pk_sub (by omega), nI_1]
          exact congrArg nI (by omega)
        · rw [nI_clamp (n := a) (by omega), ec]
          exact pk_sub (by omega)
        · refine XB _ 0 _ _ _ _ _ _ _ _ _ (by omega) ?_
          exact nm_r (nI_1 r) H
      rcases st with ⟨rfl, rfl⟩ | ⟨rfl, rfl⟩
      · refine ⟨1, f - fg_cs o con (k + 1) a, a1, d1, s1, c1, Or.inl rfl, by omega, R1, ?_, ?_⟩
        · intro post N ck gd ls ld li hN H
          obtain ⟨M, rfl⟩ : ∃ M, N = M + 2 := ⟨N - 2, by omega⟩
          exact XS post (M + 1) ck gd ls ld li (fg_xend (by omega) (by decide) H)
        · intro post hy H
          exact ⟨2001 - (i + k + 1) + 1 + (k + 1), YB post _ i f hy (by omega) (by omega) (by omega) (fg_spin1 H (2001 - (i + k + 1)) (i + k + 1) (by omega))⟩
      · obtain ⟨st, f', a', d', s', c', hst, hf', R', XR, YR⟩ := ih (f - fg_cs o con (k + 1) a) (r + 1) (i + k + 1) a1 d1 s1 c1 (by omega) (by omega) (by omega) R1
        refine ⟨st, f', a', d', s', c', hst, hf', R', ?_, ?_⟩
        · intro post N ck gd ls ld li hN H
          obtain ⟨M, rfl⟩ : ∃ M, N = M + 1 := ⟨N - 1, by omega⟩
          exact XS post M ck gd ls ld li (XR post M ck gd ls ld li (by omega) H)
        · intro post hy H
          obtain ⟨N, W⟩ := YR post hy H
          exact ⟨N + (k + 1), YB post N i f hy (by omega) (by omega) (by omega) W⟩
end FGrun
end
section
section FGrel
def fg_I (n f : Nat) (o : Nat → Nat) (ck gd sx pa pb dp tp : Int32) (op con h bc be : Nat → Int32) : Prop :=
  n ≤ 24 ∧ f ≤ 2000 ∧ fg_Op n o op ∧ (ck = 0 ∨ (ck = 1 ∧ fg_CK n o con gd h bc be)) ∧
  ((sx = 0 ∧ tp = 0) ∨ ((sx = 1 ∨ sx = 2) ∧ ck = 1 ∧ gd = 1 ∧ ∃ a d, fg_R n h a d ∧ pa = nI a ∧ pb = nI a ∧ dp = nI d ∧ tp = nI d))
/-- the relation: the shared program, stack, cells, state, fuel; a good check is closed; a machine that ran stands at a reached place -/
def i_Rel (_ : Nat) (u : SX) (v : SY) : Prop :=
  ∃ (n f : Nat) (o : Nat → Nat) (ck gd ls sx pa pb dp tp : Int32) (op con h ld bc be li s c hy : Nat → Int32),
    u = (nI n, ck, gd, ls, sx, nI f, pa, dp, op, con, h, ld, bc, be, li, s, c) ∧ v = (nI n, sx, nI f, pb, tp, op, con, c, hy, s) ∧ fg_I n f o ck gd sx pa pb dp tp op con h bc be
theorem fg_in {k n f : Nat} {o : Nat → Nat} {ck gd ls sx pa pb dp tp : Int32} {op con h ld bc be li s c hy : Nat → Int32}
    (I : fg_I n f o ck gd sx pa pb dp tp op con h bc be) : i_Rel k (nI n, ck, gd, ls, sx, nI f, pa, dp, op, con, h, ld, bc, be, li, s, c) (nI n, sx, nI f, pb, tp, op, con, c, hy, s) :=
  ⟨n, f, o, ck, gd, ls, sx, pa, pb, dp, tp, op, con, h, ld, bc, be, li, s, c, hy, rfl, rfl, I⟩
theorem fg_el {k : Nat} {u : SX} {v : SY} {P : SX → SY → Prop} (I : i_Rel k u v)
    (H : ∀ (n f : Nat) (o : Nat → Nat) (ck gd ls sx pa pb dp tp : Int32) (op con h ld bc be li s c hy : Nat → Int32),
      fg_I n f o ck gd sx pa pb dp tp op con h bc be → P (nI n, ck, gd, ls, sx, nI f, pa, dp, op, con, h, ld, bc, be, li, s, c) (nI n, sx, nI f, pb, tp, op, con, c, hy, s)) : P u v := by
  obtain ⟨n, f, o, ck, gd, ls, sx, pa, pb, dp, tp, op, con, h, ld, bc, be, li, s, c, hy, e1, e2, J⟩ := I
  rw [e1, e2]
  exact H n f o ck gd ls sx pa pb dp tp op con h ld bc be li s c hy J
theorem fg_I_ck {n f : Nat} {o : Nat → Nat} {ck gd sx pa pb dp tp gd' : Int32} {op con h bc be h' bc' be' : Nat → Int32} (I : fg_I n f o ck gd sx pa pb dp tp op con h bc be)
    (K : fg_CK n o con gd' h' bc' be') (old : (ck = 1 ∧ gd' = gd ∧ h' = h ∧ bc' = bc ∧ be' = be) ∨ ck = 0) : fg_I n f o 1 gd' sx pa pb dp tp op con h' bc' be' := by
  obtain ⟨hn, hf, O, G, M⟩ := I
  refine ⟨hn, hf, O, Or.inr ⟨rfl, K⟩, ?_⟩
  rcases M with M | ⟨hs, hck, hgd, a, d, R, e⟩
  · exact Or.inl M
  · rcases old with ⟨_, rfl, rfl, rfl, rfl⟩ | z
    · exact Or.inr ⟨hs, rfl, hgd, a, d, R, e⟩
    · rw [hck] at z
      exact absurd z (by decide)
/-! fuels -/
theorem fg_fuel (x : Int32) : ∃ f, f ≤ 2000 ∧ (∀ post : Int32 → Prop, post (nI f) → wpX_clampFuel post x) ∧ (∀ (post : Int32 → Prop) (v : SY), post (nI f) → wpY_held post v x) := by
  by_cases h0 : 0 ≤ x
  · obtain ⟨j, hj, rfl⟩ := nI_of (x := x) (Int32.not_lt.mpr h0)
    by_cases h2 : j ≤ 2000
    · refine ⟨j, h2, fun post H => br_t h0 (br_t (nI_le (b := 2000) h2 (by decide)) H), fun post v H => ?_⟩
      refine br_t h0 ?_
      by_cases z : j = 2000
      · subst z
        exact br_t (nI_le (a := 2000) (Nat.le_refl _) (by decide)) H
      · exact br_f (nI_ge (b := 2000) (by omega) (by decide)) H
    · exact ⟨2000, Nat.le_refl _, fun post H => br_t h0 (br_f (nI_ge (a := 2000) (by omega) hj) H), fun post v H => br_t h0 (br_t (nI_le (a := 2000) (by omega) hj) H)⟩
  · exact ⟨0, by omega, fun post H => br_f h0 H, fun post v H => br_f h0 H⟩
theorem fg_fuel2 {f g : Nat} (hf : f ≤ 2000) (hg : g ≤ 2000) : ∃ m, m ≤ 2000 ∧ (∀ post : Int32 → Prop, post (nI m) → wpX_clampFuel post (nI f + nI g)) ∧ (∀ (post : Int32 → Prop) (v : SY), post (nI m) → wpY_least post v (nI f + nI g) 2000) := by
  rw [nI_add]
  have h0 : 0 ≤ nI (f + g) := nI_pos' (by omega)
  by_cases h2 : f + g ≤ 2000
  · refine ⟨f + g, h2, fun post H => br_t h0 (br_t (nI_le (b := 2000) h2 (by decide)) H), fun post v H => ?_⟩
    by_cases z : f + g = 2000
    · rw [z] at H ⊢
      exact br_t (nI_le (a := 2000) (Nat.le_refl _) (by decide)) H
    · exact br_f (nI_ge (b := 2000) (by omega) (by decide)) H
  · exact ⟨2000, Nat.le_refl _, fun post H => br_t h0 (br_f (nI_ge (a := 2000) (by omega) (by omega)) H), fun post v H => br_t (nI_le (a := 2000) (by omega) (by omega)) H⟩
end FGrel
end
section
theorem i_up {k : Nat} {u : SX} {v : SY} (h : i_Rel k u v) : i_Rel (k + 3) u v := h
theorem i_vc0 : wpX_init (fun u => wpY_init (fun v => i_Rel 0 u v)) :=
  fg_in (k := 0) (n := 0) (f := 0) (o := fun _ => 0) ⟨by omega, by omega, fun p hp => absurd hp (Nat.not_lt_zero p), Or.inl rfl, Or.inl ⟨rfl, rfl⟩⟩
theorem i_vc_emit {k : Nat} {u : SX} {v : SY} (I : i_Rel k u v) (hk : k + 3 ≤ 1536) (v1 : Int32) (v2 : Int32) : wpX_emit (fun r u' => wpY_emit (fun r' v' => r' = r ∧ i_Rel (k + 3) u' v') v v1 v2) u v1 v2 := by
  refine fg_el (P := fun u v => wpX_emit (fun r u' => wpY_emit (fun r' v' => r' = r ∧ i_Rel (k + 3) u' v') v v1 v2) u v1 v2) I ?_
  intro n f o ck gd ls sx pa pb dp tp op con h ld bc be li s c hy J
  have hn := J.1
  by_cases h0 : v1 < 0
  · exact br_t h0 (br_t h0 ⟨rfl, fg_in J⟩)
  · by_cases h14 : v1 ≤ 14
    · by_cases h24 : n = 24
      · have hX : ¬ nI n < 24 := nI_nlt (b := 24) (by omega) (by omega)
        have hY : nI n = 24 := by rw [h24]; rfl
        exact br_f h0 (br_t h14 (br_f hX (br_f h0 (br_t h14 (br_t hY ⟨rfl, fg_in J⟩)))))
      · have hX : nI n < 24 := nI_lt (b := 24) (by omega) (by decide)
        have hY : ¬ nI n = 24 := fun z => h24 (fg_inj (b := 24) z (by omega) (by decide))
        have hi : vp_in (nI n) 24 := vp_in_nI (by omega) (by decide)
        obtain ⟨j, hj, rfl⟩ := nI_of2 (M := 14) (n := 14) (by decide) h0 h14
        have O' : fg_Op (n + 1) (fun q => if q = n then j else o q) (upd op n (nI j)) := by
          intro p hp
          by_cases z : p = n
          · simp only [if_pos z]
            rw [z, pk_us]
            exact ⟨rfl, hj⟩
          · simp only [if_neg z]
            rw [pk_un z]
            exact J.2.2.1 p (by omega)
        have J' : fg_I (n + 1) 0 (fun q => if q = n then j else o q) 0 gd 0 pa pb dp 0 (upd op n (nI j)) (upd con n v2) h bc be :=
          ⟨by omega, by omega, O', Or.inl rfl, Or.inl ⟨rfl, rfl⟩⟩
        refine br_f h0 (br_t h14 (br_t hX ⟨hi, ?_⟩))
        rw [nI_clamp (n := n) (by omega)]
        refine nm_e ⟨hi, nm_e (nm_r (nI_1 n) ?_)⟩
        refine br_f h0 (br_t h14 (br_f hY ⟨hi, ?_⟩))
        rw [nI_clamp (n := n) (by omega)]
        refine nm_e ⟨hi, nm_e (nm_r (nI_1 n) ?_)⟩
        exact And.intro rfl (fg_in (f := 0) J')
    · exact br_f h0 (br_f h14 (br_f h0 (br_f h14 ⟨rfl, fg_in J⟩)))
theorem i_vc_clear {k : Nat} {u : SX} {v : SY} (I : i_Rel k u v) (hk : k + 3 ≤ 1536) : wpX_clear (fun u' => wpY_clear (fun v' => i_Rel (k + 3) u' v') v) u := by
  refine fg_el (P := fun u v => wpX_clear (fun u' => wpY_clear (fun v' => i_Rel (k + 3) u' v') v) u) I ?_
  intro n f o ck gd ls sx pa pb dp tp op con h ld bc be li s c hy J
  have J' : fg_I 0 0 o 0 gd 0 pa pb dp 0 op con h bc be := ⟨by omega, by omega, fun p hp => absurd hp (Nat.not_lt_zero p), Or.inl rfl, Or.inl ⟨rfl, rfl⟩⟩
  exact fg_in (k := k + 3) (n := 0) (f := 0) J'
theorem i_vc_cell {k : Nat} {u : SX} {v : SY} (I : i_Rel k u v) (hk : k + 3 ≤ 1536) (v1 : Int32) (v2 : Int32) : wpX_cell (fun r u' => wpY_cell (fun r' v' => r' = r ∧ i_Rel (k + 3) u' v') v v1 v2) u v1 v2 := by
  refine fg_el (P := fun u v => wpX_cell (fun r u' => wpY_cell (fun r' v' => r' = r ∧ i_Rel (k + 3) u' v') v v1 v2) u v1 v2) I ?_
  intro n f o ck gd ls sx pa pb dp tp op con h ld bc be li s c hy J
  have hi := fg_in3 v1
  exact And.intro hi (nm_e ⟨hi, nm_e (And.intro hi (nm_e ⟨hi, nm_e ⟨rfl, fg_in J⟩⟩))⟩)
theorem i_vc_run {k : Nat} {u : SX} {v : SY} (I : i_Rel k u v) (hk : k + 3 ≤ 1536) (v1 : Int32) : wpX_run (fun r u' => wpY_run (fun r' v' => r' = r ∧ i_Rel (k + 3) u' v') v v1) u v1 := by
  refine fg_el (P := fun u v => wpX_run (fun r u' => wpY_run (fun r' v' => r' = r ∧ i_Rel (k + 3) u' v') v v1) u v1) I ?_
  intro n f o ck gd ls sx pa pb dp tp op con h ld bc be li s c hy J
  obtain ⟨hn, hf, O, G, M⟩ := id J
  unfold wpX_run
  dsimp only
  refine fg_xcheck hn O G ?_
  intro gd' ls' h' ld' bc' be' li' CK old
  dsimp only
  have J1 := fg_I_ck J CK old
  rcases id CK with ⟨rfl, C, P, B⟩ | ⟨rfl, hno⟩
  · refine br_f (by decide) ?_
    obtain ⟨g, hg, FX, FY⟩ := fg_fuel v1
    refine FX _ ?_
    obtain ⟨st, f', a', d', s', c', hst, hf', R', XR, YR⟩ := fg_run hn O C B 2000 g 0 0 0 0 s c hg (by omega) (by omega) ⟨C.1, by omega, C.2.1⟩
    refine Exists.intro (g + 2) (XR _ (g + 2) 1 1 ls' ld' li' (Nat.le_refl _) ?_)
    unfold wpY_run
    dsimp only
    refine fg_ysound hn O ?_
    intro r hy' hr
    dsimp only
    rcases hr with ⟨rfl, C2, P2⟩ | ⟨rfl, hno⟩
    · refine br_f (by decide) (FY _ _ ?_)
      refine YR _ hy' ?_
      exact And.intro rfl (fg_in ⟨hn, hf', O, Or.inr ⟨rfl, CK⟩, Or.inr ⟨hst, rfl, rfl, a', d', R', rfl, rfl, rfl, rfl⟩⟩)
    · exact absurd C (hno h')
  · refine br_t rfl ?_
    unfold wpY_run
    dsimp only
    refine fg_ysound hn O ?_
    intro r hy' hr
    dsimp only
    rcases hr with ⟨rfl, C2, P2⟩ | ⟨rfl, _⟩
    · exact absurd C2 (hno hy')
    · exact br_t rfl ⟨rfl, fg_in J1⟩
theorem i_vc_refuel {k : Nat} {u : SX} {v : SY} (I : i_Rel k u v) (hk : k + 3 ≤ 1536) (v1 : Int32) : wpX_refuel (fun r u' => wpY_refuel (fun r' v' => r' = r ∧ i_Rel (k + 3) u' v') v v1) u v1 := by
  refine fg_el (P := fun u v => wpX_refuel (fun r u' => wpY_refuel (fun r' v' => r' = r ∧ i_Rel (k + 3) u' v') v v1) u v1) I ?_
  intro n f o ck gd ls sx pa pb dp tp op con h ld bc be li s c hy J
  obtain ⟨hn, hf, O, G, M⟩ := id J
  by_cases h2 : sx = 2
  · rcases M with ⟨e, _⟩ | ⟨_, rfl, rfl, a, d, R, rfl, rfl, rfl, rfl⟩
    · rw [e] at h2
      exact absurd h2 (by decide)
    · rcases G with z | ⟨_, CK⟩
      · exact absurd z (by decide)
      · rcases id CK with ⟨_, C, P, B⟩ | ⟨z, _⟩
        · subst h2
          obtain ⟨g, hg, FX, FY⟩ := fg_fuel v1
          obtain ⟨m, hm, GX, GY⟩ := fg_fuel2 hf hg
          obtain ⟨st, f', a', d', s', c', hst, hf', R', XR, YR⟩ := fg_run hn O C B 2000 m 0 0 a d s c hm (by omega) (by omega) R
          refine br_t rfl (FX _ (GX _ ?_))
          refine Exists.intro (m + 2) (XR _ (m + 2) 1 1 ls ld li (Nat.le_refl _) ?_)
          refine br_t rfl (FY _ _ (GY _ _ ?_))
          refine YR _ hy ?_
          exact And.intro rfl (fg_in ⟨hn, hf', O, Or.inr ⟨rfl, CK⟩, Or.inr ⟨hst, rfl, rfl, a', d', R', rfl, rfl, rfl, rfl⟩⟩)
        · exact absurd z (by decide)
  · exact br_f h2 (br_f h2 ⟨rfl, fg_in J⟩)
theorem i_vc_sound {k : Nat} {u : SX} {v : SY} (I : i_Rel k u v) (hk : k + 3 ≤ 1536) : wpX_sound (fun r u' => wpY_sound (fun r' v' => r' = r ∧ i_Rel (k + 3) u' v') v) u := by
  refine fg_el (P := fun u v => wpX_sound (fun r u' => wpY_sound (fun r' v' => r' = r ∧ i_Rel (k + 3) u' v') v) u) I ?_
  intro n f o ck gd ls sx pa pb dp tp op con h ld bc be li s c hy J
  obtain ⟨hn, hf, O, G, M⟩ := id J
  unfold wpX_sound
  dsimp only
  refine fg_xcheck hn O G ?_
  intro gd' ls' h' ld' bc' be' li' CK old
  dsimp only
  have J1 := fg_I_ck J CK old
  rcases id CK with ⟨rfl, C, P, B⟩ | ⟨rfl, hno⟩
  · refine ⟨by rfl, fg_ysound hn O ?_⟩
    intro r hy' hr
    rcases hr with ⟨rfl, C2, P2⟩ | ⟨rfl, hno⟩
    · exact ⟨rfl, fg_in J1⟩
    · exact absurd C (hno h')
  · refine ⟨by rfl, fg_ysound hn O ?_⟩
    intro r hy' hr
    rcases hr with ⟨rfl, C2, P2⟩ | ⟨rfl, _⟩
    · exact absurd C2 (hno hy')
    · exact ⟨rfl, fg_in J1⟩
theorem i_vc_height {k : Nat} {u : SX} {v : SY} (I : i_Rel k u v) (hk : k + 3 ≤ 1536) (v1 : Int32) : wpX_height (fun r u' => wpY_height (fun r' v' => r' = r ∧ i_Rel (k + 3) u' v') v v1) u v1 := by
  refine fg_el (P := fun u v => wpX_height (fun r u' => wpY_height (fun r' v' => r' = r ∧ i_Rel (k + 3) u' v') v v1) u v1) I ?_
  intro n f o ck gd ls sx pa pb dp tp op con h ld bc be li s c hy J
  obtain ⟨hn, hf, O, G, M⟩ := id J
  unfold wpX_height
  dsimp only
  refine fg_xcheck hn O G ?_
  intro gd' ls' h' ld' bc' be' li' CK old
  dsimp only
  have J1 := fg_I_ck J CK old
  rcases id CK with ⟨rfl, C, P, B⟩ | ⟨rfl, hno⟩
  · have Y : ∀ (post : Int32 → SY → Prop), (∀ hy', (∀ p, p < 24 → hy' p = h' p) → ((v1 < 0 → post (-4) (nI n, sx, nI f, pb, tp, op, con, c, hy', s)) ∧ (¬ v1 < 0 → ((nI n ≤ v1 → post (-4) (nI n, sx, nI f, pb, tp, op, con, c, hy', s)) ∧ (¬ nI n ≤ v1 → vp_in v1 24 ∧ ((0 ≤ hy' v1.toNatClampNeg → vp_in v1 24 ∧ post (hy' v1.toNatClampNeg) (nI n, sx, nI f, pb, tp, op, con, c, hy', s)) ∧ (¬ 0 ≤ hy' v1.toNatClampNeg → post (-4) (nI n, sx, nI f, pb, tp, op, con, c, hy', s)))))))) → wpY_height post (nI n, sx, nI f, pb, tp, op, con, c, hy, s) v1 := by
      intro post H
      unfold wpY_height
      dsimp only
      refine fg_ysound hn O ?_
      intro r hy' hr
      dsimp only
      rcases hr with ⟨rfl, C2, P2⟩ | ⟨rfl, hno⟩
      · exact br_f (by decide) (H hy' (fun p hp => fg_uniq C P C2 P2 hp))
      · exact absurd C (hno h')
    refine br_f (by decide) ?_
    by_cases h0 : v1 < 0
    · exact br_t h0 (Y _ (fun hy' e => br_t h0 ⟨rfl, fg_in J1⟩))
    · by_cases h1 : nI n ≤ v1
      · exact br_f h0 (br_t h1 (Y _ (fun hy' e => br_f h0 (br_t h1 ⟨rfl, fg_in J1⟩))))
      · obtain ⟨j, hj, rfl⟩ := nI_of h0
        have hjn : j < n := by
          rw [nI_leI (by omega) hj] at h1
          omega
        have hi : vp_in (nI j) 24 := vp_in_nI (by omega) (by decide)
        refine br_f h0 (br_f h1 ⟨hi, ?_⟩)
        rw [nI_clamp hj] at Y ⊢
        by_cases hh : 0 ≤ h' j
        · refine br_t hh ⟨hi, Y _ (fun hy' e => br_f h0 (br_f h1 ⟨hi, ?_⟩))⟩
          rw [e j (by omega)]
          exact br_t hh ⟨hi, rfl, fg_in J1⟩
        · refine br_f hh (Y _ (fun hy' e => br_f h0 (br_f h1 ⟨hi, ?_⟩)))
          rw [e j (by omega)]
          exact br_f hh ⟨rfl, fg_in J1⟩
  · refine br_t rfl ?_
    unfold wpY_height
    dsimp only
    refine fg_ysound hn O ?_
    intro r hy' hr
    dsimp only
    rcases hr with ⟨rfl, C2, P2⟩ | ⟨rfl, _⟩
    · exact absurd C2 (hno hy')
    · exact br_t rfl ⟨rfl, fg_in J1⟩
theorem i_vc_state {k : Nat} {u : SX} {v : SY} (I : i_Rel k u v) (hk : k + 3 ≤ 1536) : wpX_state (fun r => wpY_state (fun r' => r' = r ∧ i_Rel (k + 3) u v) v) u := by
  refine fg_el (P := fun u v => wpX_state (fun r => wpY_state (fun r' => r' = r ∧ i_Rel (k + 3) u v) v) u) I ?_
  intro n f o ck gd ls sx pa pb dp tp op con h ld bc be li s c hy J
  exact And.intro rfl (fg_in J)
theorem i_vc_fuel {k : Nat} {u : SX} {v : SY} (I : i_Rel k u v) (hk : k + 3 ≤ 1536) : wpX_fuel (fun r => wpY_fuel (fun r' => r' = r ∧ i_Rel (k + 3) u v) v) u := by
  refine fg_el (P := fun u v => wpX_fuel (fun r => wpY_fuel (fun r' => r' = r ∧ i_Rel (k + 3) u v) v) u) I ?_
  intro n f o ck gd ls sx pa pb dp tp op con h ld bc be li s c hy J
  exact And.intro rfl (fg_in J)
theorem fg_s0 {x : Int32} (h : x = 1 ∨ x = 2) : ¬ x = 0 := by
  rcases h with rfl | rfl <;> decide
theorem i_vc_place {k : Nat} {u : SX} {v : SY} (I : i_Rel k u v) (hk : k + 3 ≤ 1536) : wpX_place (fun r => wpY_place (fun r' => r' = r ∧ i_Rel (k + 3) u v) v) u := by
  refine fg_el (P := fun u v => wpX_place (fun r => wpY_place (fun r' => r' = r ∧ i_Rel (k + 3) u v) v) u) I ?_
  intro n f o ck gd ls sx pa pb dp tp op con h ld bc be li s c hy J
  rcases J.2.2.2.2 with ⟨e, _⟩ | ⟨hs, _, _, a, d, R, ea, eb, _, _⟩
  · exact br_t e (br_t e ⟨rfl, fg_in J⟩)
  · exact br_f (fg_s0 hs) (br_f (fg_s0 hs) ⟨eb.trans ea.symm, fg_in J⟩)
theorem i_vc_depth {k : Nat} {u : SX} {v : SY} (I : i_Rel k u v) (hk : k + 3 ≤ 1536) : wpX_depth (fun r => wpY_depth (fun r' => r' = r ∧ i_Rel (k + 3) u v) v) u := by
  refine fg_el (P := fun u v => wpX_depth (fun r => wpY_depth (fun r' => r' = r ∧ i_Rel (k + 3) u v) v) u) I ?_
  intro n f o ck gd ls sx pa pb dp tp op con h ld bc be li s c hy J
  rcases J.2.2.2.2 with ⟨e, e2⟩ | ⟨hs, _, _, a, d, R, _, _, ed, eh⟩
  · exact br_t e (And.intro e2 (fg_in J))
  · exact br_f (fg_s0 hs) (And.intro (eh.trans ed.symm) (fg_in J))
theorem i_vc_top {k : Nat} {u : SX} {v : SY} (I : i_Rel k u v) (hk : k + 3 ≤ 1536) (v1 : Int32) : wpX_top (fun r => wpY_top (fun r' => r' = r ∧ i_Rel (k + 3) u v) v v1) u v1 := by
  refine fg_el (P := fun u v => wpX_top (fun r => wpY_top (fun r' => r' = r ∧ i_Rel (k + 3) u v) v v1) u v1) I ?_
  intro n f o ck gd ls sx pa pb dp tp op con h ld bc be li s c hy J
  rcases J.2.2.2.2 with ⟨e, e2⟩ | ⟨hs, _, _, a, d, R, _, _, ed, eh⟩
  · refine br_t e ?_
    by_cases h0 : v1 < 0
    · exact br_t h0 ⟨rfl, fg_in J⟩
    · exact br_f h0 (br_f (by rw [e2]; exact h0) ⟨rfl, fg_in J⟩)
  · subst ed eh
    refine br_f (fg_s0 hs) ?_
    by_cases h0 : v1 < 0
    · exact br_t h0 (br_t h0 ⟨rfl, fg_in J⟩)
    · by_cases h1 : v1 < nI d
      · obtain ⟨j, hj, rfl⟩ := nI_of h0
        have hd := R.2.1
        have hjd : j < d := (nI_ltI hj (by omega)).mp h1
        have e1 : nI d - 1 - nI j = nI (d - 1 - j) := by rw [fg_s1 (by omega), pk_sub (by omega)]
        have i1 : vp_in (nI d - 1 - nI j) 9 := by rw [e1]; exact vp_in_nI (by omega) (by decide)
        have i2 : vp_in (nI d - 1 - nI j) 16 := by rw [e1]; exact vp_in_nI (by omega) (by decide)
        exact br_f h0 (br_t h1 ⟨i1, br_f h0 (br_t h1 ⟨i2, rfl, fg_in J⟩)⟩)
      · exact br_f h0 (br_f h1 (br_f h0 (br_f h1 ⟨rfl, fg_in J⟩)))
theorem i_vc_get {k : Nat} {u : SX} {v : SY} (I : i_Rel k u v) (hk : k + 3 ≤ 1536) (v1 : Int32) : wpX_get (fun r => wpY_get (fun r' => r' = r ∧ i_Rel (k + 3) u v) v v1) u v1 := by
  refine fg_el (P := fun u v => wpX_get (fun r => wpY_get (fun r' => r' = r ∧ i_Rel (k + 3) u v) v v1) u v1) I ?_
  intro n f o ck gd ls sx pa pb dp tp op con h ld bc be li s c hy J
  have hi := fg_in3 v1
  exact And.intro hi (And.intro hi ⟨rfl, fg_in J⟩)
end
