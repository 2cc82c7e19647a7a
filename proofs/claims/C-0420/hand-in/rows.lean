section
/-! base: numbers, stores, counts, segments of chains -/
theorem ba_us {f : Nat → Int32} {k : Nat} {x : Int32} : upd f k x k = x := if_pos rfl
theorem ba_un {f : Nat → Int32} {k j : Nat} {x : Int32} (h : j ≠ k) : upd f k x j = f j := if_neg h
theorem ba_sub {a b : Nat} (h : b ≤ a) : nI a - nI b = nI (a - b) := by
  obtain ⟨c, rfl⟩ : ∃ c, a = c + b := ⟨a - b, by omega⟩
  rw [← nI_add, Int32.add_sub_cancel, Nat.add_sub_cancel]
theorem ba_m1 (n : Nat) : nI (n + 1) + (-1) = nI n := by
  rw [← nI_1, Int32.add_assoc, show (1 : Int32) + (-1) = 0 from rfl, Int32.add_zero]
theorem ba_m {n : Nat} (h : 0 < n) : nI n + (-1) = nI (n - 1) := by
  obtain ⟨m, rfl⟩ : ∃ m, n = m + 1 := ⟨n - 1, by omega⟩
  exact ba_m1 m
theorem ba_s {n : Nat} (h : 0 < n) : nI n - 1 = nI (n - 1) := by
  obtain ⟨m, rfl⟩ : ∃ m, n = m + 1 := ⟨n - 1, by omega⟩
  exact nI_pred m
theorem ba_ne1 {a : Nat} (h : a < 2 ^ 31) : ¬ nI a = -1 := by
  intro e
  have := nI_pos (n := a) h
  rw [e] at this
  exact this (by decide)
theorem ba_im {a b : Nat} (h : nI a = nI b) (ha : a < 2 ^ 31) (hb : b < 2 ^ 31) : a = b := (nI_eq ha hb).mp h
theorem ba_vb0 : vp_nar .boolean 0 = 0 := by decide
theorem ba_vb1 : vp_nar .boolean 1 = 1 := by decide
theorem ba_10 : ¬ (1 : Int32) = 0 := by decide
theorem ba_lit0 : (0 : Int32).toInt = 0 := by decide
theorem ba_lit255 : (255 : Int32).toInt = 255 := by decide
theorem ba_lit256 : (256 : Int32).toInt = 256 := by decide
theorem ba_ix (x : Int32) {n : Nat} (hn : n < 2 ^ 31) : x < 0 ∨ nI n ≤ x ∨ ∃ j : Nat, j < n ∧ x = nI j := by
  by_cases h : x < 0
  · exact Or.inl h
  · obtain ⟨j, hj, rfl⟩ := nI_of h
    by_cases h2 : j < n
    · exact Or.inr (Or.inr ⟨j, h2, rfl⟩)
    · exact Or.inr (Or.inl (nI_le (by omega) hj))
theorem ba_le {x y : Int32} {A B : Prop} (a b : Nat) (f : a ≤ b → A) (g : b < a → B) (hx : x = nI a := by rfl) (hy : y = nI b := by rfl) (ha : a < 2 ^ 31 := by omega) (hb : b < 2 ^ 31 := by omega) : (x ≤ y → A) ∧ (¬ x ≤ y → B) := by
  subst hx hy
  rw [nI_leI ha hb]
  exact ⟨f, fun z => g (by omega)⟩
theorem ba_lt {x y : Int32} {A B : Prop} (a b : Nat) (f : a < b → A) (g : b ≤ a → B) (hx : x = nI a := by rfl) (hy : y = nI b := by rfl) (ha : a < 2 ^ 31 := by omega) (hb : b < 2 ^ 31 := by omega) : (x < y → A) ∧ (¬ x < y → B) := by
  subst hx hy
  rw [nI_ltI ha hb]
  exact ⟨f, fun z => g (by omega)⟩
theorem ba_eq {x y : Int32} {A B : Prop} (a b : Nat) (f : a = b → A) (g : a ≠ b → B) (hx : x = nI a := by rfl) (hy : y = nI b := by rfl) (ha : a < 2 ^ 31 := by omega) (hb : b < 2 ^ 31 := by omega) : (x = y → A) ∧ (¬ x = y → B) := by
  subst hx hy
  rw [nI_eq ha hb]
  exact ⟨f, g⟩
/-- a key given as a number is refused, or is a natural below 256 -/
theorem ba_key (x : Int32) : (x < 0) ∨ (¬ x < 0 ∧ ¬ x ≤ 255) ∨ ∃ k : Nat, k < 256 ∧ x = nI k := by
  by_cases h : x < 0
  · exact Or.inl h
  · by_cases h2 : x ≤ 255
    · obtain ⟨j, hj, e⟩ := nI_of2 (n := 255) (by decide) h h2
      exact Or.inr (Or.inr ⟨j, by omega, e⟩)
    · exact Or.inr (Or.inl ⟨h, h2⟩)

/-! counts -/
def cn_c (q : Nat → Bool) : Nat → Nat
  | 0 => 0
  | n + 1 => cn_c q n + (if q n = true then 1 else 0)
theorem cn_t {q : Nat → Bool} {n : Nat} (h : q n = true) : cn_c q (n + 1) = cn_c q n + 1 := by
  rw [cn_c, if_pos h]
theorem cn_f {q : Nat → Bool} {n : Nat} (h : q n = false) : cn_c q (n + 1) = cn_c q n := by
  rw [cn_c, if_neg (by rw [h]; decide), Nat.add_zero]
theorem cn_mono (q : Nat → Bool) {a b : Nat} (h : a ≤ b) : cn_c q a ≤ cn_c q b := by
  induction b with
  | zero => rw [Nat.le_zero.mp h]; exact Nat.le_refl _
  | succ b ih =>
    rcases Nat.lt_or_ge a (b + 1) with z | z
    · exact Nat.le_trans (ih (by omega)) (by rw [cn_c]; exact Nat.le_add_right _ _)
    · rw [show a = b + 1 by omega]; exact Nat.le_refl _
theorem cn_le (q : Nat → Bool) (n : Nat) : cn_c q n ≤ n := by
  induction n with
  | zero => exact Nat.le_refl _
  | succ n ih =>
    cases h : q n
    · rw [cn_f h]; omega
    · rw [cn_t h]; omega
theorem cn_congr {q q' : Nat → Bool} {n : Nat} (h : ∀ j, j < n → q j = q' j) : cn_c q n = cn_c q' n := by
  induction n with
  | zero => rfl
  | succ n ih => rw [cn_c, cn_c, ih (fun j hj => h j (by omega)), h n (by omega)]
theorem cn_add {q q' : Nat → Bool} {k : Nat} (h0 : q k = false) (h1 : q' k = true) (h : ∀ j, j ≠ k → q' j = q j) (n : Nat) : cn_c q' n = cn_c q n + (if k < n then 1 else 0) := by
  induction n with
  | zero => rw [if_neg (by omega)]; rfl
  | succ n ih =>
    rcases Nat.lt_trichotomy k n with z | z | z
    · rw [if_pos z] at ih
      rw [cn_c, cn_c, h n (by omega), ih, if_pos (show k < n + 1 by omega)]; omega
    · subst z
      rw [if_neg (by omega)] at ih
      rw [cn_t h1, cn_f h0, ih, if_pos (show k < k + 1 by omega)]
    · rw [if_neg (by omega)] at ih
      rw [cn_c, cn_c, h n (by omega), ih, if_neg (show ¬ k < n + 1 by omega)]; omega
theorem cn_ex {q : Nat → Bool} {n : Nat} (h : cn_c q n < n) : ∃ j, j < n ∧ q j = false := by
  induction n with
  | zero => exact absurd h (by omega)
  | succ n ih =>
    cases z : q n
    · exact ⟨n, by omega, z⟩
    · rw [cn_t z] at h
      obtain ⟨j, hj, e⟩ := ih (by omega)
      exact ⟨j, by omega, e⟩
theorem cn_all {q : Nat → Bool} {n : Nat} (h : n ≤ cn_c q n) : ∀ j, j < n → q j = true := by
  intro j hj
  cases z : q j
  · exfalso
    have h1 := cn_f z
    have h2 := cn_le q j
    have h3 : ∀ d, cn_c q (j + 1 + d) ≤ cn_c q (j + 1) + d := by
      intro d
      induction d with
      | zero => exact Nat.le_refl _
      | succ d ih =>
        rw [show j + 1 + (d + 1) = (j + 1 + d) + 1 by omega]
        cases w : q (j + 1 + d)
        · rw [cn_f w]; omega
        · rw [cn_t w]; omega
    have h4 := h3 (n - (j + 1))
    rw [show j + 1 + (n - (j + 1)) = n by omega] at h4
    omega
  · rfl
theorem cn_filter (q : Nat → Bool) (n : Nat) : cn_c q n = ((List.range n).filter q).length := by
  induction n with
  | zero => rfl
  | succ n ih =>
    rw [List.range_succ, List.filter_append, List.length_append, ← ih, cn_c]
    cases h : q n
    · simp [h]
    · simp [h]
theorem cn_perm {L : List Nat} {q : Nat → Bool} {n : Nat} (hd : L.Nodup) (hm : ∀ a, a ∈ L ↔ a < n ∧ q a = true) : L.Perm ((List.range n).filter q) := by
  refine (List.perm_ext_iff_of_nodup hd (List.Pairwise.filter q List.nodup_range)).mpr (fun a => ?_)
  rw [hm, List.mem_filter, List.mem_range]
theorem cn_len {L : List Nat} {q : Nat → Bool} {n : Nat} (hd : L.Nodup) (hm : ∀ a, a ∈ L ↔ a < n ∧ q a = true) : L.length = cn_c q n := by
  rw [cn_filter]; exact (cn_perm hd hm).length_eq
theorem cn_cap {L : List Nat} {n : Nat} (hd : L.Nodup) (hm : ∀ a, a ∈ L → a < n) : L.length ≤ n := by
  have h := List.Nodup.length_le_of_subset (l₁ := L) (l₂ := List.range n) hd (fun a ha => List.mem_range.mpr (hm a ha))
  rw [List.length_range] at h
  exact h

/-! the order of rows: by key, then by id -/
def bf_B (K : Nat → Nat) (a b : Nat) : Prop := K a < K b ∨ (K a = K b ∧ a < b)
theorem bf_tr {K : Nat → Nat} {a b c : Nat} (h : bf_B K a b) (h' : bf_B K b c) : bf_B K a c := by
  unfold bf_B at *; omega
theorem bf_ir {K : Nat → Nat} {a : Nat} (h : bf_B K a a) : False := by
  unfold bf_B at h; omega
theorem bf_as {K : Nat → Nat} {a b : Nat} (h : bf_B K a b) (h' : bf_B K b a) : False := bf_ir (bf_tr h h')
theorem bf_tot {K : Nat → Nat} {a b : Nat} (h : ¬ bf_B K a b) (hn : a ≠ b) : bf_B K b a := by
  unfold bf_B at *; omega
theorem bf_nodup {K : Nat → Nat} {L : List Nat} (h : L.Pairwise (bf_B K)) : L.Nodup :=
  List.Pairwise.imp (fun {a b} hab e => by subst e; exact bf_ir hab) h
theorem bf_congr {K K' : Nat → Nat} {L : List Nat} (e : ∀ a, a ∈ L → K a = K' a) (h : L.Pairwise (bf_B K)) : L.Pairwise (bf_B K') :=
  List.Pairwise.imp_of_mem (fun {a b} ha hb hab => by unfold bf_B at *; rw [← e a ha, ← e b hb]; exact hab) h

/-! a stretch of a chain: from h along the ids of the list to t -/
def sg_C (nx : Nat → Int32) : Int32 → List Nat → Int32 → Prop
  | h, [], t => h = t
  | h, a :: l, t => h = nI a ∧ a < 40 ∧ sg_C nx (nx a) l t
theorem sg_app {nx : Nat → Int32} {l m : List Nat} : ∀ {h t : Int32}, sg_C nx h (l ++ m) t ↔ ∃ z, sg_C nx h l z ∧ sg_C nx z m t := by
  induction l with
  | nil =>
    intro h t
    constructor
    · intro z; exact ⟨h, rfl, z⟩
    · rintro ⟨z, rfl, w⟩; exact w
  | cons a l ih =>
    intro h t
    constructor
    · rintro ⟨e, ha, z⟩
      obtain ⟨y, y1, y2⟩ := ih.mp z
      exact ⟨y, ⟨e, ha, y1⟩, y2⟩
    · rintro ⟨y, ⟨e, ha, y1⟩, y2⟩
      exact ⟨e, ha, ih.mpr ⟨y, y1, y2⟩⟩
theorem sg_congr {nx nx' : Nat → Int32} {l : List Nat} : ∀ {h t : Int32}, (∀ a, a ∈ l → nx' a = nx a) → sg_C nx h l t → sg_C nx' h l t := by
  induction l with
  | nil => intro h t _ z; exact z
  | cons a l ih =>
    rintro h t e ⟨e1, ha, z⟩
    refine ⟨e1, ha, ?_⟩
    rw [e a (List.mem_cons_self ..)]
    exact ih (fun b hb => e b (List.mem_cons_of_mem _ hb)) z
theorem sg_nil {nx : Nat → Int32} {h t : Int32} {l : List Nat} (e : l = []) (z : sg_C nx h l t) : h = t := by
  subst e; exact z
theorem sg_end {nx : Nat → Int32} {l : List Nat} (z : sg_C nx (-1) l (-1)) : l = [] := by
  cases l with
  | nil => rfl
  | cons a l => exact absurd z.1.symm (ba_ne1 (by have := z.2.1; omega))
/-- the last id of a stretch, as a link: -1 if there is none -/
def sg_L (l : List Nat) : Int32 := l.foldl (fun _ a => nI a) (-1)
theorem sg_L0 : sg_L [] = -1 := rfl
theorem sg_L1 (l : List Nat) (a : Nat) : sg_L (l ++ [a]) = nI a := by
  unfold sg_L; rw [List.foldl_append]; rfl
/-- a list is empty or has a last one -/
theorem sg_snoc (l : List Nat) : l = [] ∨ ∃ m a, l = m ++ [a] := by
  rcases List.eq_nil_or_concat l with h | ⟨m, a, h⟩
  · exact Or.inl h
  · exact Or.inr ⟨m, a, by rw [h]; try rw [List.concat_eq_append]⟩
end
section
/-! the reference's walks: bounds, rows -/
def bq_b (f : Nat → Int32) (k : Nat) : Bool := decide (¬ f k = 0)
theorem bq_t {f : Nat → Int32} {k : Nat} : bq_b f k = true ↔ ¬ f k = 0 := decide_eq_true_iff
theorem bq_f {f : Nat → Int32} {k : Nat} : bq_b f k = false ↔ f k = 0 := by
  unfold bq_b; rw [decide_eq_false_iff_not]; exact Decidable.not_not
/-- the number of the partition of key k -/
def pa_k (bd : Nat → Int32) (k : Nat) : Nat := cn_c (bq_b bd) (k + 1) - 1
def rq_b (us bd : Nat → Int32) (K : Nat → Nat) (i a : Nat) : Bool := bq_b us a && decide (pa_k bd (K a) = i)
theorem rq_t {us bd : Nat → Int32} {K : Nat → Nat} {i a : Nat} : rq_b us bd K i a = true ↔ ¬ us a = 0 ∧ pa_k bd (K a) = i := by
  unfold rq_b; rw [Bool.and_eq_true, bq_t, decide_eq_true_iff]
theorem rq_n {us bd : Nat → Int32} {K : Nat → Nat} {i a : Nat} (h : ¬ (¬ us a = 0 ∧ pa_k bd (K a) = i)) : rq_b us bd K i a = false := by
  cases e : rq_b us bd K i a
  · rfl
  · exact absurd (rq_t.mp e) h
theorem pa_le (bd : Nat → Int32) (k : Nat) : pa_k bd k ≤ k := by
  have := cn_le (bq_b bd) (k + 1)
  unfold pa_k; omega

section
variable {ft : Int32} {us ky va bd tl th te : Nat → Int32}
theorem yp_loop {post : Int32 → Prop} {k : Nat} (hk : k < 256) (h0 : bq_b bd 0 = true) (hp : post (nI (pa_k bd k))) : ∀ (d j : Nat) (x2 : Int32), j + d = k + 1 → x2 + 1 = nI (cn_c (bq_b bd) j) → wY_part_4 post (nI k) ft us ky va bd tl th te (d + 1) x2 (nI j) := by
  intro d
  induction d with
  | zero =>
    intro j x2 hj hx
    have hlt : nI k < nI j := nI_lt (by omega) (by omega)
    have h1 : 1 ≤ cn_c (bq_b bd) j := by
      have h2 := cn_mono (bq_b bd) (show 1 ≤ j by omega)
      have h3 : cn_c (bq_b bd) 1 = 1 := cn_t (n := 0) h0
      omega
    have e : x2 = nI (pa_k bd k) := by
      have e1 : x2 = x2 + 1 - 1 := (Int32.add_sub_cancel x2 1).symm
      rw [e1, hx, ba_s h1]; unfold pa_k; rw [show j = k + 1 by omega]
    exact br_t hlt (by rw [e]; exact hp)
  | succ d ih =>
    intro j x2 hj hx
    have hlt : ¬ nI k < nI j := nI_nlt (by omega) (by omega)
    have hi : vp_in (nI j) 256 := vp_in_nI (by omega) (by omega)
    have ej : (nI j).toNatClampNeg = j := nI_clamp (by omega)
    by_cases z : bd j = 0
    · have z' : bd (nI j).toNatClampNeg = 0 := by rw [ej]; exact z
      exact br_f hlt ⟨hi, br_t z' (nm_r (nI_1 j) (ih (j + 1) x2 (by omega) (by rw [cn_f (bq_f.mpr z)]; exact hx)))⟩
    · have z' : ¬ bd (nI j).toNatClampNeg = 0 := by rw [ej]; exact z
      exact br_f hlt ⟨hi, br_f z' (nm_e (nm_r (nI_1 j) (ih (j + 1) (x2 + 1) (by omega) (by rw [cn_t (bq_t.mpr z), ← nI_1, hx]))))⟩
theorem yp_part {post : Int32 → Prop} {k : Nat} (hk : k < 256) (h0 : bq_b bd 0 = true) (hp : post (nI (pa_k bd k))) : wpY_part post (ft, us, ky, va, bd, tl, th, te) (nI k) :=
  Exists.intro (k + 1 + 1) (yp_loop hk h0 hp (k + 1) 0 (-1) (by omega) (show (-1 : Int32) + 1 = nI 0 from by decide))
theorem yp_parts {post : Int32 → Prop} {P : Nat} (hP : cn_c (bq_b bd) 256 = P) (h0 : bq_b bd 0 = true) (hp : post (nI P)) : wpY_partitions post (ft, us, ky, va, bd, tl, th, te) := by
  unfold wpY_partitions
  have h2 := cn_mono (bq_b bd) (show 1 ≤ 256 by omega)
  have h3 : cn_c (bq_b bd) 1 = 1 := cn_t (n := 0) h0
  have e : nI (pa_k bd 255) + 1 = nI P := by
    rw [nI_1]; unfold pa_k; rw [show 255 + 1 = 256 from rfl, show cn_c (bq_b bd) 256 - 1 + 1 = P by omega]
  exact yp_part (post := fun r => post (r + 1)) (k := 255) (by omega) h0 (by show post _; rw [e]; exact hp)
theorem yb_loop {post : Int32 → Prop} {x1 : Int32} (hA : ∀ k, k < 256 → bq_b bd k = true → nI (cn_c (bq_b bd) k) = x1 → post (nI k)) (hB : (∀ k, k < 256 → bq_b bd k = true → ¬ nI (cn_c (bq_b bd) k) = x1) → post (-5)) : ∀ d j : Nat, j + d = 256 → (∀ k, k < j → bq_b bd k = true → ¬ nI (cn_c (bq_b bd) k) = x1) → wY_bound_4 post x1 ft us ky va bd tl th te (d + 1) (nI (cn_c (bq_b bd) j)) (nI j) := by
  intro d
  induction d with
  | zero =>
    intro j hj h
    have hlt : (256 : Int32) ≤ nI j := nI_le (a := 256) (by omega) (by omega)
    exact br_t hlt (hB (fun k hk => h k (by omega)))
  | succ d ih =>
    intro j hj h
    have hlt : ¬ (256 : Int32) ≤ nI j := nI_ge (b := 256) (by omega) (by omega)
    have hi : vp_in (nI j) 256 := vp_in_nI (by omega) (by omega)
    have ej : (nI j).toNatClampNeg = j := nI_clamp (by omega)
    by_cases z : bd j = 0
    · have z' : bd (nI j).toNatClampNeg = 0 := by rw [ej]; exact z
      have e : cn_c (bq_b bd) (j + 1) = cn_c (bq_b bd) j := cn_f (bq_f.mpr z)
      refine br_f hlt ⟨hi, br_t z' (nm_r (nI_1 j) ?_)⟩
      have := ih (j + 1) (by omega) (lt_s h (fun w => absurd z (bq_t.mp w)))
      rw [e] at this
      exact this
    · have z' : ¬ bd (nI j).toNatClampNeg = 0 := by rw [ej]; exact z
      have e : cn_c (bq_b bd) (j + 1) = cn_c (bq_b bd) j + 1 := cn_t (bq_t.mpr z)
      refine br_f hlt ⟨hi, br_f z' (br_c (fun w => hA j (by omega) (bq_t.mpr z) w) (fun w => nm_r (nI_1 _) (nm_r (nI_1 j) ?_)))⟩
      have := ih (j + 1) (by omega) (lt_s h (fun _ => w))
      rw [e] at this
      exact this
theorem yb_bound {post : Int32 → Prop} {x1 : Int32} (hA : ∀ k, k < 256 → bq_b bd k = true → nI (cn_c (bq_b bd) k) = x1 → post (nI k)) (hB : (∀ k, k < 256 → bq_b bd k = true → ¬ nI (cn_c (bq_b bd) k) = x1) → post (-5)) : wpY_bound post (ft, us, ky, va, bd, tl, th, te) x1 :=
  Exists.intro (256 + 1) (yb_loop hA hB 256 0 (by omega) lt_0)
theorem yr_loop {post : Int32 → Prop} {i : Nat} {K : Nat → Nat} (hi : i < 300) (hK : ∀ a, ky a = nI (K a) ∧ K a < 256) (h0 : bq_b bd 0 = true) (hp : post (nI (cn_c (rq_b us bd K i) 40))) : ∀ d j : Nat, j + d = 40 → wY_rowsIn_19 post (nI i) ft us ky va bd tl th te (d + 1) (nI (cn_c (rq_b us bd K i) j)) (nI j) := by
  intro d
  induction d with
  | zero =>
    intro j hj
    have hlt : (40 : Int32) ≤ nI j := nI_le (a := 40) (by omega) (by omega)
    exact br_t hlt (by rw [show j = 40 by omega]; exact hp)
  | succ d ih =>
    intro j hj
    have hlt : ¬ (40 : Int32) ≤ nI j := nI_ge (b := 40) (by omega) (by omega)
    have hj4 : vp_in (nI j) 40 := vp_in_nI (by omega) (by omega)
    have ej : (nI j).toNatClampNeg = j := nI_clamp (by omega)
    have hn := ih (j + 1) (by omega)
    by_cases z : us j = 0
    · have z' : us (nI j).toNatClampNeg = 0 := by rw [ej]; exact z
      rw [cn_f (rq_n (fun w => w.1 z))] at hn
      exact br_f hlt ⟨hj4, br_t z' (nm_r (nI_1 j) hn)⟩
    · have z' : ¬ us (nI j).toNatClampNeg = 0 := by rw [ej]; exact z
      refine br_f hlt ⟨hj4, br_f z' ⟨hj4, ?_⟩⟩
      rw [ej, (hK j).1]
      have hp256 := pa_le bd (K j)
      have hK256 := (hK j).2
      refine yp_part (hK j).2 h0 (ba_eq (pa_k bd (K j)) i (fun w => nm_r (e' := nI (cn_c (rq_b us bd K i) j + 1)) (nI_1 _) (nm_r (nI_1 j) ?_)) (fun w => nm_r (nI_1 j) ?_))
      · rw [cn_t (rq_t.mpr ⟨z, w⟩)] at hn
        exact hn
      · rw [cn_f (rq_n (fun y => w y.2))] at hn
        exact hn
theorem yr_rows {post : Int32 → Prop} {i P : Nat} {K : Nat → Nat} (hi : i < P) (hP8 : P ≤ 256) (hP : cn_c (bq_b bd) 256 = P) (hK : ∀ a, ky a = nI (K a) ∧ K a < 256) (h0 : bq_b bd 0 = true) (hp : post (nI (cn_c (rq_b us bd K i) 40))) : wpY_rowsIn post (ft, us, ky, va, bd, tl, th, te) (nI i) := by
  unfold wpY_rowsIn
  refine br_f (nI_pos (by omega)) (yp_parts hP h0 (br_t (nI_lt hi (by omega)) (Exists.intro (40 + 1) (yr_loop (by omega) hK h0 hp 40 0 (by omega)))))
theorem yr_no {post : Int32 → Prop} {x : Int32} {P : Nat} (hP : cn_c (bq_b bd) 256 = P) (h0 : bq_b bd 0 = true) (hx : x < 0 ∨ nI P ≤ x) (hp : post (-5)) : wpY_rowsIn post (ft, us, ky, va, bd, tl, th, te) x := by
  unfold wpY_rowsIn
  by_cases h : x < 0
  · exact br_t h hp
  · exact br_f h (yp_parts hP h0 (br_f (Int32.not_lt.mpr (hx.resolve_left h)) hp))
theorem yd_loop {post : Int32 → SY → Prop} (hp : post (nI (cn_c (bq_b us) 40)) (ft, us, ky, va, bd, tl, th, te)) : ∀ d j : Nat, j + d = 40 → wY_delete_22 post ft us ky va bd tl th te (d + 1) (nI (cn_c (bq_b us) j)) (nI j) := by
  intro d
  induction d with
  | zero =>
    intro j hj
    have hlt : (40 : Int32) ≤ nI j := nI_le (a := 40) (by omega) (by omega)
    exact br_t hlt (by rw [show j = 40 by omega]; exact hp)
  | succ d ih =>
    intro j hj
    have hlt : ¬ (40 : Int32) ≤ nI j := nI_ge (b := 40) (by omega) (by omega)
    have hj4 : vp_in (nI j) 40 := vp_in_nI (by omega) (by omega)
    have ej : (nI j).toNatClampNeg = j := nI_clamp (by omega)
    have hn := ih (j + 1) (by omega)
    by_cases z : us j = 0
    · have z' : us (nI j).toNatClampNeg = 0 := by rw [ej]; exact z
      rw [cn_f (bq_f.mpr z)] at hn
      exact br_f hlt ⟨hj4, br_t z' (nm_r (nI_1 j) hn)⟩
    · have z' : ¬ us (nI j).toNatClampNeg = 0 := by rw [ej]; exact z
      rw [cn_t (bq_t.mpr z)] at hn
      exact br_f hlt ⟨hj4, br_f z' (nm_r (nI_1 _) (nm_r (nI_1 j) hn))⟩
theorem yi_loop {post : Int32 → SY → Prop} {k v : Int32} (hA : ∀ j, j < 40 → us j = 0 → (∀ i, i < j → ¬ us i = 0) → post (nI j) (ft, upd us j 1, upd ky j k, upd va j v, bd, tl, th, te)) (hB : (∀ j, j < 40 → ¬ us j = 0) → post (-2) (ft, us, ky, va, bd, tl, th, te)) : ∀ d j : Nat, j + d = 40 → (∀ i, i < j → ¬ us i = 0) → wY_insert_12 post k v ft us ky va bd tl th te (d + 1) (nI j) := by
  intro d
  induction d with
  | zero =>
    intro j hj h
    have hlt : (40 : Int32) ≤ nI j := nI_le (a := 40) (by omega) (by omega)
    exact br_t hlt (hB (fun i hi => h i (by omega)))
  | succ d ih =>
    intro j hj h
    have hlt : ¬ (40 : Int32) ≤ nI j := nI_ge (b := 40) (by omega) (by omega)
    have hj4 : vp_in (nI j) 40 := vp_in_nI (by omega) (by omega)
    have ej : (nI j).toNatClampNeg = j := nI_clamp (by omega)
    by_cases z : us j = 0
    · have z' : us (nI j).toNatClampNeg = 0 := by rw [ej]; exact z
      have hq := hA j (by omega) z h
      exact br_f hlt ⟨hj4, br_t z' ⟨hj4, nm_r (e' := upd us j 1) (by rw [ej, ba_vb1]) ⟨hj4, nm_r (e' := upd ky j k) (by rw [ej]) ⟨hj4, nm_r (e' := upd va j v) (by rw [ej]) hq⟩⟩⟩⟩
    · have z' : ¬ us (nI j).toNatClampNeg = 0 := by rw [ej]; exact z
      exact br_f hlt ⟨hj4, br_f z' (nm_r (nI_1 j) (ih (j + 1) (by omega) (lt_s h z)))⟩
/-- the rows of partition i below n are gone -/
def tr_u (us bd : Nat → Int32) (K : Nat → Nat) (i n a : Nat) : Int32 := if a < n ∧ rq_b us bd K i a = true then 0 else us a
theorem yt_loop {post : Int32 → SY → Prop} {x2 : Int32} {i : Nat} {K : Nat → Nat} (hi : i < 300) (hK : ∀ a, ky a = nI (K a) ∧ K a < 256) (h0 : bq_b bd 0 = true) (hp : post x2 (ft, tr_u us bd K i 40, ky, va, bd, tl, th, te)) : ∀ d j : Nat, j + d = 40 → wY_truncate_23 post (nI i) x2 ft (d + 1) (nI j) (tr_u us bd K i j) ky va bd tl th te := by
  intro d
  induction d with
  | zero =>
    intro j hj
    have hlt : (40 : Int32) ≤ nI j := nI_le (a := 40) (by omega) (by omega)
    exact br_t hlt (by rw [show j = 40 by omega]; exact hp)
  | succ d ih =>
    intro j hj
    have hlt : ¬ (40 : Int32) ≤ nI j := nI_ge (b := 40) (by omega) (by omega)
    have hj4 : vp_in (nI j) 40 := vp_in_nI (by omega) (by omega)
    have ej : (nI j).toNatClampNeg = j := nI_clamp (by omega)
    have hn := ih (j + 1) (by omega)
    have ejj : tr_u us bd K i j j = us j := if_neg (fun w => absurd w.1 (by omega))
    have same : ¬ (¬ us j = 0 ∧ pa_k bd (K j) = i) → tr_u us bd K i (j + 1) = tr_u us bd K i j := by
      intro w
      funext a
      unfold tr_u
      by_cases e : a = j
      · subst e
        rw [if_neg (fun y => w (rq_t.mp y.2)), if_neg (fun y => w (rq_t.mp y.2))]
      · by_cases c : a < j ∧ rq_b us bd K i a = true
        · rw [if_pos c, if_pos ⟨by omega, c.2⟩]
        · rw [if_neg c, if_neg (fun y => c ⟨by omega, y.2⟩)]
    by_cases z : us j = 0
    · have z' : tr_u us bd K i j (nI j).toNatClampNeg = 0 := by rw [ej, ejj]; exact z
      rw [same (fun w => w.1 z)] at hn
      exact br_f hlt ⟨hj4, br_t z' (nm_r (nI_1 j) hn)⟩
    · have z' : ¬ tr_u us bd K i j (nI j).toNatClampNeg = 0 := by rw [ej, ejj]; exact z
      refine br_f hlt ⟨hj4, br_f z' ⟨hj4, ?_⟩⟩
      rw [show ky (nI j).toNatClampNeg = nI (K j) by rw [ej]; exact (hK j).1]
      have hp256 := pa_le bd (K j)
      have hK256 := (hK j).2
      refine yp_part (hK j).2 h0 (ba_eq (pa_k bd (K j)) i (fun w => ⟨hj4, nm_r (e' := tr_u us bd K i (j + 1)) ?_ (nm_r (nI_1 j) hn)⟩) (fun w => nm_r (nI_1 j) ?_))
      · rw [ej, ba_vb0]
        funext a
        by_cases e : a = j
        · subst e
          rw [ba_us]
          exact (if_pos ⟨by omega, rq_t.mpr ⟨z, w⟩⟩).symm
        · rw [ba_un e]
          unfold tr_u
          by_cases c : a < j ∧ rq_b us bd K i a = true
          · rw [if_pos c, if_pos ⟨by omega, c.2⟩]
          · rw [if_neg c, if_neg (fun y => c ⟨by omega, y.2⟩)]
      · rw [same (fun y => w y.2)] at hn
        exact hn
end
end
section
/-! the reference's walks: the query -/
def ft_b (tl th te : Nat → Int32) (k v : Int32) : Nat → Bool
  | 0 => false
  | t + 1 => ft_b tl th te k v t || (decide (tl t ≤ k) && decide (k ≤ th t) && decide (te t ≤ v))
theorem ft_iff {tl th te : Nat → Int32} {k v : Int32} (T : Nat) : ft_b tl th te k v T = true ↔ ∃ t, t < T ∧ tl t ≤ k ∧ k ≤ th t ∧ te t ≤ v := by
  induction T with
  | zero =>
    constructor
    · intro h; exact absurd h Bool.false_ne_true
    · rintro ⟨t, ht, _⟩; exact absurd ht (by omega)
  | succ T ih =>
    rw [ft_b, Bool.or_eq_true, ih, Bool.and_eq_true, Bool.and_eq_true, decide_eq_true_iff, decide_eq_true_iff, decide_eq_true_iff]
    constructor
    · rintro (⟨t, h, r⟩ | ⟨⟨h1, h2⟩, h3⟩)
      · exact ⟨t, by omega, r⟩
      · exact ⟨T, by omega, h1, h2, h3⟩
    · rintro ⟨t, ht, r⟩
      by_cases e : t = T
      · subst e; exact Or.inr ⟨⟨r.1, r.2.1⟩, r.2.2⟩
      · exact Or.inl ⟨t, by omega, r⟩
def fq_b (us ky va tl th te : Nat → Int32) (T a : Nat) : Bool := bq_b us a && ft_b tl th te (ky a) (va a) T
theorem fq_t {us ky va tl th te : Nat → Int32} {T a : Nat} : fq_b us ky va tl th te T a = true ↔ ¬ us a = 0 ∧ ∃ t, t < T ∧ tl t ≤ ky a ∧ ky a ≤ th t ∧ te t ≤ va a := by
  unfold fq_b; rw [Bool.and_eq_true, bq_t, ft_iff]
theorem fq_n {us ky va tl th te : Nat → Int32} {T a : Nat} (h : ¬ (¬ us a = 0 ∧ ∃ t, t < T ∧ tl t ≤ ky a ∧ ky a ≤ th t ∧ te t ≤ va a)) : fq_b us ky va tl th te T a = false := by
  cases e : fq_b us ky va tl th te T a
  · rfl
  · exact absurd (fq_t.mp e) h
def bb_b (K : Nat → Nat) (a b : Nat) : Bool := decide (K a < K b) || (decide (K a = K b) && decide (a < b))
theorem bb_t {K : Nat → Nat} {a b : Nat} : bb_b K a b = true ↔ bf_B K a b := by
  unfold bb_b bf_B; rw [Bool.or_eq_true, Bool.and_eq_true, decide_eq_true_iff, decide_eq_true_iff, decide_eq_true_iff]
/-- a row that fits and stands before x -/
def pq_b (q : Nat → Bool) (K : Nat → Nat) (x a : Nat) : Bool := q a && bb_b K a x
theorem pq_t {q : Nat → Bool} {K : Nat → Nat} {x a : Nat} : pq_b q K x a = true ↔ q a = true ∧ bf_B K a x := by
  unfold pq_b; rw [Bool.and_eq_true, bb_t]
theorem pq_n {q : Nat → Bool} {K : Nat → Nat} {x a : Nat} (h : ¬ (q a = true ∧ bf_B K a x)) : pq_b q K x a = false := by
  cases e : pq_b q K x a
  · rfl
  · exact absurd (pq_t.mp e) h
/-- the sum of the values at which q holds -/
def sm_s (q : Nat → Bool) (va : Nat → Int32) : Nat → Int32
  | 0 => 0
  | n + 1 => if q n = true then sm_s q va n + va n else sm_s q va n
theorem sm_t {q : Nat → Bool} {va : Nat → Int32} {n : Nat} (h : q n = true) : sm_s q va (n + 1) = sm_s q va n + va n := by
  rw [sm_s, if_pos h]
theorem sm_f {q : Nat → Bool} {va : Nat → Int32} {n : Nat} (h : q n = false) : sm_s q va (n + 1) = sm_s q va n := by
  rw [sm_s, if_neg (by rw [h]; decide)]
/-- pairs of equal keys in a list -/
def pr_p (K : Nat → Nat) : List Nat → Nat
  | [] => 0
  | a :: l => l.countP (fun b => decide (K a = K b)) + pr_p K l
/-- a row that fits in partition i -/
def gq_b (q : Nat → Bool) (bd : Nat → Int32) (K : Nat → Nat) (i a : Nat) : Bool := q a && decide (pa_k bd (K a) = i)
theorem gq_t {q : Nat → Bool} {bd : Nat → Int32} {K : Nat → Nat} {i a : Nat} : gq_b q bd K i a = true ↔ q a = true ∧ pa_k bd (K a) = i := by
  unfold gq_b; rw [Bool.and_eq_true, decide_eq_true_iff]
theorem gq_n {q : Nat → Bool} {bd : Nat → Int32} {K : Nat → Nat} {i a : Nat} (h : ¬ (q a = true ∧ pa_k bd (K a) = i)) : gq_b q bd K i a = false := by
  cases e : gq_b q bd K i a
  · rfl
  · exact absurd (gq_t.mp e) h
/-- some row that fits lies in partition i -/
def tq_b (q : Nat → Bool) (bd : Nat → Int32) (K : Nat → Nat) (i : Nat) : Bool := decide (¬ cn_c (gq_b q bd K i) 40 = 0)

section
variable {ft : Int32} {us ky va bd tl th te : Nat → Int32}
theorem yf_loop {post : Int32 → Prop} {T a : Nat} (hT : T ≤ 4) (ha : a < 40) (h1 : fq_b us ky va tl th te T a = true → post 1) (h0 : fq_b us ky va tl th te T a = false → post 0) : ∀ d j : Nat, j + d = T → (∀ t, t < j → ¬ (¬ us a = 0 ∧ tl t ≤ ky a ∧ ky a ≤ th t ∧ te t ≤ va a)) → wY_fits_2 post (nI a) (nI T) us ky va bd tl th te (d + 1) (nI j) := by
  intro d
  have ia : vp_in (nI a) 40 := vp_in_nI ha (by omega)
  have ea : (nI a).toNatClampNeg = a := nI_clamp (by omega)
  induction d with
  | zero =>
    intro j hj h
    have hlt : nI T ≤ nI j := nI_le (by omega) (by omega)
    exact br_t hlt (h0 (fq_n (fun ⟨w, t, ht, r⟩ => h t (by omega) ⟨w, r⟩)))
  | succ d ih =>
    intro j hj h
    have hlt : ¬ nI T ≤ nI j := nI_ge (by omega) (by omega)
    have ij : vp_in (nI j) 4 := vp_in_nI (by omega) (by omega)
    have ej : (nI j).toNatClampNeg = j := nI_clamp (by omega)
    by_cases z : us a = 0
    · have z' : us (nI a).toNatClampNeg = 0 := by rw [ea]; exact z
      exact br_f hlt ⟨ia, br_t z' (nm_r (nI_1 j) (ih (j + 1) (by omega) (lt_s h (fun w => w.1 z))))⟩
    · have z' : ¬ us (nI a).toNatClampNeg = 0 := by rw [ea]; exact z
      refine br_f hlt ⟨ia, br_f z' ⟨ij, ia, ?_⟩⟩
      rw [ea, ej]
      by_cases c1 : ky a < tl j
      · exact br_t c1 (nm_r (nI_1 j) (ih (j + 1) (by omega) (lt_s h (fun w => Int32.not_lt.mpr w.2.1 c1))))
      · refine br_f c1 ⟨ia, ij, ?_⟩
        by_cases c2 : th j < ky a
        · exact br_t c2 (nm_r (nI_1 j) (ih (j + 1) (by omega) (lt_s h (fun w => Int32.not_lt.mpr w.2.2.1 c2))))
        · refine br_f c2 ⟨ia, ij, ?_⟩
          by_cases c3 : va a < te j
          · exact br_t c3 (nm_r (nI_1 j) (ih (j + 1) (by omega) (lt_s h (fun w => Int32.not_lt.mpr w.2.2.2 c3))))
          · exact br_f c3 (h1 (fq_t.mpr ⟨z, j, by omega, Int32.not_lt.mp c1, Int32.not_lt.mp c2, Int32.not_lt.mp c3⟩))
theorem yf_fits {post : Int32 → Prop} {T a : Nat} (hT : T ≤ 4) (ha : a < 40) (h1 : fq_b us ky va tl th te T a = true → post 1) (h0 : fq_b us ky va tl th te T a = false → post 0) : wpY_fits post (nI T, us, ky, va, bd, tl, th, te) (nI a) :=
  Exists.intro (T + 1) (yf_loop hT ha h1 h0 T 0 (by omega) lt_0)
theorem yc_loop {post : Int32 → Prop} {T : Nat} (hT : T ≤ 4) (hp : post (nI (cn_c (fq_b us ky va tl th te T) 40))) : ∀ d j : Nat, j + d = 40 → wY_count_4 post (nI T) us ky va bd tl th te (d + 1) (nI (cn_c (fq_b us ky va tl th te T) j)) (nI j) := by
  intro d
  induction d with
  | zero =>
    intro j hj
    have hlt : (40 : Int32) ≤ nI j := nI_le (a := 40) (by omega) (by omega)
    exact br_t hlt (by rw [show j = 40 by omega]; exact hp)
  | succ d ih =>
    intro j hj
    have hlt : ¬ (40 : Int32) ≤ nI j := nI_ge (b := 40) (by omega) (by omega)
    have hn := ih (j + 1) (by omega)
    refine br_f hlt (yf_fits hT (by omega) (fun z => br_f ba_10 (nm_r (nI_1 _) (nm_r (nI_1 j) ?_))) (fun z => br_t rfl (nm_r (nI_1 j) ?_)))
    · rw [cn_t z] at hn; exact hn
    · rw [cn_f z] at hn; exact hn
theorem yc_count {post : Int32 → Prop} {T : Nat} (hT : T ≤ 4) (hp : post (nI (cn_c (fq_b us ky va tl th te T) 40))) : wpY_count post (nI T, us, ky, va, bd, tl, th, te) :=
  Exists.intro (40 + 1) (yc_loop hT hp 40 0 (by omega))
theorem ys_loop {post : Int32 → Prop} {T : Nat} (hT : T ≤ 4) (hp : post (sm_s (fq_b us ky va tl th te T) va 40)) : ∀ d j : Nat, j + d = 40 → wY_sum_4 post (nI T) us ky va bd tl th te (d + 1) (sm_s (fq_b us ky va tl th te T) va j) (nI j) := by
  intro d
  induction d with
  | zero =>
    intro j hj
    have hlt : (40 : Int32) ≤ nI j := nI_le (a := 40) (by omega) (by omega)
    exact br_t hlt (by rw [show j = 40 by omega]; exact hp)
  | succ d ih =>
    intro j hj
    have hlt : ¬ (40 : Int32) ≤ nI j := nI_ge (b := 40) (by omega) (by omega)
    have hj4 : vp_in (nI j) 40 := vp_in_nI (by omega) (by omega)
    have ej : (nI j).toNatClampNeg = j := nI_clamp (by omega)
    have hn := ih (j + 1) (by omega)
    refine br_f hlt (yf_fits hT (by omega) (fun z => br_f ba_10 ⟨hj4, nm_r (e' := sm_s (fq_b us ky va tl th te T) va (j + 1)) (by rw [ej, sm_t z]) (nm_r (nI_1 j) hn)⟩) (fun z => br_t rfl (nm_r (nI_1 j) ?_)))
    rw [sm_f z] at hn; exact hn
theorem ys_sum {post : Int32 → Prop} {T : Nat} (hT : T ≤ 4) (hp : post (sm_s (fq_b us ky va tl th te T) va 40)) : wpY_sum post (nI T, us, ky, va, bd, tl, th, te) :=
  Exists.intro (40 + 1) (ys_loop hT hp 40 0 (by omega))
theorem yl_loop {post : Int32 → Prop} {T x : Nat} {K : Nat → Nat} (hT : T ≤ 4) (hx : x < 40) (hK : ∀ a, ky a = nI (K a) ∧ K a < 256) (hp : post (nI (cn_c (pq_b (fq_b us ky va tl th te T) K x) 40))) : ∀ d j : Nat, j + d = 40 → wY_place_4 post (nI x) (nI T) us ky va bd tl th te (d + 1) (nI (cn_c (pq_b (fq_b us ky va tl th te T) K x) j)) (nI j) := by
  intro d
  have ix : vp_in (nI x) 40 := vp_in_nI hx (by omega)
  have ex : (nI x).toNatClampNeg = x := nI_clamp (by omega)
  induction d with
  | zero =>
    intro j hj
    have hlt : (40 : Int32) ≤ nI j := nI_le (a := 40) (by omega) (by omega)
    exact br_t hlt (by rw [show j = 40 by omega]; exact hp)
  | succ d ih =>
    intro j hj
    have hlt : ¬ (40 : Int32) ≤ nI j := nI_ge (b := 40) (by omega) (by omega)
    have hj4 : vp_in (nI j) 40 := vp_in_nI (by omega) (by omega)
    have ej : (nI j).toNatClampNeg = j := nI_clamp (by omega)
    have hn := ih (j + 1) (by omega)
    have kj := (hK j).2
    have kx := (hK x).2
    have ekj : ky (nI j).toNatClampNeg = nI (K j) := by rw [ej]; exact (hK j).1
    have ekx : ky (nI x).toNatClampNeg = nI (K x) := by rw [ex]; exact (hK x).1
    refine br_f hlt (yf_fits hT (by omega) (fun z => br_f ba_10 ⟨hj4, ix, ?_⟩) (fun z => br_t rfl (nm_r (nI_1 j) ?_)))
    · rw [ekj, ekx]
      refine ba_lt (K j) (K x) (fun w => nm_r (nI_1 _) (nm_r (nI_1 j) ?_)) (fun w => ⟨hj4, ix, ba_eq (K j) (K x) (fun y => ba_le x j (fun v => nm_r (nI_1 j) ?_) (fun v => nm_r (nI_1 _) (nm_r (nI_1 j) ?_))) (fun y => nm_r (nI_1 j) ?_)⟩)
      · rw [cn_t (pq_t.mpr ⟨z, Or.inl w⟩)] at hn; exact hn
      · rw [cn_f (pq_n (fun u => by have := u.2; unfold bf_B at this; omega))] at hn; exact hn
      · rw [cn_t (pq_t.mpr ⟨z, Or.inr ⟨y, v⟩⟩)] at hn; exact hn
      · rw [cn_f (pq_n (fun u => by have := u.2; unfold bf_B at this; omega))] at hn; exact hn
    · rw [cn_f (pq_n (fun u => by have := u.1; rw [z] at this; exact absurd this (by decide)))] at hn; exact hn
theorem yl_place {post : Int32 → Prop} {T x : Nat} {K : Nat → Nat} (hT : T ≤ 4) (hx : x < 40) (hK : ∀ a, ky a = nI (K a) ∧ K a < 256) (hp : post (nI (cn_c (pq_b (fq_b us ky va tl th te T) K x) 40))) : wpY_place post (nI T, us, ky, va, bd, tl, th, te) (nI x) :=
  Exists.intro (40 + 1) (yl_loop hT hx hK hp 40 0 (by omega))
theorem ym_loop {post : Int32 → Prop} {T : Nat} {K : Nat → Nat} {x1 : Int32} (hT : T ≤ 4) (hK : ∀ a, ky a = nI (K a) ∧ K a < 256)
    (hA : ∀ x, x < 40 → fq_b us ky va tl th te T x = true → nI (cn_c (pq_b (fq_b us ky va tl th te T) K x) 40) = x1 → post (nI x))
    (hB : (∀ x, x < 40 → fq_b us ky va tl th te T x = true → ¬ nI (cn_c (pq_b (fq_b us ky va tl th te T) K x) 40) = x1) → post (-3)) : ∀ d j : Nat, j + d = 40 → (∀ x, x < j → fq_b us ky va tl th te T x = true → ¬ nI (cn_c (pq_b (fq_b us ky va tl th te T) K x) 40) = x1) → wY_match_2 post x1 (nI T) us ky va bd tl th te (d + 1) (nI j) := by
  intro d
  induction d with
  | zero =>
    intro j hj h
    have hlt : (40 : Int32) ≤ nI j := nI_le (a := 40) (by omega) (by omega)
    exact br_t hlt (hB (fun x hx => h x (by omega)))
  | succ d ih =>
    intro j hj h
    have hlt : ¬ (40 : Int32) ≤ nI j := nI_ge (b := 40) (by omega) (by omega)
    refine br_f hlt (yf_fits hT (by omega) (fun z => br_f ba_10 (yl_place hT (by omega) hK (br_c (fun w => hA j (by omega) z w) (fun w => nm_r (nI_1 j) (ih (j + 1) (by omega) (lt_s h (fun _ => w))))))) (fun z => br_t rfl (nm_r (nI_1 j) (ih (j + 1) (by omega) (lt_s h (fun y => ?_))))))
    rw [z] at y; exact absurd y (by decide)
theorem ym_match {post : Int32 → Prop} {T : Nat} {K : Nat → Nat} {x1 : Int32} (hT : T ≤ 4) (hK : ∀ a, ky a = nI (K a) ∧ K a < 256)
    (hA : ∀ x, x < 40 → fq_b us ky va tl th te T x = true → nI (cn_c (pq_b (fq_b us ky va tl th te T) K x) 40) = x1 → post (nI x))
    (hB : (∀ x, x < 40 → fq_b us ky va tl th te T x = true → ¬ nI (cn_c (pq_b (fq_b us ky va tl th te T) K x) 40) = x1) → post (-3)) : wpY_match post (nI T, us, ky, va, bd, tl, th, te) x1 :=
  Exists.intro (40 + 1) (ym_loop hT hK hA hB 40 0 (by omega) lt_0)
theorem yq_loop {post : Int32 → Prop} {J : Int32 → Int32 → Prop} {T x : Nat} {K : Nat → Nat} (hT : T ≤ 4) (hx : x < 40) (hK : ∀ a, ky a = nI (K a) ∧ K a < 256) : ∀ d j c : Nat, j + d = 40 → J (nI (c + (List.range' j d).countP (fun y => decide (K x = K y) && (fq_b us ky va tl th te T x && fq_b us ky va tl th te T y)))) (nI (x + 1)) → wY_pairs_14 post J (nI x) (nI T) us ky va bd tl th te (d + 1) (nI c) (nI j) := by
  intro d
  have ix : vp_in (nI x) 40 := vp_in_nI hx (by omega)
  have ex : (nI x).toNatClampNeg = x := nI_clamp (by omega)
  induction d with
  | zero =>
    intro j c hj hp
    have hlt : (40 : Int32) ≤ nI j := nI_le (a := 40) (by omega) (by omega)
    exact br_t hlt (nm_r (nI_1 x) hp)
  | succ d ih =>
    intro j c hj hp
    have hlt : ¬ (40 : Int32) ≤ nI j := nI_ge (b := 40) (by omega) (by omega)
    have hj4 : vp_in (nI j) 40 := vp_in_nI (by omega) (by omega)
    have ej : (nI j).toNatClampNeg = j := nI_clamp (by omega)
    have kj := (hK j).2
    have kx := (hK x).2
    rw [List.range'_succ, List.countP_cons] at hp
    refine br_f hlt ⟨ix, hj4, ?_⟩
    rw [ej, ex, (hK j).1, (hK x).1]
    refine ba_eq (K x) (K j) (fun w => yf_fits hT hx (fun z => br_f ba_10 (yf_fits hT (by omega) (fun y => br_f ba_10 (nm_r (nI_1 c) (nm_r (nI_1 j) (ih (j + 1) (c + 1) (by omega) ?_)))) (fun y => br_t rfl (nm_r (nI_1 j) (ih (j + 1) c (by omega) ?_))))) (fun z => br_t rfl (nm_r (nI_1 j) (ih (j + 1) c (by omega) ?_)))) (fun w => nm_r (nI_1 j) (ih (j + 1) c (by omega) ?_))
    · rw [if_pos (by rw [z, y, decide_eq_true w]; rfl)] at hp
      rw [show c + 1 + (List.range' (j + 1) d).countP (fun y => decide (K x = K y) && (fq_b us ky va tl th te T x && fq_b us ky va tl th te T y)) = c + ((List.range' (j + 1) d).countP (fun y => decide (K x = K y) && (fq_b us ky va tl th te T x && fq_b us ky va tl th te T y)) + 1) by omega]
      exact hp
    · rw [if_neg (by rw [y, Bool.and_false, Bool.and_false]; decide), Nat.add_zero] at hp
      exact hp
    · rw [if_neg (by rw [z, Bool.false_and, Bool.and_false]; decide), Nat.add_zero] at hp
      exact hp
    · rw [if_neg (by rw [decide_eq_false w, Bool.false_and]; decide), Nat.add_zero] at hp
      exact hp
theorem yq_outer {post : Int32 → Prop} {T : Nat} {K : Nat → Nat} (hT : T ≤ 4) (hK : ∀ a, ky a = nI (K a) ∧ K a < 256) : ∀ d j c : Nat, j + d = 40 → post (nI (c + pr_p K ((List.range' j d).filter (fq_b us ky va tl th te T)))) → wY_pairs_4 post (nI T) us ky va bd tl th te (d + 1) (nI c) (nI j) := by
  intro d
  induction d with
  | zero =>
    intro j c hj hp
    have hlt : (40 : Int32) ≤ nI j := nI_le (a := 40) (by omega) (by omega)
    exact br_t hlt hp
  | succ d ih =>
    intro j c hj hp
    have hlt : ¬ (40 : Int32) ≤ nI j := nI_ge (b := 40) (by omega) (by omega)
    refine br_f hlt (nm_r (nI_1 j) (Exists.intro (d + 1) (yq_loop hT (by omega) hK d (j + 1) c (by omega) (ih (j + 1) _ (by omega) ?_))))
    rw [List.range'_succ] at hp
    cases z : fq_b us ky va tl th te T j
    · rw [List.filter_cons_of_neg (by rw [z]; decide)] at hp
      rw [List.countP_eq_zero.mpr (by intro a _; rw [Bool.false_and, Bool.and_false]; decide), Nat.add_zero]
      exact hp
    · rw [List.filter_cons_of_pos z, pr_p, List.countP_filter] at hp
      rw [Nat.add_assoc]
      exact hp
theorem yq_pairs {post : Int32 → Prop} {T : Nat} {K : Nat → Nat} (hT : T ≤ 4) (hK : ∀ a, ky a = nI (K a) ∧ K a < 256) (hp : post (nI (pr_p K ((List.range 40).filter (fq_b us ky va tl th te T))))) : wpY_pairs post (nI T, us, ky, va, bd, tl, th, te) := by
  refine Exists.intro (40 + 1) (yq_outer hT hK 40 0 0 (by omega) ?_)
  rw [Nat.zero_add, ← List.range_eq_range']
  exact hp
theorem yt_in {post : Int32 → Prop} {J : Int32 → Int32 → Prop} {T i c : Nat} {K : Nat → Nat} (hT : T ≤ 4) (hi : i < 8) (hK : ∀ a, ky a = nI (K a) ∧ K a < 256) (h0 : bq_b bd 0 = true)
    (h1 : tq_b (fq_b us ky va tl th te T) bd K i = true → J (nI (c + 1)) (nI (i + 1))) (h2 : tq_b (fq_b us ky va tl th te T) bd K i = false → J (nI c) (nI (i + 1))) : ∀ (d j : Nat) (x3 : Int32), j + d = 40 → (x3 = 0 ↔ cn_c (gq_b (fq_b us ky va tl th te T) bd K i) j = 0) → wY_touched_15 post J (nI c) (nI i) (nI T) us ky va bd tl th te (d + 1) x3 (nI j) := by
  intro d
  induction d with
  | zero =>
    intro j x3 hj hx
    have hlt : (40 : Int32) ≤ nI j := nI_le (a := 40) (by omega) (by omega)
    rw [show j = 40 by omega] at hx
    refine br_t hlt (br_c (fun z => nm_r (nI_1 i) (h2 ?_)) (fun z => nm_r (nI_1 c) (nm_r (nI_1 i) (h1 ?_))))
    · unfold tq_b; rw [decide_eq_false_iff_not]; exact fun w => w (hx.mp z)
    · unfold tq_b; rw [decide_eq_true_iff]; exact fun w => z (hx.mpr w)
  | succ d ih =>
    intro j x3 hj hx
    have hlt : ¬ (40 : Int32) ≤ nI j := nI_ge (b := 40) (by omega) (by omega)
    have hj4 : vp_in (nI j) 40 := vp_in_nI (by omega) (by omega)
    have ej : (nI j).toNatClampNeg = j := nI_clamp (by omega)
    have hp256 := pa_le bd (K j)
    have hK256 := (hK j).2
    refine br_f hlt (yf_fits hT (by omega) (fun z => br_f ba_10 ⟨hj4, ?_⟩) (fun z => br_t rfl (nm_r (nI_1 j) (ih (j + 1) x3 (by omega) ?_))))
    · rw [ej, (hK j).1]
      refine yp_part (hK j).2 h0 (ba_eq (pa_k bd (K j)) i (fun w => nm_r (nI_1 j) (ih (j + 1) 1 (by omega) ?_)) (fun w => nm_r (nI_1 j) (ih (j + 1) x3 (by omega) ?_)))
      · rw [cn_t (gq_t.mpr ⟨z, w⟩)]
        exact ⟨fun e => absurd e ba_10, fun e => absurd e (by omega)⟩
      · rw [cn_f (gq_n (fun y => w y.2))]
        exact hx
    · rw [cn_f (gq_n (fun y => by have := y.1; rw [z] at this; exact absurd this (by decide)))]
      exact hx
theorem yt_outer {post : Int32 → Prop} {T : Nat} {K : Nat → Nat} (hT : T ≤ 4) (hK : ∀ a, ky a = nI (K a) ∧ K a < 256) (h0 : bq_b bd 0 = true) (hp : post (nI (cn_c (tq_b (fq_b us ky va tl th te T) bd K) 8))) : ∀ d j : Nat, j + d = 8 → wY_touched_4 post (nI T) us ky va bd tl th te (d + 1) (nI (cn_c (tq_b (fq_b us ky va tl th te T) bd K) j)) (nI j) := by
  intro d
  induction d with
  | zero =>
    intro j hj
    have hlt : (8 : Int32) ≤ nI j := nI_le (a := 8) (by omega) (by omega)
    exact br_t hlt (by rw [show j = 8 by omega]; exact hp)
  | succ d ih =>
    intro j hj
    have hlt : ¬ (8 : Int32) ≤ nI j := nI_ge (b := 8) (by omega) (by omega)
    have hn := ih (j + 1) (by omega)
    refine br_f hlt (Exists.intro (40 + 1) (yt_in hT (by omega) hK h0 (fun z => ?_) (fun z => ?_) 40 0 0 (by omega) ⟨fun _ => rfl, fun _ => rfl⟩))
    · rw [cn_t z] at hn; exact hn
    · rw [cn_f z] at hn; exact hn
theorem yt_touched {post : Int32 → Prop} {T : Nat} {K : Nat → Nat} (hT : T ≤ 4) (hK : ∀ a, ky a = nI (K a) ∧ K a < 256) (h0 : bq_b bd 0 = true) (hp : post (nI (cn_c (tq_b (fq_b us ky va tl th te T) bd K) 8))) : wpY_touched post (nI T, us, ky, va, bd, tl, th, te) :=
  Exists.intro (8 + 1) (yt_outer hT hK h0 hp 8 0 (by omega))
end
end
section
/-! lists against counts: places, sums, pairs -/
theorem pl_idx {K : Nat → Nat} {A B : List Nat} {x : Nat} (h : (A ++ x :: B).Pairwise (bf_B K)) : (A ++ x :: B).countP (fun a => bb_b K a x) = A.length := by
  obtain ⟨h1, h2, h3⟩ := List.pairwise_append.mp h
  have h4 := (List.pairwise_cons.mp h2).1
  have e1 : A.countP (fun a => bb_b K a x) = A.length := List.countP_eq_length.mpr (fun a ha => bb_t.mpr (h3 a ha x (List.mem_cons_self ..)))
  have e2 : (x :: B).countP (fun a => bb_b K a x) = 0 := List.countP_eq_zero.mpr (fun b hb w => by
    rcases List.mem_cons.mp hb with hb | hb
    · rw [hb] at w; exact bf_ir (bb_t.mp w)
    · exact bf_as (h4 b hb) (bb_t.mp w))
  rw [List.countP_append, e1, e2, Nat.add_zero]
theorem pl_cn {H : List Nat} {q : Nat → Bool} (K : Nat → Nat) (hd : H.Nodup) (hm : ∀ a, a ∈ H ↔ a < 40 ∧ q a = true) (x : Nat) : cn_c (pq_b q K x) 40 = H.countP (fun a => bb_b K a x) := by
  rw [cn_filter, ← List.countP_eq_length_filter, (cn_perm hd hm).countP_eq, List.countP_filter]
  refine List.countP_congr (fun a _ => ?_)
  unfold pq_b
  rw [Bool.and_comm]
theorem pl_at {H : List Nat} {q : Nat → Bool} {K : Nat → Nat} (hs : H.Pairwise (bf_B K)) (hm : ∀ a, a ∈ H ↔ a < 40 ∧ q a = true) {A B : List Nat} {x : Nat} (e : H = A ++ x :: B) : cn_c (pq_b q K x) 40 = A.length := by
  rw [pl_cn K (bf_nodup hs) hm x, e]
  exact pl_idx (e ▸ hs)
theorem sm_list (q : Nat → Bool) (va : Nat → Int32) (n : Nat) : sm_s q va n = ((List.range n).filter q).foldl (fun s a => s + va a) 0 := by
  induction n with
  | zero => rfl
  | succ n ih =>
    rw [List.range_succ, List.filter_append, List.foldl_append, ← ih]
    cases h : q n
    · rw [sm_f h, List.filter_cons_of_neg (by rw [h]; decide)]; rfl
    · rw [sm_t h, List.filter_cons_of_pos h]; rfl
theorem sm_perm {H : List Nat} {q : Nat → Bool} (va : Nat → Int32) (hd : H.Nodup) (hm : ∀ a, a ∈ H ↔ a < 40 ∧ q a = true) : H.foldl (fun s a => s + va a) 0 = sm_s q va 40 := by
  rw [sm_list]
  refine List.Perm.foldl_eq' (cn_perm hd hm) (fun x _ y _ z => ?_) 0
  rw [Int32.add_assoc, Int32.add_assoc, Int32.add_comm (va x)]
theorem pr_perm {K : Nat → Nat} {l m : List Nat} (h : l.Perm m) : pr_p K l = pr_p K m := by
  induction h with
  | nil => rfl
  | cons x h ih => rw [pr_p, pr_p, ih, h.countP_eq]
  | swap x y l =>
    simp only [pr_p, List.countP_cons]
    have e : (if decide (K x = K y) = true then 1 else 0) = (if decide (K y = K x) = true then 1 else 0) := by
      by_cases c : K x = K y
      · rw [if_pos (decide_eq_true c), if_pos (decide_eq_true c.symm)]
      · rw [if_neg (by rw [decide_eq_false c]; decide), if_neg (by rw [decide_eq_false (fun z => c z.symm)]; decide)]
    omega
  | trans _ _ ih1 ih2 => exact ih1.trans ih2
theorem pr_snoc (K : Nat → Nat) (A : List Nat) (b : Nat) : pr_p K (A ++ [b]) = pr_p K A + A.countP (fun a => decide (K b = K a)) := by
  rw [pr_perm (List.perm_append_comm (l₁ := A) (l₂ := [b]))]
  show pr_p K (b :: A) = _
  rw [pr_p, Nat.add_comm]
/-- the rows of a run of equal keys, when one more comes -/
theorem pr_same {K : Nat → Nat} {A : List Nat} {a b : Nat} (e : K b = K a) : (A ++ [a]).countP (fun c => decide (K b = K c)) = A.countP (fun c => decide (K a = K c)) + 1 := by
  have e1 : [a].countP (fun c => decide (K a = K c)) = 1 := List.countP_eq_length.mpr (fun c hc => by rw [List.mem_singleton.mp hc]; exact decide_eq_true rfl)
  rw [List.countP_append, e, e1]
theorem pr_diff {K : Nat → Nat} {A B : List Nat} {a b : Nat} (h : ((A ++ [a]) ++ b :: B).Pairwise (bf_B K)) (e : ¬ K b = K a) : (A ++ [a]).countP (fun c => decide (K b = K c)) = 0 := by
  obtain ⟨h1, _, h3⟩ := List.pairwise_append.mp h
  obtain ⟨_, _, h4⟩ := List.pairwise_append.mp h1
  have hab := h3 a (List.mem_append.mpr (Or.inr (List.mem_cons_self ..))) b (List.mem_cons_self ..)
  refine List.countP_eq_zero.mpr (fun c hc w => ?_)
  have w' := of_decide_eq_true w
  rcases List.mem_append.mp hc with hc | hc
  · have := h4 c hc a (List.mem_cons_self ..)
    unfold bf_B at this hab
    omega
  · rw [List.mem_singleton.mp hc] at w'
    exact e w'

/-! changes of a chain -/
theorem sg_ins0 {nx : Nat → Int32} {h : Int32} {B : List Nat} {x : Nat} (hx : x < 40) (hB : sg_C nx h B (-1)) (hn : x ∉ B) : sg_C (upd nx x h) (nI x) (x :: B) (-1) := by
  refine ⟨rfl, hx, ?_⟩
  rw [ba_us]
  exact sg_congr (fun a ha => ba_un (fun e => hn (e ▸ ha))) hB
theorem sg_one {nx : Nat → Int32} {f h : Int32} {A : List Nat} {a : Nat} (z : sg_C nx f (A ++ [a]) h) : sg_C nx f A (nI a) ∧ a < 40 ∧ nx a = h := by
  obtain ⟨y, y1, e, ha, y2⟩ := sg_app.mp z
  subst e
  exact ⟨y1, ha, y2⟩
theorem sg_ins1 {nx : Nat → Int32} {f h : Int32} {A B : List Nat} {a x : Nat} (hx : x < 40) (hA : sg_C nx f (A ++ [a]) h) (hB : sg_C nx h B (-1)) (hn : x ∉ (A ++ [a]) ++ B) (hd : ((A ++ [a]) ++ B).Nodup) : sg_C (upd (upd nx x h) a (nI x)) f ((A ++ [a]) ++ x :: B) (-1) := by
  obtain ⟨h1, h2, h3⟩ := sg_one hA
  obtain ⟨d1, _, d3⟩ := List.nodup_append.mp hd
  obtain ⟨_, _, d4⟩ := List.nodup_append.mp d1
  have hax : x ≠ a := fun e => hn (List.mem_append.mpr (Or.inl (List.mem_append.mpr (Or.inr (by rw [e]; exact List.mem_cons_self ..)))))
  refine sg_app.mpr ⟨nI x, sg_app.mpr ⟨nI a, ?_, rfl, h2, ba_us⟩, rfl, hx, ?_⟩
  · refine sg_congr (fun b hb => ?_) h1
    rw [ba_un (d4 b hb a (List.mem_cons_self ..)), ba_un (fun (e : b = x) => hn (List.mem_append.mpr (Or.inl (List.mem_append.mpr (Or.inl (e ▸ hb))))))]
  · rw [ba_un hax, ba_us]
    refine sg_congr (fun b hb => ?_) hB
    rw [ba_un (fun e => d3 a (List.mem_append.mpr (Or.inr (List.mem_cons_self ..))) b hb e.symm), ba_un (fun (e : b = x) => hn (List.mem_append.mpr (Or.inr (e ▸ hb))))]
theorem sg_del1 {nx : Nat → Int32} {f h : Int32} {A B : List Nat} {a : Nat} (hA : sg_C nx f (A ++ [a]) h) {t : Int32} (hB : sg_C nx t B (-1)) (hd : ((A ++ [a]) ++ B).Nodup) : sg_C (upd nx a t) f ((A ++ [a]) ++ B) (-1) := by
  obtain ⟨h1, h2, h3⟩ := sg_one hA
  obtain ⟨d1, _, d3⟩ := List.nodup_append.mp hd
  obtain ⟨_, _, d4⟩ := List.nodup_append.mp d1
  refine sg_app.mpr ⟨t, sg_app.mpr ⟨nI a, ?_, rfl, h2, ba_us⟩, ?_⟩
  · exact sg_congr (fun b hb => ba_un (d4 b hb a (List.mem_cons_self ..))) h1
  · exact sg_congr (fun b hb => ba_un (fun e => d3 a (List.mem_append.mpr (Or.inr (List.mem_cons_self ..))) b hb e.symm)) hB
end
section
/-! the component's walks: partitions, the order, measure -/
def lb_L (lo bd : Nat → Int32) (P : Nat) : Prop := cn_c (bq_b bd) 256 = P ∧ bq_b bd 0 = true ∧ P ≤ 8 ∧ ∀ p, p < P → ∃ l, l < 256 ∧ lo p = nI l ∧ bq_b bd l = true ∧ cn_c (bq_b bd) l = p
theorem pa_one {bd : Nat → Int32} (h0 : bq_b bd 0 = true) (k : Nat) : 1 ≤ cn_c (bq_b bd) (k + 1) := by
  have h2 := cn_mono (bq_b bd) (show 1 ≤ k + 1 by omega)
  have h3 : cn_c (bq_b bd) 1 = 1 := cn_t (n := 0) h0
  omega
theorem pa_lt {bd : Nat → Int32} {P k : Nat} (hP : cn_c (bq_b bd) 256 = P) (h0 : bq_b bd 0 = true) (hk : k < 256) : pa_k bd k < P := by
  have h1 := pa_one h0 k
  have h2 := cn_mono (bq_b bd) (show k + 1 ≤ 256 by omega)
  unfold pa_k; omega
theorem pa_mono {bd : Nat → Int32} {k k' : Nat} (h : k ≤ k') : pa_k bd k ≤ pa_k bd k' := by
  have h2 := cn_mono (bq_b bd) (show k + 1 ≤ k' + 1 by omega)
  unfold pa_k; omega
theorem pa_up {bd : Nat → Int32} {k k' : Nat} (h : pa_k bd k < pa_k bd k') : k < k' := by
  rcases Nat.lt_or_ge k k' with z | z
  · exact z
  · exact absurd (pa_mono (bd := bd) z) (by omega)
/-- the bound of number p is at most k just when the key k lies in p or behind -/
theorem lb_le {bd : Nat → Int32} {l p k : Nat} (h0 : bq_b bd 0 = true) (hl : bq_b bd l = true) (hp : cn_c (bq_b bd) l = p) : l ≤ k ↔ p ≤ pa_k bd k := by
  have h1 := pa_one h0 k
  constructor
  · intro h
    have h2 := cn_mono (bq_b bd) (show l + 1 ≤ k + 1 by omega)
    rw [cn_t hl] at h2
    unfold pa_k; omega
  · intro h
    rcases Nat.lt_or_ge k l with z | z
    · have h2 := cn_mono (bq_b bd) (show k + 1 ≤ l by omega)
      unfold pa_k at h
      omega
    · exact z
theorem lb_1 {lo bd : Nat → Int32} {P : Nat} (h : lb_L lo bd P) : 1 ≤ P := by
  have h2 := cn_mono (bq_b bd) (show 1 ≤ 256 by omega)
  have h3 : cn_c (bq_b bd) 1 = 1 := cn_t (n := 0) h.2.1
  have := h.1
  omega

section
variable {fr fp ft fg fn fh fs : Int32} {us ky va nx lo fi sz lk mk mv tl th te cu sl sh se ah : Nat → Int32}
theorem xn_row {post : Int32 → Prop} {x : Int32} (h1 : (x < 0 ∨ 40 ≤ x ∨ ∃ a, a < 40 ∧ x = nI a ∧ us a = 0) → post 1) (h0 : ∀ a, a < 40 → x = nI a → ¬ us a = 0 → post 0) : wpX_noRow post (fr, fp, ft, fg, fn, fh, fs, us, ky, va, nx, lo, fi, sz, lk, mk, mv, tl, th, te, cu, sl, sh, se, ah) x := by
  rcases ba_ix x (n := 40) (by omega) with h | h | ⟨a, ha, rfl⟩
  · exact br_t h (h1 (Or.inl h))
  · have hn : ¬ x < 0 := Int32.not_lt.mpr (Int32.le_trans (show (0 : Int32) ≤ nI 40 by decide) h)
    exact br_f hn (br_t h (h1 (Or.inr (Or.inl h))))
  · have ia : vp_in (nI a) 40 := vp_in_nI ha (by omega)
    have ea : (nI a).toNatClampNeg = a := nI_clamp (by omega)
    refine br_f (nI_pos (by omega)) (br_f (nI_ge (b := 40) ha (by omega)) ⟨ia, ?_⟩)
    rw [ea]
    exact br_c (fun z => h1 (Or.inr (Or.inr ⟨a, ha, rfl, z⟩))) (fun z => h0 a ha rfl z)
theorem xp_loop {post : Int32 → Prop} {bd : Nat → Int32} {k P : Nat} (hL : lb_L lo bd P) (hk : k < 256) (hp : post (nI (pa_k bd k))) : ∀ i, i < P → pa_k bd k ≤ i → ∀ n, i < n → wX_partitionOf_7 post (nI k) fr fp ft fg fn fh fs us ky va nx lo fi sz lk mk mv tl th te cu sl sh se ah n (nI i) := by
  have hP8 := hL.2.2.1
  intro i
  induction i with
  | zero =>
    intro _ h n hn
    obtain ⟨m, rfl⟩ : ∃ m, n = m + 1 := ⟨n - 1, by omega⟩
    rw [show pa_k bd k = 0 by omega] at hp
    exact br_t (nI_le (a := 0) (b := 0) (by omega) (by omega)) hp
  | succ i ih =>
    intro hi h n hn
    obtain ⟨m, rfl⟩ : ∃ m, n = m + 1 := ⟨n - 1, by omega⟩
    obtain ⟨l, hl, e, q, c⟩ := hL.2.2.2 (i + 1) hi
    have ii : vp_in (nI (i + 1)) 8 := vp_in_nI (by omega) (by omega)
    have ei : (nI (i + 1)).toNatClampNeg = i + 1 := nI_clamp (by omega)
    have hle := lb_le (k := k) hL.2.1 q c
    refine br_f (nI_nle (by omega) (by omega)) ⟨ii, ?_⟩
    rw [ei, e]
    refine ba_le l k (fun w => ?_) (fun w => nm_r (ba_m1 i) (ih (by omega) (by omega) m (by omega)))
    rw [show pa_k bd k = i + 1 by omega] at hp
    exact hp
theorem xp_part {post : Int32 → Prop} {bd : Nat → Int32} {k P : Nat} (hL : lb_L lo bd P) (hk : k < 256) (hp : post (nI (pa_k bd k))) : wpX_partitionOf post (fr, nI P, ft, fg, fn, fh, fs, us, ky, va, nx, lo, fi, sz, lk, mk, mv, tl, th, te, cu, sl, sh, se, ah) (nI k) := by
  have h1 := lb_1 hL
  have hlt := pa_lt hL.1 hL.2.1 hk
  exact nm_r (ba_s h1) (Exists.intro P (xp_loop hL hk hp (P - 1) (by omega) (by omega) P (by omega)))
theorem xb_before {post : Int32 → Prop} {K : Nat → Nat} {a b : Nat} (ha : a < 40) (hb : b < 40) (hK : ∀ a, ky a = nI (K a) ∧ K a < 256) (h1 : bf_B K a b → post 1) (h0 : ¬ bf_B K a b → post 0) : wpX_before post (fr, fp, ft, fg, fn, fh, fs, us, ky, va, nx, lo, fi, sz, lk, mk, mv, tl, th, te, cu, sl, sh, se, ah) (nI a) (nI b) := by
  have ia : vp_in (nI a) 40 := vp_in_nI ha (by omega)
  have ea : (nI a).toNatClampNeg = a := nI_clamp (by omega)
  have ib : vp_in (nI b) 40 := vp_in_nI hb (by omega)
  have eb : (nI b).toNatClampNeg = b := nI_clamp (by omega)
  have ka := (hK a).2
  have kb := (hK b).2
  refine And.intro ia (And.intro ib ?_)
  rw [ea, eb, (hK a).1, (hK b).1]
  refine ba_eq (K a) (K b) (fun w => ba_le b a (fun v => h0 ?_) (fun v => h1 (Or.inr ⟨w, v⟩))) (fun w => ⟨ia, ib, ba_le (K b) (K a) (fun v => h0 ?_) (fun v => h1 (Or.inl v))⟩)
  · unfold bf_B; omega
  · unfold bf_B; omega
theorem xm_loop {post : SX → Prop} {p : Nat} (hp : p < 8) : ∀ (B A : List Nat) (h : Int32) (n : Nat) (mk mv : Nat → Int32), sg_C nx h B (-1) → A.length + B.length ≤ 40 → B.length < n → (A ++ B).Pairwise (fun a b => ky a ≤ ky b) → (∀ a, a ∈ A → ky a ≤ mk p ∧ va a ≤ mv p) → (∀ mk' mv' : Nat → Int32, (∀ q, q ≠ p → mk' q = mk q ∧ mv' q = mv q) → (∀ a, a ∈ A ++ B → ky a ≤ mk' p ∧ va a ≤ mv' p) → post (fr, fp, ft, fg, fn, fh, fs, us, ky, va, nx, lo, fi, upd sz p (nI (A.length + B.length)), lk, mk', mv', tl, th, te, cu, sl, sh, se, ah)) → wX_measure_38 post (nI p) fr fp ft fg fn fh fs n (nI A.length) h us ky va nx lo fi sz lk mk mv tl th te cu sl sh se ah := by
  have ip : vp_in (nI p) 8 := vp_in_nI hp (by omega)
  have ep : (nI p).toNatClampNeg = p := nI_clamp (by omega)
  intro B
  induction B with
  | nil =>
    intro A h n mk mv hz hl hn hs hA H
    obtain ⟨m, rfl⟩ : ∃ m, n = m + 1 := ⟨n - 1, by omega⟩
    have hz' : h = -1 := hz
    subst hz'
    have hq := H mk mv (fun _ _ => ⟨rfl, rfl⟩) (fun a ha => hA a (by rw [List.append_nil] at ha; exact ha))
    have hl' : A.length ≤ 40 := by have : ([] : List Nat).length = 0 := rfl; omega
    exact ba_le 40 A.length (fun _ => ⟨ip, nm_r (e' := upd sz p (nI (A.length + ([] : List Nat).length))) (by rw [ep]; rfl) hq⟩) (fun _ => br_t rfl ⟨ip, nm_r (e' := upd sz p (nI (A.length + ([] : List Nat).length))) (by rw [ep]; rfl) hq⟩)
  | cons b B ih =>
    intro A h n mk mv hz hl hn hs hA H
    obtain ⟨m, rfl⟩ : ∃ m, n = m + 1 := ⟨n - 1, by omega⟩
    obtain ⟨e, hb, hz'⟩ := hz
    subst e
    have lc : (b :: B).length = B.length + 1 := rfl
    have ib : vp_in (nI b) 40 := vp_in_nI hb (by omega)
    have eb : (nI b).toNatClampNeg = b := nI_clamp (by omega)
    have el : (A ++ [b]).length = A.length + 1 := by rw [List.length_append]; rfl
    have ea : (A ++ [b]) ++ B = A ++ b :: B := by rw [List.append_assoc]; rfl
    have e2 : (A ++ [b]).length + B.length = A.length + (b :: B).length := by omega
    obtain ⟨_, _, s3⟩ := List.pairwise_append.mp hs
    have go : ∀ mv2 : Nat → Int32, (∀ q, q ≠ p → mv2 q = mv q) → (∀ a, a ∈ A → va a ≤ mv2 p) → va b ≤ mv2 p → wX_measure_38 post (nI p) fr fp ft fg fn fh fs m (nI (A.length + 1)) (nx b) us ky va nx lo fi sz lk (upd mk p (ky b)) mv2 tl th te cu sl sh se ah := by
      intro mv2 f1 f2 f3
      have hh := ih (A ++ [b]) (nx b) m (upd mk p (ky b)) mv2 hz' (by omega) (by omega) (by rw [ea]; exact hs) (fun a ha => by
          rw [ba_us]
          rcases List.mem_append.mp ha with ha | ha
          · exact ⟨s3 a ha b (List.mem_cons_self ..), f2 a ha⟩
          · rw [List.mem_singleton.mp ha]; exact ⟨Int32.le_refl _, f3⟩) (fun mk' mv' g1 g2 => by
          rw [e2]
          exact H mk' mv' (fun q hq => ⟨(g1 q hq).1.trans (ba_un hq), (g1 q hq).2.trans (f1 q hq)⟩) (fun a ha => g2 a (by rw [ea]; exact ha)))
      rw [el] at hh
      exact hh
    refine br_f (nI_ge (b := 40) (by omega) (by omega)) (br_f (ba_ne1 (by omega)) ⟨ib, ip, nm_r (e' := upd mk p (ky b)) (by rw [ep, eb]) ⟨ib, ip, ?_⟩⟩)
    rw [eb, ep]
    by_cases c : va b ≤ mv p
    · exact br_t c (nm_r (nI_1 _) ⟨ib, nm_e (go mv (fun _ _ => rfl) (fun a ha => (hA a ha).2) c)⟩)
    · exact br_f c ⟨ib, ip, nm_e (nm_r (nI_1 _) ⟨ib, nm_e (go (upd mv p (va b)) (fun q hq => ba_un hq) (fun a ha => by rw [ba_us]; exact Int32.le_trans (hA a ha).2 (Int32.le_of_lt (Int32.not_le.mp c))) (by rw [ba_us]; exact Int32.le_refl _))⟩)⟩
theorem xm_measure {post : SX → Prop} {p : Nat} {L : List Nat} (hp : p < 8) (hc : sg_C nx (fi p) L (-1)) (hL : L.length ≤ 40) (hs : L.Pairwise (fun a b => ky a ≤ ky b)) (H : ∀ lk' mk' mv' : Nat → Int32, (∀ q, q ≠ p → lk' q = lk q ∧ mk' q = mk q ∧ mv' q = mv q) → (∀ a, a ∈ L → lk' p ≤ ky a ∧ ky a ≤ mk' p ∧ va a ≤ mv' p) → post (fr, fp, ft, fg, fn, fh, fs, us, ky, va, nx, lo, fi, upd sz p (nI L.length), lk', mk', mv', tl, th, te, cu, sl, sh, se, ah)) : wpX_measure post (fr, fp, ft, fg, fn, fh, fs, us, ky, va, nx, lo, fi, sz, lk, mk, mv, tl, th, te, cu, sl, sh, se, ah) (nI p) := by
  have ip : vp_in (nI p) 8 := vp_in_nI hp (by omega)
  have ep : (nI p).toNatClampNeg = p := nI_clamp (by omega)
  cases L with
  | nil =>
    have e : fi p = -1 := hc
    refine And.intro ip (nm_r (e' := -1) (by rw [ep]; exact e) (br_t rfl (Exists.intro 1 (xm_loop hp [] [] (-1) 1 mk mv rfl (by decide) (by decide) List.Pairwise.nil (fun a ha => absurd ha (List.not_mem_nil)) (fun mk' mv' f1 f2 => ?_)))))
    exact H lk mk' mv' (fun q hq => ⟨rfl, f1 q hq⟩) (fun a ha => absurd ha (List.not_mem_nil))
  | cons b B =>
    have hc2 := hc
    obtain ⟨e, hb, hz⟩ := hc
    have ib : vp_in (nI b) 40 := vp_in_nI hb (by omega)
    have eb : (nI b).toNatClampNeg = b := nI_clamp (by omega)
    refine And.intro ip (nm_r (e' := nI b) (by rw [ep]; exact e) (br_f (ba_ne1 (by omega)) ⟨ib, ip, nm_r (e' := upd lk p (ky b)) (by rw [ep, eb]) ⟨ib, ip, nm_r (e' := upd mv p (va b)) (by rw [ep, eb]) ?_⟩⟩))
    refine Exists.intro ((b :: B).length + 1) (xm_loop hp (b :: B) [] (nI b) _ mk (upd mv p (va b)) ⟨rfl, hb, hz⟩ (by rw [List.length_nil]; omega) (by omega) hs (fun a ha => absurd ha (List.not_mem_nil)) (fun mk' mv' f1 f2 => ?_))
    rw [List.length_nil, Nat.zero_add]
    refine H (upd lk p (ky b)) mk' mv' (fun q hq => ⟨ba_un hq, (f1 q hq).1, (f1 q hq).2.trans (ba_un hq)⟩) (fun a ha => ?_)
    refine ⟨?_, f2 a ha⟩
    rw [ba_us]
    rcases List.mem_cons.mp ha with ha | ha
    · rw [ha]; exact Int32.le_refl _
    · exact (List.pairwise_cons.mp hs).1 a ha
end
end
section
/-! chains of all partitions; link and unlink -/
def pt_P (S : Nat → Prop) (bd : Nat → Int32) (K : Nat → Nat) (ky va nx fi sz lk mk mv : Nat → Int32) (p : Nat) (L : List Nat) : Prop :=
  sg_C nx (fi p) L (-1) ∧ sz p = nI L.length ∧ (∀ a, a ∈ L → lk p ≤ ky a ∧ ky a ≤ mk p ∧ va a ≤ mv p) ∧ L.Pairwise (bf_B K) ∧ (∀ a, a ∈ L ↔ a < 40 ∧ S a ∧ pa_k bd (K a) = p)
def ci_I (S : Nat → Prop) (bd : Nat → Int32) (P : Nat) (K : Nat → Nat) (ky va nx fi sz lk mk mv : Nat → Int32) : Prop :=
  ∃ L : Nat → List Nat, ∀ p, p < P → pt_P S bd K ky va nx fi sz lk mk mv p (L p)
/-- a partition whose rows and cells are not touched, perhaps under another number -/
theorem pt_fr {S S' : Nat → Prop} {bd bd' : Nat → Int32} {K K' : Nat → Nat} {ky va nx fi sz lk mk mv ky' va' nx' fi' sz' lk' mk' mv' : Nat → Int32} {p p' : Nat} {L : List Nat}
    (h : pt_P S bd K ky va nx fi sz lk mk mv p L) (e1 : ∀ a, a ∈ L → nx' a = nx a ∧ ky' a = ky a ∧ va' a = va a ∧ K' a = K a)
    (e2 : fi' p' = fi p) (e3 : sz' p' = sz p) (e4 : lk' p' = lk p) (e5 : mk' p' = mk p) (e6 : mv' p' = mv p)
    (hm : ∀ a, a ∈ L ↔ a < 40 ∧ S' a ∧ pa_k bd' (K' a) = p') : pt_P S' bd' K' ky' va' nx' fi' sz' lk' mk' mv' p' L := by
  obtain ⟨h1, h2, h3, h4, _⟩ := h
  refine ⟨?_, ?_, ?_, ?_, hm⟩
  · rw [e2]; exact sg_congr (fun a ha => (e1 a ha).1) h1
  · rw [e3]; exact h2
  · intro a ha
    rw [e4, e5, e6, (e1 a ha).2.1, (e1 a ha).2.2.1]; exact h3 a ha
  · exact bf_congr (fun a ha => (e1 a ha).2.2.2.symm) h4
theorem pt_cap {S : Nat → Prop} {bd : Nat → Int32} {K : Nat → Nat} {ky va nx fi sz lk mk mv : Nat → Int32} {p : Nat} {L : List Nat} (h : pt_P S bd K ky va nx fi sz lk mk mv p L) : L.length ≤ 40 :=
  cn_cap (bf_nodup h.2.2.2.1) (fun a ha => ((h.2.2.2.2 a).mp ha).1)
theorem pt_key {K : Nat → Nat} {ky : Nat → Int32} {L : List Nat} (hK : ∀ a, ky a = nI (K a) ∧ K a < 256) (h : L.Pairwise (bf_B K)) : L.Pairwise (fun a b => ky a ≤ ky b) :=
  List.Pairwise.imp (fun {a b} hab => by
    rw [(hK a).1, (hK b).1]
    have := (hK b).2
    unfold bf_B at hab
    exact nI_le (by omega) (by omega)) h

section
variable {fr fp ft fg fn fh fs : Int32} {us ky va nx lo fi sz lk mk mv tl th te cu sl sh se ah : Nat → Int32}
theorem xk_loop {post : SX → Prop} {x p : Nat} {K : Nat → Nat} {L : List Nat} {f0 : Int32} (hx : x < 40) (hK : ∀ a, ky a = nI (K a) ∧ K a < 256) (hL : L.length ≤ 40) (hs : L.Pairwise (bf_B K))
    (hJ : ∀ (A B : List Nat) (h : Int32), L = A ++ B → sg_C nx f0 A h → sg_C nx h B (-1) → (∀ a, a ∈ A → bf_B K a x) → (∀ b, b ∈ B → ¬ bf_B K b x) → wX_link_65 post (nI x) (nI p) (sg_L A) h fr fp ft fg fn fh fs us ky va nx lo fi sz lk mk mv tl th te cu sl sh se ah) :
    ∀ (B A : List Nat) (h : Int32) (n : Nat), L = A ++ B → sg_C nx f0 A h → sg_C nx h B (-1) → (∀ a, a ∈ A → bf_B K a x) → B.length < n → wX_link_24 post (nI x) (nI p) fr fp ft fg fn fh fs us ky va nx lo fi sz lk mk mv tl th te cu sl sh se ah n (sg_L A) h (nI A.length) := by
  intro B
  induction B with
  | nil =>
    intro A h n e hA hB ha hn
    obtain ⟨m, rfl⟩ : ∃ m, n = m + 1 := ⟨n - 1, by omega⟩
    have hB' : h = -1 := hB
    subst hB'
    have hq := hJ A [] (-1) e hA rfl ha (fun b hb => absurd hb (List.not_mem_nil))
    have hl : A.length ≤ 40 := by rw [e, List.append_nil] at hL; exact hL
    exact ba_le 40 A.length (fun _ => hq) (fun _ => br_t rfl hq)
  | cons b B ih =>
    intro A h n e hA hB ha hn
    obtain ⟨m, rfl⟩ : ∃ m, n = m + 1 := ⟨n - 1, by omega⟩
    have hB2 := hB
    obtain ⟨eh, hb, hz⟩ := hB
    subst eh
    have lc : (b :: B).length = B.length + 1 := rfl
    have hl : A.length + (b :: B).length ≤ 40 := by rw [e, List.length_append] at hL; exact hL
    have ib : vp_in (nI b) 40 := vp_in_nI hb (by omega)
    have eb : (nI b).toNatClampNeg = b := nI_clamp (by omega)
    have el : (A ++ [b]).length = A.length + 1 := by rw [List.length_append]; rfl
    have ea : (A ++ [b]) ++ B = A ++ b :: B := by rw [List.append_assoc]; rfl
    refine br_f (nI_ge (b := 40) (by omega) (by omega)) (br_f (ba_ne1 (by omega)) (xb_before hb hx hK (fun w => br_f ba_10 ⟨ib, nm_r (e' := nx b) (by rw [eb]) (nm_r (nI_1 _) ?_)⟩) (fun w => br_t rfl (hJ A (b :: B) (nI b) e hA hB2 ha (fun c hc => ?_)))))
    · have hh := ih (A ++ [b]) (nx b) m (by rw [ea]; exact e) (sg_app.mpr ⟨nI b, hA, rfl, hb, rfl⟩) hz (fun a h' => by
        rcases List.mem_append.mp h' with h' | h'
        · exact ha a h'
        · rw [List.mem_singleton.mp h']; exact w) (by omega)
      rw [sg_L1, el] at hh
      exact hh
    · rcases List.mem_cons.mp hc with hc | hc
      · rw [hc]; exact w
      · intro w2
        rw [e] at hs
        exact w (bf_tr ((List.pairwise_cons.mp (List.pairwise_append.mp hs).2.1).1 c hc) w2)
theorem xk_link {post : SX → Prop} {S : Nat → Prop} {bd : Nat → Int32} {K : Nat → Nat} {x P : Nat} (hx : x < 40) (hS : ¬ S x) (hK : ∀ a, ky a = nI (K a) ∧ K a < 256) (hLB : lb_L lo bd P) (hI : ci_I S bd P K ky va nx fi sz lk mk mv)
    (H : ∀ nx' fi' sz' lk' mk' mv' : Nat → Int32, ci_I (fun a => S a ∨ a = x) bd P K ky va nx' fi' sz' lk' mk' mv' → post (fr, nI P, ft, fg, fn, fh, fs, us, ky, va, nx', lo, fi', sz', lk', mk', mv', tl, th, te, cu, sl, sh, se, ah)) : wpX_link post (fr, nI P, ft, fg, fn, fh, fs, us, ky, va, nx, lo, fi, sz, lk, mk, mv, tl, th, te, cu, sl, sh, se, ah) (nI x) := by
  obtain ⟨L, hL⟩ := hI
  have ix : vp_in (nI x) 40 := vp_in_nI hx (by omega)
  have ex : (nI x).toNatClampNeg = x := nI_clamp (by omega)
  have hP8 := hLB.2.2.1
  have hp : pa_k bd (K x) < P := pa_lt hLB.1 hLB.2.1 (hK x).2
  generalize hpe : pa_k bd (K x) = p at hp
  have hpt := hL p hp
  obtain ⟨h1, h2, h3, h4, h5⟩ := hpt
  have cap := pt_cap (hL p hp)
  have hxL : ∀ q, q < P → x ∉ L q := fun q hq hm => hS (((hL q hq).2.2.2.2 x).mp hm).2.1
  have ip : vp_in (nI p) 8 := vp_in_nI (by omega) (by omega)
  have ep : (nI p).toNatClampNeg = p := nI_clamp (by omega)
  -- what is left when the chain is mended
  have fin : ∀ (A B : List Nat) (nx2 fi2 : Nat → Int32), L p = A ++ B → (∀ a, a ∈ A → bf_B K a x) → (∀ b, b ∈ B → ¬ bf_B K b x) → sg_C nx2 (fi2 p) (A ++ x :: B) (-1) → (∀ a, a ∉ L p → a ≠ x → nx2 a = nx a) → (∀ q, q ≠ p → fi2 q = fi q) → wX_link_95 post (nI p) fr (nI P) ft fg fn fh fs us ky va nx2 lo fi2 sz lk mk mv tl th te cu sl sh se ah := by
    intro A B nx2 fi2 e ha hb hc f1 f2
    have hs2 : (A ++ x :: B).Pairwise (bf_B K) := by
      rw [e] at h4
      obtain ⟨s1, s2, s3⟩ := List.pairwise_append.mp h4
      refine List.pairwise_append.mpr ⟨s1, List.pairwise_cons.mpr ⟨fun b hb' => bf_tot (hb b hb') (fun e' => ?_), s2⟩, fun a ha' b hb' => ?_⟩
      · exact hxL p hp (by rw [e, ← e']; exact List.mem_append.mpr (Or.inr hb'))
      · rcases List.mem_cons.mp hb' with hb' | hb'
        · rw [hb']; exact ha a ha'
        · exact s3 a ha' b hb'
    have hm2 : ∀ a, a ∈ A ++ x :: B ↔ a < 40 ∧ (S a ∨ a = x) ∧ pa_k bd (K a) = p := by
      intro a
      have := h5 a
      rw [e, List.mem_append] at this
      rw [List.mem_append, List.mem_cons]
      constructor
      · rintro (w | w | w)
        · obtain ⟨w1, w2, w3⟩ := this.mp (Or.inl w); exact ⟨w1, Or.inl w2, w3⟩
        · subst w; exact ⟨hx, Or.inr rfl, hpe⟩
        · obtain ⟨w1, w2, w3⟩ := this.mp (Or.inr w); exact ⟨w1, Or.inl w2, w3⟩
      · rintro ⟨w1, w2 | w2, w3⟩
        · rcases this.mpr ⟨w1, w2, w3⟩ with w | w
          · exact Or.inl w
          · exact Or.inr (Or.inr w)
        · exact Or.inr (Or.inl w2)
    unfold wX_link_95
    refine xm_measure (L := A ++ x :: B) (by omega) hc (cn_cap (bf_nodup hs2) (fun a h => ((hm2 a).mp h).1)) (pt_key hK hs2) (fun lk' mk' mv' g1 g2 => ?_)
    refine H nx2 fi2 (upd sz p (nI (A ++ x :: B).length)) lk' mk' mv' ⟨fun q => if q = p then A ++ x :: B else L q, fun q hq => ?_⟩
    dsimp only
    by_cases c : q = p
    · subst c
      rw [if_pos rfl]
      exact ⟨hc, ba_us, g2, hs2, hm2⟩
    · rw [if_neg c]
      refine pt_fr (hL q hq) (fun a ha => ⟨f1 a (fun w => c ?_) (fun w => hxL q hq (w ▸ ha)), rfl, rfl, rfl⟩) (f2 q c) (ba_un c) (g1 q c).1 (g1 q c).2.1 (g1 q c).2.2 (fun a => ?_)
      · rw [← ((h5 a).mp w).2.2, ← (((hL q hq).2.2.2.2 a).mp ha).2.2]
      · rw [(hL q hq).2.2.2.2 a]
        constructor
        · rintro ⟨w1, w2, w3⟩; exact ⟨w1, Or.inl w2, w3⟩
        · rintro ⟨w1, w2 | w2, w3⟩
          · exact ⟨w1, w2, w3⟩
          · subst w2; exact absurd (hpe.symm.trans w3).symm c
  unfold wpX_link
  refine And.intro ix ?_
  rw [ex, (hK x).1]
  refine xp_part hLB (hK x).2 ?_
  rw [hpe]
  refine And.intro ip (nm_r (e' := fi p) (by rw [ep]) (Exists.intro ((L p).length + 1) ?_))
  refine xk_loop hx hK cap h4 (fun A B h e hA hB ha hb => ?_) (L p) [] (fi p) _ rfl rfl h1 (fun a h => absurd h (List.not_mem_nil)) (by omega)
  have hxn : x ∉ A ++ B := e ▸ hxL p hp
  have hnd : (A ++ B).Nodup := e ▸ bf_nodup h4
  unfold wX_link_65
  refine And.intro ix (nm_r (e' := upd nx x h) (by rw [ex]) ?_)
  rcases sg_snoc A with eA | ⟨A', a, eA⟩
  · subst eA
    have hfh : fi p = h := hA
    refine br_t rfl ⟨ip, nm_r (e' := upd fi p (nI x)) (by rw [ep]) ?_⟩
    refine fin [] B (upd nx x h) (upd fi p (nI x)) e ha hb ?_ (fun a _ h' => ba_un h') (fun q hq => ba_un hq)
    rw [ba_us]
    exact sg_ins0 hx hB hxn
  · subst eA
    have ha40 := (sg_one hA).2.1
    have ia : vp_in (nI a) 40 := vp_in_nI ha40 (by omega)
    have eaa : (nI a).toNatClampNeg = a := nI_clamp (by omega)
    rw [sg_L1]
    refine br_f (ba_ne1 (by omega)) ⟨ia, nm_r (e' := upd (upd nx x h) a (nI x)) (by rw [eaa]) ?_⟩
    refine fin (A' ++ [a]) B (upd (upd nx x h) a (nI x)) fi e ha hb (sg_ins1 hx hA hB hxn hnd) (fun c hc h' => ?_) (fun q _ => rfl)
    rw [ba_un (fun w => hc (by rw [e, w]; exact List.mem_append.mpr (Or.inl (List.mem_append.mpr (Or.inr (List.mem_cons_self ..)))))), ba_un h']
theorem xu_loop {post : SX → Prop} {x p : Nat} {A0 B0 : List Nat} {f0 : Int32} (hx : x < 40) (hl : A0.length < 40) (hn0 : x ∉ A0)
    (hJ : sg_C nx f0 A0 (nI x) → wX_unlink_61 post (nI x) (nI p) (sg_L A0) (nI x) fr fp ft fg fn fh fs us ky va nx lo fi sz lk mk mv tl th te cu sl sh se ah) :
    ∀ (R A : List Nat) (h : Int32) (n : Nat), A0 = A ++ R → sg_C nx f0 A h → sg_C nx h (R ++ x :: B0) (-1) → R.length < n → wX_unlink_24 post (nI x) (nI p) fr fp ft fg fn fh fs us ky va nx lo fi sz lk mk mv tl th te cu sl sh se ah n (sg_L A) h (nI A.length) := by
  intro R
  induction R with
  | nil =>
    intro A h n e hA hB hn
    obtain ⟨m, rfl⟩ : ∃ m, n = m + 1 := ⟨n - 1, by omega⟩
    rw [List.append_nil] at e
    subst e
    have eh : h = nI x := hB.1
    subst eh
    exact br_f (nI_ge (b := 40) (by omega) (by omega)) (br_f (ba_ne1 (by omega)) (br_t rfl (hJ hA)))
  | cons r R ih =>
    intro A h n e hA hB hn
    obtain ⟨m, rfl⟩ : ∃ m, n = m + 1 := ⟨n - 1, by omega⟩
    obtain ⟨eh, hr, hz⟩ := hB
    subst eh
    have lc : (r :: R).length = R.length + 1 := rfl
    have hl2 : A.length + (r :: R).length < 40 := by rw [e, List.length_append] at hl; exact hl
    have ir : vp_in (nI r) 40 := vp_in_nI hr (by omega)
    have er : (nI r).toNatClampNeg = r := nI_clamp (by omega)
    have el : (A ++ [r]).length = A.length + 1 := by rw [List.length_append]; rfl
    have ea : (A ++ [r]) ++ R = A ++ r :: R := by rw [List.append_assoc]; rfl
    have hrx : ¬ nI r = nI x := fun w => hn0 (by
      have := ba_im w (by omega) (by omega)
      rw [e, ← this]; exact List.mem_append.mpr (Or.inr (List.mem_cons_self ..)))
    refine br_f (nI_ge (b := 40) (by omega) (by omega)) (br_f (ba_ne1 (by omega)) (br_f hrx ⟨ir, nm_r (e' := nx r) (by rw [er]) (nm_r (nI_1 _) ?_)⟩))
    have hh := ih (A ++ [r]) (nx r) m (by rw [ea]; exact e) (sg_app.mpr ⟨nI r, hA, rfl, hr, rfl⟩) hz (by omega)
    rw [sg_L1, el] at hh
    exact hh
theorem xu_unlink {post : SX → Prop} {S : Nat → Prop} {bd : Nat → Int32} {K : Nat → Nat} {x P : Nat} (hx : x < 40) (hS : S x) (hK : ∀ a, ky a = nI (K a) ∧ K a < 256) (hLB : lb_L lo bd P) (hI : ci_I S bd P K ky va nx fi sz lk mk mv)
    (H : ∀ nx' fi' sz' lk' mk' mv' : Nat → Int32, ci_I (fun a => S a ∧ a ≠ x) bd P K ky va nx' fi' sz' lk' mk' mv' → post (fr, nI P, ft, fg, fn, fh, fs, us, ky, va, nx', lo, fi', sz', lk', mk', mv', tl, th, te, cu, sl, sh, se, ah)) : wpX_unlink post (fr, nI P, ft, fg, fn, fh, fs, us, ky, va, nx, lo, fi, sz, lk, mk, mv, tl, th, te, cu, sl, sh, se, ah) (nI x) := by
  obtain ⟨L, hL⟩ := hI
  have ix : vp_in (nI x) 40 := vp_in_nI hx (by omega)
  have ex : (nI x).toNatClampNeg = x := nI_clamp (by omega)
  have hP8 := hLB.2.2.1
  have hp : pa_k bd (K x) < P := pa_lt hLB.1 hLB.2.1 (hK x).2
  generalize hpe : pa_k bd (K x) = p at hp
  obtain ⟨h1, h2, h3, h4, h5⟩ := hL p hp
  have cap := pt_cap (hL p hp)
  have hd := bf_nodup h4
  have ip : vp_in (nI p) 8 := vp_in_nI (by omega) (by omega)
  have ep : (nI p).toNatClampNeg = p := nI_clamp (by omega)
  obtain ⟨A, B, e⟩ := List.append_of_mem ((h5 x).mpr ⟨hx, hS, hpe⟩)
  rw [e] at h1 h4 cap hd
  obtain ⟨d1, d2, d3⟩ := List.nodup_append.mp hd
  have hxA : x ∉ A := fun w => d3 x w x (List.mem_cons_self ..) rfl
  have hxB : x ∉ B := (List.nodup_cons.mp d2).1
  have hl : A.length < 40 := by
    rw [List.length_append] at cap
    have : (x :: B).length = B.length + 1 := rfl
    omega
  obtain ⟨s1, s2, s3⟩ := List.pairwise_append.mp h4
  have hs2 : (A ++ B).Pairwise (bf_B K) := List.pairwise_append.mpr ⟨s1, (List.pairwise_cons.mp s2).2, fun a ha b hb => s3 a ha b (List.mem_cons_of_mem _ hb)⟩
  have hm2 : ∀ a, a ∈ A ++ B ↔ a < 40 ∧ (S a ∧ a ≠ x) ∧ pa_k bd (K a) = p := by
    intro a
    have := h5 a
    rw [e, List.mem_append, List.mem_cons] at this
    rw [List.mem_append]
    constructor
    · rintro (w | w)
      · obtain ⟨w1, w2, w3⟩ := this.mp (Or.inl w); exact ⟨w1, ⟨w2, fun z => hxA (z ▸ w)⟩, w3⟩
      · obtain ⟨w1, w2, w3⟩ := this.mp (Or.inr (Or.inr w)); exact ⟨w1, ⟨w2, fun z => hxB (z ▸ w)⟩, w3⟩
    · rintro ⟨w1, ⟨w2, w4⟩, w3⟩
      rcases this.mpr ⟨w1, w2, w3⟩ with w | w | w
      · exact Or.inl w
      · exact absurd w w4
      · exact Or.inr w
  have fin : ∀ (nx2 fi2 : Nat → Int32), sg_C nx2 (fi2 p) (A ++ B) (-1) → (∀ a, a ∉ L p → nx2 a = nx a) → (∀ q, q ≠ p → fi2 q = fi q) → wX_unlink_100 post (nI p) fr (nI P) ft fg fn fh fs us ky va nx2 lo fi2 sz lk mk mv tl th te cu sl sh se ah := by
    intro nx2 fi2 hc f1 f2
    unfold wX_unlink_100
    refine xm_measure (L := A ++ B) (by omega) hc (cn_cap (bf_nodup hs2) (fun a h => ((hm2 a).mp h).1)) (pt_key hK hs2) (fun lk' mk' mv' g1 g2 => ?_)
    refine H nx2 fi2 (upd sz p (nI (A ++ B).length)) lk' mk' mv' ⟨fun q => if q = p then A ++ B else L q, fun q hq => ?_⟩
    dsimp only
    by_cases c : q = p
    · subst c
      rw [if_pos rfl]
      exact ⟨hc, ba_us, g2, hs2, hm2⟩
    · rw [if_neg c]
      refine pt_fr (hL q hq) (fun a ha => ⟨f1 a (fun w => c ?_), rfl, rfl, rfl⟩) (f2 q c) (ba_un c) (g1 q c).1 (g1 q c).2.1 (g1 q c).2.2 (fun a => ?_)
      · rw [← ((h5 a).mp w).2.2, ← (((hL q hq).2.2.2.2 a).mp ha).2.2]
      · rw [(hL q hq).2.2.2.2 a]
        constructor
        · rintro ⟨w1, w2, w3⟩
          refine ⟨w1, ⟨w2, fun w => c ?_⟩, w3⟩
          rw [← w3, w, hpe]
        · rintro ⟨w1, ⟨w2, _⟩, w3⟩; exact ⟨w1, w2, w3⟩
  unfold wpX_unlink
  refine And.intro ix ?_
  rw [ex, (hK x).1]
  refine xp_part hLB (hK x).2 ?_
  rw [hpe]
  refine And.intro ip (nm_r (e' := fi p) (by rw [ep]) (Exists.intro (A.length + 1) ?_))
  refine xu_loop (B0 := B) hx hl hxA (fun hA => ?_) A [] (fi p) _ rfl rfl h1 (by omega)
  obtain ⟨z, z1, z2⟩ := sg_app.mp h1
  have hB : sg_C nx (nx x) B (-1) := z2.2.2
  unfold wX_unlink_61
  refine br_t rfl ?_
  rcases sg_snoc A with eA | ⟨A', a, eA⟩
  · subst eA
    refine br_t rfl ⟨ix, ip, nm_r (e' := upd fi p (nx x)) (by rw [ep, ex]) ?_⟩
    exact fin nx (upd fi p (nx x)) (by rw [ba_us]; exact hB) (fun a _ => rfl) (fun q hq => ba_un hq)
  · subst eA
    have ha40 := (sg_one hA).2.1
    have ia : vp_in (nI a) 40 := vp_in_nI ha40 (by omega)
    have eaa : (nI a).toNatClampNeg = a := nI_clamp (by omega)
    rw [sg_L1]
    refine br_f (ba_ne1 (by omega)) ⟨ix, ia, nm_r (e' := upd nx a (nx x)) (by rw [eaa, ex]) ?_⟩
    refine fin (upd nx a (nx x)) fi (sg_del1 hA hB (bf_nodup hs2)) (fun c hc => ?_) (fun q _ => rfl)
    exact ba_un (fun w => hc (by rw [e, w]; exact List.mem_append.mpr (Or.inl (List.mem_append.mpr (Or.inr (List.mem_cons_self ..))))))
end
end
section
/-! the relation -/
def se_G (fn : Int32) (sl sh se tl th te : Nat → Int32) (T : Nat) : Prop := ∃ m, m ≤ 10 ∧ fn = nI m ∧ (∀ s s', s < s' → s' < m → sh s < sl s') ∧ ∀ k v : Int32, 0 ≤ k → k ≤ 255 → ((∃ s, s < m ∧ sl s ≤ k ∧ k ≤ sh s ∧ se s ≤ v) ↔ ∃ t, t < T ∧ tl t ≤ k ∧ k ≤ th t ∧ te t ≤ v)
def rr_R (K : Nat → Nat) (P T : Nat) (fg fn : Int32) (us ky va nx lo fi sz lk mk mv tl th te sl sh se bd : Nat → Int32) : Prop :=
  T ≤ 4 ∧ (∀ a, ky a = nI (K a) ∧ K a < 256) ∧ lb_L lo bd P ∧ ci_I (fun a => ¬ us a = 0) bd P K ky va nx fi sz lk mk mv ∧ (¬ fg = 0 → se_G fn sl sh se tl th te T)
def i_Rel (k : Nat) (u : SX) (v : SY) : Prop := ∃ (K : Nat → Nat) (P T : Nat) (fg fn fh fs : Int32) (us ky va nx lo fi sz lk mk mv tl th te cu sl sh se ah bd : Nat → Int32), u = (nI (cn_c (bq_b us) 40), nI P, nI T, fg, fn, fh, fs, us, ky, va, nx, lo, fi, sz, lk, mk, mv, tl, th, te, cu, sl, sh, se, ah) ∧ v = (nI T, us, ky, va, bd, tl, th, te) ∧ rr_R K P T fg fn us ky va nx lo fi sz lk mk mv tl th te sl sh se bd
theorem zz_in {k : Nat} {K : Nat → Nat} {P T : Nat} {fr fp ft fg fn fh fs : Int32} {us ky va nx lo fi sz lk mk mv tl th te cu sl sh se ah : Nat → Int32} {bd : Nat → Int32} (e1 : fr = nI (cn_c (bq_b us) 40)) (e2 : fp = nI P) (e3 : ft = nI T) (h : rr_R K P T fg fn us ky va nx lo fi sz lk mk mv tl th te sl sh se bd) : i_Rel k (fr, fp, ft, fg, fn, fh, fs, us, ky, va, nx, lo, fi, sz, lk, mk, mv, tl, th, te, cu, sl, sh, se, ah) (ft, us, ky, va, bd, tl, th, te) := by
  subst e1 e2 e3
  exact Exists.intro K (Exists.intro P (Exists.intro T (Exists.intro fg (Exists.intro fn (Exists.intro fh (Exists.intro fs (Exists.intro us (Exists.intro ky (Exists.intro va (Exists.intro nx (Exists.intro lo (Exists.intro fi (Exists.intro sz (Exists.intro lk (Exists.intro mk (Exists.intro mv (Exists.intro tl (Exists.intro th (Exists.intro te (Exists.intro cu (Exists.intro sl (Exists.intro sh (Exists.intro se (Exists.intro ah (Exists.intro bd (⟨rfl, rfl, h⟩))))))))))))))))))))))))))
theorem zz_el {k : Nat} {u : SX} {v : SY} {Q : SX → SY → Prop} (h : ∀ (K : Nat → Nat) (P T : Nat) (fg fn fh fs : Int32) (us ky va nx lo fi sz lk mk mv tl th te cu sl sh se ah bd : Nat → Int32), rr_R K P T fg fn us ky va nx lo fi sz lk mk mv tl th te sl sh se bd → Q (nI (cn_c (bq_b us) 40), nI P, nI T, fg, fn, fh, fs, us, ky, va, nx, lo, fi, sz, lk, mk, mv, tl, th, te, cu, sl, sh, se, ah) (nI T, us, ky, va, bd, tl, th, te)) (I : i_Rel k u v) : Q u v :=
  Exists.elim I (fun K I => Exists.elim I (fun P I => Exists.elim I (fun T I => Exists.elim I (fun fg I => Exists.elim I (fun fn I => Exists.elim I (fun fh I => Exists.elim I (fun fs I => Exists.elim I (fun us I => Exists.elim I (fun ky I => Exists.elim I (fun va I => Exists.elim I (fun nx I => Exists.elim I (fun lo I => Exists.elim I (fun fi I => Exists.elim I (fun sz I => Exists.elim I (fun lk I => Exists.elim I (fun mk I => Exists.elim I (fun mv I => Exists.elim I (fun tl I => Exists.elim I (fun th I => Exists.elim I (fun te I => Exists.elim I (fun cu I => Exists.elim I (fun sl I => Exists.elim I (fun sh I => Exists.elim I (fun se I => Exists.elim I (fun ah I => Exists.elim I (fun bd I => (I.1 ▸ I.2.1 ▸ h K P T fg fn fh fs us ky va nx lo fi sz lk mk mv tl th te cu sl sh se ah bd I.2.2 : Q u v)))))))))))))))))))))))))))
theorem i_up {k : Nat} {u : SX} {v : SY} (h : i_Rel k u v) : i_Rel (k + 4) u v := h
theorem ci_S {S S' : Nat → Prop} {bd : Nat → Int32} {P : Nat} {K : Nat → Nat} {ky va nx fi sz lk mk mv : Nat → Int32} (e : ∀ a, S a ↔ S' a) (h : ci_I S bd P K ky va nx fi sz lk mk mv) : ci_I S' bd P K ky va nx fi sz lk mk mv := by
  obtain ⟨L, hL⟩ := h
  refine ⟨L, fun p hp => ?_⟩
  obtain ⟨h1, h2, h3, h4, h5⟩ := hL p hp
  exact ⟨h1, h2, h3, h4, fun a => by rw [h5 a, e a]⟩
theorem cn_zero {q : Nat → Bool} {n : Nat} (h : ∀ j, j < n → q j = false) : cn_c q n = 0 := by
  induction n with
  | zero => rfl
  | succ n ih => rw [cn_f (h n (by omega)), ih (fun j hj => h j (by omega))]
theorem bq_z (j : Nat) : bq_b (fun _ => 0) j = false := bq_f.mpr rfl
theorem i_vc0 : wpX_init (fun u => wpY_init (fun v => i_Rel 0 u v)) := by
  unfold wpX_init wpY_init
  refine nm_e (nm_r (e' := upd (fun _ => 0) 0 1) (by rw [ba_vb1]) (zz_in (K := fun _ => 0) (P := 1) (T := 0) ?_ rfl rfl ⟨by omega, fun a => ⟨rfl, show 0 < 256 by omega⟩, ⟨?_, ?_, by omega, ?_⟩, ⟨fun _ => [], ?_⟩, fun h => absurd rfl h⟩))
  · rw [cn_zero (fun j _ => bq_z j)]; rfl
  · rw [cn_add (q := bq_b (fun _ => 0)) (k := 0) (bq_z 0) (bq_t.mpr (by rw [ba_us]; decide)) (fun j hj => by unfold bq_b; rw [ba_un hj]) 256, cn_zero (fun j _ => bq_z j)]; rfl
  · exact bq_t.mpr (by rw [ba_us]; decide)
  · intro p hp
    refine ⟨0, by omega, rfl, bq_t.mpr (by rw [ba_us]; decide), ?_⟩
    rw [show p = 0 by omega]; rfl
  · intro p hp
    rw [show p = 0 by omega]
    refine ⟨ba_us, rfl, fun a ha => absurd ha (List.not_mem_nil), List.Pairwise.nil, fun a => ⟨fun ha => absurd ha (List.not_mem_nil), fun ha => absurd rfl ha.2.1⟩⟩
theorem i_vc_clearTerms {k : Nat} {u : SX} {v : SY} (I : i_Rel k u v) (hk : k + 4 ≤ 2048) : wpX_clearTerms (fun u' => wpY_clearTerms (fun v' => i_Rel (k + 4) u' v') v) u := by
  refine zz_el (Q := fun u v => wpX_clearTerms (fun u' => wpY_clearTerms (fun v' => i_Rel (k + 4) u' v') v) u) ?_ I
  intro K P T fg fn fh fs us ky va nx lo fi sz lk mk mv tl th te cu sl sh se ah bd hR
  obtain ⟨h1, h2, h3, h4, h5⟩ := hR
  show i_Rel (k + 4) (nI (cn_c (bq_b us) 40), nI P, 0, 0, fn, fh, fs, us, ky, va, nx, lo, fi, sz, lk, mk, mv, tl, th, te, cu, sl, sh, se, ah) (0, us, ky, va, bd, tl, th, te)
  exact zz_in rfl rfl (T := 0) rfl ⟨by omega, h2, h3, h4, fun h => absurd rfl h⟩
theorem i_vc_term {k : Nat} {u : SX} {v : SY} (I : i_Rel k u v) (hk : k + 4 ≤ 2048) (v1 : Int32) (v2 : Int32) (v3 : Int32) : wpX_term (fun r u' => wpY_term (fun r' v' => r' = r ∧ i_Rel (k + 4) u' v') v v1 v2 v3) u v1 v2 v3 := by
  refine zz_el (Q := fun u v => wpX_term (fun r u' => wpY_term (fun r' v' => r' = r ∧ i_Rel (k + 4) u' v') v v1 v2 v3) u v1 v2 v3) ?_ I
  intro K P T fg fn fh fs us ky va nx lo fi sz lk mk mv tl th te cu sl sh se ah bd hR
  have hR2 := hR
  obtain ⟨h1, h2, h3, h4, h5⟩ := hR
  by_cases hT : T < 4
  · have iT : vp_in (nI T) 4 := vp_in_nI hT (by omega)
    have eT : (nI T).toNatClampNeg = T := nI_clamp (by omega)
    have n4 : ¬ nI T = 4 := fun e => absurd (ba_im (b := 4) e (by omega) (by omega)) (by omega)
    refine br_t (nI_lt (b := 4) hT (by omega)) ⟨iT, nm_r (e' := upd tl T v1) (by rw [eT]) ⟨iT, nm_r (e' := upd th T v2) (by rw [eT]) ⟨iT, nm_r (e' := upd te T v3) (by rw [eT]) (nm_r (nI_1 T) ?_)⟩⟩⟩
    refine br_f n4 ⟨iT, nm_r (e' := upd tl T v1) (by rw [eT]) ⟨iT, nm_r (e' := upd th T v2) (by rw [eT]) ⟨iT, nm_r (e' := upd te T v3) (by rw [eT]) (nm_r (nI_1 T) ⟨rfl, ?_⟩)⟩⟩⟩
    exact zz_in rfl rfl (T := T + 1) rfl ⟨by omega, h2, h3, h4, fun h => absurd rfl h⟩
  · have e4 : T = 4 := by omega
    subst e4
    exact br_f (nI_nlt (a := 4) (b := 4) (by omega) (by omega)) (br_t rfl ⟨rfl, zz_in rfl rfl rfl hR2⟩)
end
section
/-! insert, delete, update -/
theorem ba_least (p : Nat → Prop) : ∀ n, (∃ j, j < n ∧ p j) → ∃ j, j < n ∧ p j ∧ ∀ i, i < j → ¬ p i := by
  intro n
  induction n with
  | zero => rintro ⟨j, hj, _⟩; exact absurd hj (by omega)
  | succ n ih =>
    rintro ⟨j, hj, h⟩
    by_cases c : ∃ j, j < n ∧ p j
    · obtain ⟨i, hi, h1, h2⟩ := ih c
      exact ⟨i, by omega, h1, h2⟩
    · have e : j = n := by
        rcases Nat.lt_or_ge j n with z | z
        · exact absurd ⟨j, z, h⟩ c
        · omega
      subst e
      exact ⟨j, by omega, h, fun i hi hp => c ⟨i, hi, hp⟩⟩
theorem xy_k0 {post : Int32 → Prop} {k : Nat} (hk : k < 256) (h : post 0) : wpX_badKey post (nI k) :=
  br_f (nI_pos (by omega)) (br_t (nI_le (b := 255) (by omega) (by omega)) h)
theorem xy_k1 {post : Int32 → Prop} {x : Int32} (hx : x < 0 ∨ (¬ x < 0 ∧ ¬ x ≤ 255)) (h : post 1) : wpX_badKey post x := by
  rcases hx with z | z
  · exact br_t z h
  · exact br_f z.1 (br_f z.2 h)
theorem yy_k0 {post : Int32 → Prop} {v : SY} {k : Nat} (hk : k < 256) (h : post 0) : wpY_badKey post v (nI k) :=
  br_f (nI_pos (by omega)) (br_t (nI_le (b := 255) (by omega) (by omega)) h)
theorem yy_k1 {post : Int32 → Prop} {v : SY} {x : Int32} (hx : x < 0 ∨ (¬ x < 0 ∧ ¬ x ≤ 255)) (h : post 1) : wpY_badKey post v x := by
  rcases hx with z | z
  · exact br_t z h
  · exact br_f z.1 (br_f z.2 h)
section
variable {ft : Int32} {us ky va bd tl th te : Nat → Int32}
theorem yy_n1 {post : Int32 → Prop} {x : Int32} (hx : x < 0 ∨ 40 ≤ x ∨ ∃ a, a < 40 ∧ x = nI a ∧ us a = 0) (h : post 1) : wpY_none post (ft, us, ky, va, bd, tl, th, te) x := by
  rcases hx with z | z | ⟨a, ha, rfl, z⟩
  · exact br_t z h
  · have hn : ¬ x < 0 := Int32.not_lt.mpr (Int32.le_trans (show (0 : Int32) ≤ 40 by decide) z)
    have h9 : 39 < x := by
      rw [Int32.lt_iff_toInt_lt]
      have z' := Int32.le_iff_toInt_le.mp z
      rw [show (40 : Int32).toInt = 40 by decide] at z'
      rw [show (39 : Int32).toInt = 39 by decide]
      omega
    exact br_f hn (br_t h9 h)
  · have ia : vp_in (nI a) 40 := vp_in_nI ha (by omega)
    have ea : (nI a).toNatClampNeg = a := nI_clamp (by omega)
    exact br_f (nI_pos (by omega)) (br_f (nI_nlt (a := 39) (by omega) (by omega)) ⟨ia, br_t (by rw [ea]; exact z) h⟩)
theorem yy_n0 {post : Int32 → Prop} {a : Nat} (ha : a < 40) (hu : ¬ us a = 0) (h : post 0) : wpY_none post (ft, us, ky, va, bd, tl, th, te) (nI a) := by
  have ia : vp_in (nI a) 40 := vp_in_nI ha (by omega)
  have ea : (nI a).toNatClampNeg = a := nI_clamp (by omega)
  exact br_f (nI_pos (by omega)) (br_f (nI_nlt (a := 39) (by omega) (by omega)) ⟨ia, br_f (by rw [ea]; exact hu) h⟩)
end
section
variable {fr fp ft fg fn fh fs : Int32} {us ky va nx lo fi sz lk mk mv tl th te cu sl sh se ah : Nat → Int32}
theorem xi_loop {post : Int32 → SX → Prop} {x1 x2 : Int32} {j : Nat} (hj : j < 40) (hz : us j = 0) (hb : ∀ i, i < j → ¬ us i = 0) (hJ : wX_insert_44 post x1 x2 (nI j) fr fp ft fg fn fh fs us ky va nx lo fi sz lk mk mv tl th te cu sl sh se ah) : ∀ d i, i + d = j → wX_insert_23 post x1 x2 fr fp ft fg fn fh fs us ky va nx lo fi sz lk mk mv tl th te cu sl sh se ah (d + 1) (nI i) := by
  intro d
  induction d with
  | zero =>
    intro i hi
    rw [show i = j by omega]
    have ij : vp_in (nI j) 40 := vp_in_nI hj (by omega)
    have ej : (nI j).toNatClampNeg = j := nI_clamp (by omega)
    exact br_c (fun _ => hJ) (fun _ => ⟨ij, br_t (by rw [ej]; exact hz) hJ⟩)
  | succ d ih =>
    intro i hi
    have ii : vp_in (nI i) 40 := vp_in_nI (by omega) (by omega)
    have ei : (nI i).toNatClampNeg = i := nI_clamp (by omega)
    exact br_f (nI_ge (b := 39) (by omega) (by omega)) ⟨ii, br_f (by rw [ei]; exact hb i (by omega)) (nm_r (nI_1 i) (ih (i + 1) (by omega)))⟩
end
/-- a key written at a row that is in no chain -/
theorem ci_key {S : Nat → Prop} {bd : Nat → Int32} {P : Nat} {K : Nat → Nat} {ky va nx fi sz lk mk mv : Nat → Int32} {x k : Nat} {v : Int32} (hS : ¬ S x) (h : ci_I S bd P K ky va nx fi sz lk mk mv) : ci_I S bd P (fun a => if a = x then k else K a) (upd ky x (nI k)) (upd va x v) nx fi sz lk mk mv := by
  obtain ⟨L, hL⟩ := h
  refine ⟨L, fun p hp => ?_⟩
  have h5 := (hL p hp).2.2.2.2
  refine pt_fr (hL p hp) (fun a ha => ?_) rfl rfl rfl rfl rfl (fun a => ?_)
  · have hne : a ≠ x := fun e => hS (e ▸ ((h5 a).mp ha).2.1)
    exact ⟨rfl, ba_un hne, ba_un hne, if_neg hne⟩
  · rw [h5 a]
    by_cases e : a = x
    · subst e
      exact ⟨fun w => absurd w.2.1 hS, fun w => absurd w.2.1 hS⟩
    · rw [if_neg e]
theorem ky_upd {ky : Nat → Int32} {K : Nat → Nat} {x k : Nat} (hk : k < 256) (hK : ∀ a, ky a = nI (K a) ∧ K a < 256) : ∀ a, upd ky x (nI k) a = nI ((fun a => if a = x then k else K a) a) ∧ (fun a => if a = x then k else K a) a < 256 := by
  intro a
  dsimp only
  by_cases e : a = x
  · subst e; rw [ba_us, if_pos rfl]; exact ⟨rfl, hk⟩
  · rw [ba_un e, if_neg e]; exact hK a
theorem i_vc_insert {k : Nat} {u : SX} {v : SY} (I : i_Rel k u v) (hk : k + 4 ≤ 2048) (v1 : Int32) (v2 : Int32) : wpX_insert (fun r u' => wpY_insert (fun r' v' => r' = r ∧ i_Rel (k + 4) u' v') v v1 v2) u v1 v2 := by
  refine zz_el (Q := fun u v => wpX_insert (fun r u' => wpY_insert (fun r' v' => r' = r ∧ i_Rel (k + 4) u' v') v v1 v2) u v1 v2) ?_ I
  intro K P T fg fn fh fs us ky va nx lo fi sz lk mk mv tl th te cu sl sh se ah bd hR
  have hR2 := hR
  obtain ⟨hT, hK, hLB, hI, hG⟩ := hR
  rcases ba_key v1 with hb | hb | ⟨c, hc, rfl⟩
  · unfold wpX_insert wpY_insert
    exact xy_k1 (Or.inl hb) (br_f ba_10 (yy_k1 (Or.inl hb) (br_f ba_10 ⟨rfl, zz_in rfl rfl rfl hR2⟩)))
  · unfold wpX_insert wpY_insert
    exact xy_k1 (Or.inr hb) (br_f ba_10 (yy_k1 (Or.inr hb) (br_f ba_10 ⟨rfl, zz_in rfl rfl rfl hR2⟩)))
  · unfold wpX_insert wpY_insert
    have hle := cn_le (bq_b us) 40
    refine xy_k0 hc (br_t rfl (ba_lt (cn_c (bq_b us) 40) 40 (fun h => ?_) (fun h => ?_)))
    · obtain ⟨j, hj, hz, hb⟩ := ba_least (fun j => us j = 0) 40 (by
        obtain ⟨j, hj, e⟩ := cn_ex h
        exact ⟨j, hj, bq_f.mp e⟩)
      have ij : vp_in (nI j) 40 := vp_in_nI hj (by omega)
      have ej : (nI j).toNatClampNeg = j := nI_clamp (by omega)
      refine Exists.intro (j + 1) (xi_loop hj hz hb ?_ j 0 (by omega))
      unfold wX_insert_44
      refine And.intro ij (nm_r (e' := upd us j 1) (by rw [ej, ba_vb1]) ⟨ij, nm_r (e' := upd ky j (nI c)) (by rw [ej]) ⟨ij, nm_r (e' := upd va j v2) (by rw [ej]) (nm_e ?_)⟩⟩)
      refine xk_link (S := fun a => ¬ us a = 0) (bd := bd) (K := fun a => if a = j then c else K a) hj (fun w => w hz) (ky_upd hc hK) hLB (ci_key (fun w => w hz) hI) (fun nx' fi' sz' lk' mk' mv' hI' => ?_)
      refine yy_k0 hc (br_t rfl (Exists.intro (40 + 1) (yi_loop (fun j' hj' hz' hb' => ?_) (fun w => absurd hz (w j hj)) 40 0 (by omega) lt_0)))
      have e : j' = j := by
        rcases Nat.lt_trichotomy j' j with z | z | z
        · exact absurd hz' (hb j' z)
        · exact z
        · exact absurd hz (hb' j z)
      subst e
      refine ⟨rfl, zz_in (K := fun a => if a = j' then c else K a) ?_ rfl rfl ⟨hT, ky_upd hc hK, hLB, ci_S (fun a => ?_) hI', hG⟩⟩
      · rw [nI_1]
        have := cn_add (q := bq_b us) (q' := bq_b (upd us j' 1)) (k := j') (bq_f.mpr hz) (bq_t.mpr (by rw [ba_us]; exact ba_10)) (fun i hi => by unfold bq_b; rw [ba_un hi]) 40
        rw [if_pos hj] at this
        rw [this]
      · by_cases e : a = j'
        · subst e; rw [ba_us]; exact ⟨fun _ => ba_10, fun _ => Or.inr rfl⟩
        · rw [ba_un e]; exact ⟨fun w => w.resolve_right e, fun w => Or.inl w⟩
    · have hall := cn_all h
      refine yy_k0 hc (br_t rfl (Exists.intro (40 + 1) (yi_loop (fun j hj hz _ => ?_) (fun _ => ⟨rfl, zz_in rfl rfl rfl hR2⟩) 40 0 (by omega) lt_0)))
      exact absurd hz (bq_t.mp (hall j hj))
theorem i_vc_delete {k : Nat} {u : SX} {v : SY} (I : i_Rel k u v) (hk : k + 4 ≤ 2048) (v1 : Int32) : wpX_delete (fun r u' => wpY_delete (fun r' v' => r' = r ∧ i_Rel (k + 4) u' v') v v1) u v1 := by
  refine zz_el (Q := fun u v => wpX_delete (fun r u' => wpY_delete (fun r' v' => r' = r ∧ i_Rel (k + 4) u' v') v v1) u v1) ?_ I
  intro K P T fg fn fh fs us ky va nx lo fi sz lk mk mv tl th te cu sl sh se ah bd hR
  have hR2 := hR
  obtain ⟨hT, hK, hLB, hI, hG⟩ := hR
  unfold wpX_delete wpY_delete
  refine xn_row (fun h => br_f ba_10 (yy_n1 h (br_f ba_10 ⟨rfl, zz_in rfl rfl rfl hR2⟩))) (fun a ha e hu => ?_)
  subst e
  have ia : vp_in (nI a) 40 := vp_in_nI ha (by omega)
  have ea : (nI a).toNatClampNeg = a := nI_clamp (by omega)
  have hcn := cn_add (q := bq_b (upd us a 0)) (q' := bq_b us) (k := a) (bq_f.mpr (by rw [ba_us])) (bq_t.mpr hu) (fun i hi => by unfold bq_b; rw [ba_un hi]) 40
  rw [if_pos ha] at hcn
  refine br_t rfl (xu_unlink (S := fun a => ¬ us a = 0) (bd := bd) ha hu hK hLB hI (fun nx' fi' sz' lk' mk' mv' hI' => ?_))
  refine And.intro ia (nm_r (e' := upd us a 0) (by rw [ea, ba_vb0]) (nm_r (e' := nI (cn_c (bq_b (upd us a 0)) 40)) (by rw [hcn, nI_pred]) ?_))
  refine yy_n0 ha hu (br_t rfl ⟨ia, nm_r (e' := upd us a 0) (by rw [ea, ba_vb0]) (Exists.intro (40 + 1) (yd_loop ?_ 40 0 (by omega)))⟩)
  refine ⟨rfl, zz_in rfl rfl rfl ⟨hT, hK, hLB, ci_S (fun b => ?_) hI', hG⟩⟩
  by_cases e : b = a
  · subst e; rw [ba_us]; exact ⟨fun w => absurd rfl w.2, fun w => absurd rfl w⟩
  · rw [ba_un e]; exact ⟨fun w => w.1, fun w => ⟨w, e⟩⟩
theorem i_vc_update {k : Nat} {u : SX} {v : SY} (I : i_Rel k u v) (hk : k + 4 ≤ 2048) (v1 : Int32) (v2 : Int32) (v3 : Int32) : wpX_update (fun r u' => wpY_update (fun r' v' => r' = r ∧ i_Rel (k + 4) u' v') v v1 v2 v3) u v1 v2 v3 := by
  refine zz_el (Q := fun u v => wpX_update (fun r u' => wpY_update (fun r' v' => r' = r ∧ i_Rel (k + 4) u' v') v v1 v2 v3) u v1 v2 v3) ?_ I
  intro K P T fg fn fh fs us ky va nx lo fi sz lk mk mv tl th te cu sl sh se ah bd hR
  have hR2 := hR
  obtain ⟨hT, hK, hLB, hI, hG⟩ := hR
  unfold wpX_update wpY_update
  refine xn_row (fun h => br_f ba_10 (yy_n1 h (br_f ba_10 ⟨rfl, zz_in rfl rfl rfl hR2⟩))) (fun a ha e hu => ?_)
  subst e
  have ia : vp_in (nI a) 40 := vp_in_nI ha (by omega)
  have ea : (nI a).toNatClampNeg = a := nI_clamp (by omega)
  refine br_t rfl ?_
  rcases ba_key v2 with hb | hb | ⟨c, hc, rfl⟩
  · exact xy_k1 (Or.inl hb) (br_f ba_10 (yy_n0 ha hu (br_t rfl (yy_k1 (Or.inl hb) (br_f ba_10 ⟨rfl, zz_in rfl rfl rfl hR2⟩)))))
  · exact xy_k1 (Or.inr hb) (br_f ba_10 (yy_n0 ha hu (br_t rfl (yy_k1 (Or.inr hb) (br_f ba_10 ⟨rfl, zz_in rfl rfl rfl hR2⟩)))))
  · refine xy_k0 hc (br_t rfl (xu_unlink (S := fun a => ¬ us a = 0) (bd := bd) ha hu hK hLB hI (fun nx' fi' sz' lk' mk' mv' hI' => ?_)))
    refine And.intro ia (nm_r (e' := upd ky a (nI c)) (by rw [ea]) ⟨ia, nm_r (e' := upd va a v3) (by rw [ea]) ?_⟩)
    refine xk_link (S := fun b => ¬ us b = 0 ∧ b ≠ a) (bd := bd) (K := fun b => if b = a then c else K b) ha (fun w => w.2 rfl) (ky_upd hc hK) hLB (ci_key (fun w => w.2 rfl) hI') (fun nx2 fi2 sz2 lk2 mk2 mv2 hI2 => ?_)
    refine yy_n0 ha hu (br_t rfl (yy_k0 hc (br_t rfl ⟨ia, nm_r (e' := upd ky a (nI c)) (by rw [ea]) ⟨ia, nm_r (e' := upd va a v3) (by rw [ea]) ⟨rfl, ?_⟩⟩⟩)))
    refine zz_in (K := fun b => if b = a then c else K b) rfl rfl rfl ⟨hT, ky_upd hc hK, hLB, ci_S (fun b => ?_) hI2, hG⟩
    by_cases e : b = a
    · subst e; exact ⟨fun _ => hu, fun _ => Or.inr rfl⟩
    · exact ⟨fun w => (w.resolve_right e).1, fun w => Or.inl ⟨w, e⟩⟩
end
section
/-! partitions move; a chain is cut -/
theorem cn_inj {q : Nat → Bool} {k l : Nat} (hk : q k = true) (hl : q l = true) (h : cn_c q k = cn_c q l) : k = l := by
  rcases Nat.lt_trichotomy k l with z | z | z
  · have := cn_mono q (show k + 1 ≤ l by omega)
    rw [cn_t hk] at this; omega
  · exact z
  · have := cn_mono q (show l + 1 ≤ k by omega)
    rw [cn_t hl] at this; omega
theorem cn_split {q q1 q2 : Nat → Bool} : ∀ n, (∀ j, j < n → (q j = true ↔ q1 j = true ∨ q2 j = true) ∧ ¬ (q1 j = true ∧ q2 j = true)) → cn_c q n = cn_c q1 n + cn_c q2 n := by
  intro n
  induction n with
  | zero => intro _; rfl
  | succ n ih =>
    intro h
    have h0 := ih (fun j hj => h j (by omega))
    obtain ⟨h1, h2⟩ := h n (by omega)
    cases e1 : q1 n
    · cases e2 : q2 n
      · have e : q n = false := by
          cases e : q n
          · rfl
          · rcases h1.mp e with w | w
            · rw [e1] at w; exact w.symm
            · rw [e2] at w; exact w.symm
        rw [cn_f e, cn_f e1, cn_f e2, h0]
      · rw [cn_t (h1.mpr (Or.inr e2)), cn_f e1, cn_t e2, h0]; omega
    · cases e2 : q2 n
      · rw [cn_t (h1.mpr (Or.inl e1)), cn_t e1, cn_f e2, h0]; omega
      · exact absurd ⟨e1, e2⟩ h2
theorem pt_cnt {us bd : Nat → Int32} {K : Nat → Nat} {ky va nx fi sz lk mk mv : Nat → Int32} {p : Nat} {L : List Nat} (h : pt_P (fun a => ¬ us a = 0) bd K ky va nx fi sz lk mk mv p L) : L.length = cn_c (rq_b us bd K p) 40 :=
  cn_len (bf_nodup h.2.2.2.1) (fun a => by rw [h.2.2.2.2 a, rq_t])
/-- cells from i + 1 to P moved one up -/
def sf_u (f : Nat → Int32) (i P q : Nat) : Int32 := if i < q ∧ q ≤ P then f (q - 1) else f q
theorem sf_0 (f : Nat → Int32) (P : Nat) : sf_u f P P = f := by
  funext q; exact if_neg (by omega)
theorem sf_lo {f : Nat → Int32} {i P q : Nat} (h : q ≤ i) : sf_u f i P q = f q := if_neg (by omega)
theorem sf_hi {f : Nat → Int32} {i P q : Nat} (h : i < q) (h' : q ≤ P) : sf_u f i P q = f (q - 1) := if_pos ⟨h, h'⟩
theorem sf_s {f : Nat → Int32} {i P : Nat} (h0 : 0 < i) (h : i ≤ P) : upd (sf_u f i P) i (sf_u f i P (i - 1)) = sf_u f (i - 1) P := by
  funext q
  by_cases e : q = i
  · subst e
    rw [ba_us, sf_lo (by omega), sf_hi (by omega) h]
  · rw [ba_un e]
    unfold sf_u
    by_cases c : i < q ∧ q ≤ P
    · rw [if_pos c, if_pos (by omega)]
    · rw [if_neg c, if_neg (by omega)]
/-- cells from i + 1 to k - 1 taken from the next one -/
def sd_u (f : Nat → Int32) (i k q : Nat) : Int32 := if i < q ∧ q < k then f (q + 1) else f q
theorem sd_0 (f : Nat → Int32) (i : Nat) : sd_u f i (i + 1) = f := by
  funext q; exact if_neg (by omega)
theorem sd_lo {f : Nat → Int32} {i k q : Nat} (h : q ≤ i) : sd_u f i k q = f q := if_neg (by omega)
theorem sd_up {f : Nat → Int32} {i k q : Nat} (h : k ≤ q) : sd_u f i k q = f q := if_neg (by omega)
theorem sd_hi {f : Nat → Int32} {i k q : Nat} (h : i < q) (h' : q < k) : sd_u f i k q = f (q + 1) := if_pos ⟨h, h'⟩
theorem sd_s {f : Nat → Int32} {i k : Nat} (h : i < k) : upd (sd_u f i k) k (sd_u f i k (k + 1)) = sd_u f i (k + 1) := by
  funext q
  by_cases e : q = k
  · subst e
    rw [ba_us, sd_up (by omega), sd_hi h (by omega)]
  · rw [ba_un e]
    unfold sd_u
    by_cases c : i < q ∧ q < k
    · rw [if_pos c, if_pos (by omega)]
    · rw [if_neg c, if_neg (by omega)]

section
variable {fr fp ft fg fn fh fs : Int32} {us ky va nx lo fi sz lk mk mv tl th te cu sl sh se ah : Nat → Int32}
theorem xm_meas {post : SX → Prop} {p : Nat} {x : Int32} {L : List Nat} (hx : x = nI p) (hp : p < 8) (hc : sg_C nx (fi p) L (-1)) (hL : L.length ≤ 40) (hs : L.Pairwise (fun a b => ky a ≤ ky b)) (H : ∀ lk' mk' mv' : Nat → Int32, (∀ q, q ≠ p → lk' q = lk q ∧ mk' q = mk q ∧ mv' q = mv q) → (∀ a, a ∈ L → lk' p ≤ ky a ∧ ky a ≤ mk' p ∧ va a ≤ mv' p) → post (fr, fp, ft, fg, fn, fh, fs, us, ky, va, nx, lo, fi, upd sz p (nI L.length), lk', mk', mv', tl, th, te, cu, sl, sh, se, ah)) : wpX_measure post (fr, fp, ft, fg, fn, fh, fs, us, ky, va, nx, lo, fi, sz, lk, mk, mv, tl, th, te, cu, sl, sh, se, ah) x := by
  subst hx
  exact xm_measure hp hc hL hs H
theorem xv_move {post : SX → Prop} {a b : Nat} {x y : Int32} (hx : x = nI a) (hy : y = nI b) (ha : a < 8) (hb : b < 8) (H : post (fr, fp, ft, fg, fn, fh, fs, us, ky, va, nx, upd lo b (lo a), upd fi b (fi a), upd sz b (sz a), upd lk b (lk a), upd mk b (mk a), upd mv b (mv a), tl, th, te, cu, sl, sh, se, ah)) : wpX_movePartition post (fr, fp, ft, fg, fn, fh, fs, us, ky, va, nx, lo, fi, sz, lk, mk, mv, tl, th, te, cu, sl, sh, se, ah) x y := by
  subst hx hy
  have ia : vp_in (nI a) 8 := vp_in_nI ha (by omega)
  have ib : vp_in (nI b) 8 := vp_in_nI hb (by omega)
  have ea : (nI a).toNatClampNeg = a := nI_clamp (by omega)
  have eb : (nI b).toNatClampNeg = b := nI_clamp (by omega)
  exact And.intro ia ⟨ib, nm_r (e' := upd lo b (lo a)) (by rw [ea, eb]) ⟨ia, ib, nm_r (e' := upd fi b (fi a)) (by rw [ea, eb]) ⟨ia, ib, nm_r (e' := upd sz b (sz a)) (by rw [ea, eb]) ⟨ia, ib, nm_r (e' := upd lk b (lk a)) (by rw [ea, eb]) ⟨ia, ib, nm_r (e' := upd mk b (mk a)) (by rw [ea, eb]) ⟨ia, ib, nm_r (e' := upd mv b (mv a)) (by rw [ea, eb]) H⟩⟩⟩⟩⟩⟩
theorem xc_loop {post : SX → Prop} {p c : Nat} {K : Nat → Nat} {L : List Nat} {f0 : Int32} (hc : c < 256) (hK : ∀ a, ky a = nI (K a) ∧ K a < 256) (hL : L.length ≤ 40) (hs : L.Pairwise (bf_B K))
    (hJ : ∀ (A B : List Nat) (h : Int32), L = A ++ B → sg_C nx f0 A h → sg_C nx h B (-1) → (∀ a, a ∈ A → K a < c) → (∀ b, b ∈ B → c ≤ K b) → wX_cutChain_55 post (nI p) (sg_L A) h fr fp ft fg fn fh fs us ky va nx lo fi sz lk mk mv tl th te cu sl sh se ah) :
    ∀ (B A : List Nat) (h : Int32) (n : Nat), L = A ++ B → sg_C nx f0 A h → sg_C nx h B (-1) → (∀ a, a ∈ A → K a < c) → B.length < n → wX_cutChain_13 post (nI p) (nI c) fr fp ft fg fn fh fs us ky va nx lo fi sz lk mk mv tl th te cu sl sh se ah n (sg_L A) h (nI A.length) := by
  intro B
  induction B with
  | nil =>
    intro A h n e hA hB ha hn
    obtain ⟨m, rfl⟩ : ∃ m, n = m + 1 := ⟨n - 1, by omega⟩
    have hB' : h = -1 := hB
    subst hB'
    have hq := hJ A [] (-1) e hA rfl ha (fun b hb => absurd hb (List.not_mem_nil))
    have hl : A.length ≤ 40 := by rw [e, List.append_nil] at hL; exact hL
    exact ba_le 40 A.length (fun _ => hq) (fun _ => br_t rfl hq)
  | cons b B ih =>
    intro A h n e hA hB ha hn
    obtain ⟨m, rfl⟩ : ∃ m, n = m + 1 := ⟨n - 1, by omega⟩
    have hB2 := hB
    obtain ⟨eh, hb, hz⟩ := hB
    subst eh
    have lc : (b :: B).length = B.length + 1 := rfl
    have hl : A.length + (b :: B).length ≤ 40 := by rw [e, List.length_append] at hL; exact hL
    have ib : vp_in (nI b) 40 := vp_in_nI hb (by omega)
    have eb : (nI b).toNatClampNeg = b := nI_clamp (by omega)
    have el : (A ++ [b]).length = A.length + 1 := by rw [List.length_append]; rfl
    have ea : (A ++ [b]) ++ B = A ++ b :: B := by rw [List.append_assoc]; rfl
    have kb := (hK b).2
    refine br_f (nI_ge (b := 40) (by omega) (by omega)) (br_f (ba_ne1 (by omega)) ⟨ib, ba_le c (K b) (fun w => hJ A (b :: B) (nI b) e hA hB2 ha (fun d hd => ?_)) (fun w => ⟨ib, nm_r (e' := nx b) (by rw [eb]) (nm_r (nI_1 _) ?_)⟩) rfl (by rw [eb]; exact (hK b).1)⟩)
    · rcases List.mem_cons.mp hd with hd | hd
      · rw [hd]; exact w
      · rw [e] at hs
        have := (List.pairwise_cons.mp (List.pairwise_append.mp hs).2.1).1 d hd
        unfold bf_B at this; omega
    · have hh := ih (A ++ [b]) (nx b) m (by rw [ea]; exact e) (sg_app.mpr ⟨nI b, hA, rfl, hb, rfl⟩) hz (fun a h' => by
        rcases List.mem_append.mp h' with h' | h'
        · exact ha a h'
        · rw [List.mem_singleton.mp h']; exact w) (by omega)
      rw [sg_L1, el] at hh
      exact hh
theorem xc_cut {post : SX → Prop} {p c : Nat} {K : Nat → Nat} {L : List Nat} (hp : p < 7) (hcc : c < 256) (hK : ∀ a, ky a = nI (K a) ∧ K a < 256) (hL : L.length ≤ 40) (hs : L.Pairwise (bf_B K)) (hc : sg_C nx (fi p) L (-1))
    (H : ∀ (A B : List Nat) (nx' fi' : Nat → Int32), L = A ++ B → (∀ a, a ∈ A → K a < c) → (∀ b, b ∈ B → c ≤ K b) → sg_C nx' (fi' p) A (-1) → sg_C nx' (fi' (p + 1)) B (-1) → (∀ a, a ∉ L → nx' a = nx a) → (∀ q, q ≠ p → q ≠ p + 1 → fi' q = fi q) → post (fr, fp, ft, fg, fn, fh, fs, us, ky, va, nx', lo, fi', sz, lk, mk, mv, tl, th, te, cu, sl, sh, se, ah)) : wpX_cutChain post (fr, fp, ft, fg, fn, fh, fs, us, ky, va, nx, lo, fi, sz, lk, mk, mv, tl, th, te, cu, sl, sh, se, ah) (nI p) (nI c) := by
  have ip : vp_in (nI p) 8 := vp_in_nI (by omega) (by omega)
  have ep : (nI p).toNatClampNeg = p := nI_clamp (by omega)
  have ip1 : vp_in (nI p + 1) 8 := by rw [nI_1]; exact vp_in_nI (by omega) (by omega)
  have ep1 : (nI p + 1).toNatClampNeg = p + 1 := by rw [nI_1]; exact nI_clamp (by omega)
  refine And.intro ip (nm_r (e' := fi p) (by rw [ep]) (Exists.intro (L.length + 1) (xc_loop hcc hK hL hs (fun A B h e hA hB ha hb => ?_) L [] (fi p) _ rfl rfl hc (fun a h => absurd h (List.not_mem_nil)) (by omega))))
  have hnd : (A ++ B).Nodup := e ▸ bf_nodup hs
  unfold wX_cutChain_55
  refine And.intro ip1 (nm_r (e' := upd fi (p + 1) h) (by rw [ep1]) ?_)
  rcases sg_snoc A with eA | ⟨A', a, eA⟩
  · subst eA
    refine br_t rfl ⟨ip, nm_r (e' := upd (upd fi (p + 1) h) p (-1)) (by rw [ep]) ?_⟩
    refine H [] B nx (upd (upd fi (p + 1) h) p (-1)) e ha hb ba_us ?_ (fun a _ => rfl) (fun q h1 h2 => by rw [ba_un h1, ba_un h2])
    rw [ba_un (by omega), ba_us]
    exact hB
  · subst eA
    have ha40 := (sg_one hA).2.1
    have ia : vp_in (nI a) 40 := vp_in_nI ha40 (by omega)
    have eaa : (nI a).toNatClampNeg = a := nI_clamp (by omega)
    obtain ⟨d1, _, d3⟩ := List.nodup_append.mp hnd
    rw [sg_L1]
    refine br_f (ba_ne1 (by omega)) ⟨ia, nm_r (e' := upd nx a (-1)) (by rw [eaa]) ?_⟩
    refine H (A' ++ [a]) B (upd nx a (-1)) (upd fi (p + 1) h) e ha hb ?_ ?_ (fun x hx => ba_un (fun w => hx (by rw [e, w]; exact List.mem_append.mpr (Or.inl (List.mem_append.mpr (Or.inr (List.mem_cons_self ..))))))) (fun q h1 h2 => ba_un h2)
    · rw [ba_un (by omega)]
      have := sg_del1 (B := []) hA (t := -1) rfl (by rw [List.append_nil]; exact d1)
      rw [List.append_nil] at this
      exact this
    · rw [ba_us]
      exact sg_congr (fun b hb' => ba_un (fun w => d3 a (List.mem_append.mpr (Or.inr (List.mem_cons_self ..))) b hb' w.symm)) hB
theorem xs_last {post : Int32 → SX → Prop} {p c P n : Nat} {K : Nat → Nat} {L : List Nat} (hp : p < P) (hP : P < 8) (hcc : c < 256) (hK : ∀ a, ky a = nI (K a) ∧ K a < 256) (hL : L.length ≤ 40) (hs : L.Pairwise (bf_B K)) (hc : sg_C nx (fi p) L (-1))
    (H : ∀ (A B : List Nat) (nx' fi' sz' lk' mk' mv' : Nat → Int32), L = A ++ B → (∀ a, a ∈ A → K a < c) → (∀ b, b ∈ B → c ≤ K b) → sg_C nx' (fi' p) A (-1) → sg_C nx' (fi' (p + 1)) B (-1) → (∀ a, a ∉ L → nx' a = nx a)
      → (∀ q, q ≠ p → q ≠ p + 1 → fi' q = fi q ∧ sz' q = sz q ∧ lk' q = lk q ∧ mk' q = mk q ∧ mv' q = mv q)
      → sz' p = nI A.length → sz' (p + 1) = nI B.length → (∀ a, a ∈ A → lk' p ≤ ky a ∧ ky a ≤ mk' p ∧ va a ≤ mv' p) → (∀ a, a ∈ B → lk' (p + 1) ≤ ky a ∧ ky a ≤ mk' (p + 1) ∧ va a ≤ mv' (p + 1))
      → post (nI (p + 1)) (fr, nI (P + 1), ft, fg, fn, fh, fs, us, ky, va, nx', upd lo (p + 1) (nI c), fi', sz', lk', mk', mv', tl, th, te, cu, sl, sh, se, ah)) : wX_split_51 post (nI c) (nI p) (n + 1) (nI (p + 1)) fr (nI P) ft fg fn fh fs us ky va nx lo fi sz lk mk mv tl th te cu sl sh se ah := by
  have ip1 : vp_in (nI p + 1) 8 := by rw [nI_1]; exact vp_in_nI (by omega) (by omega)
  have ep1 : (nI p + 1).toNatClampNeg = p + 1 := by rw [nI_1]; exact nI_clamp (by omega)
  refine br_t (by rw [nI_1]; exact Int32.le_refl _) (nm_r (nI_1 P) ⟨ip1, nm_r (e' := upd lo (p + 1) (nI c)) (by rw [ep1]) ⟨ip1, nm_r (e' := upd fi (p + 1) (-1)) (by rw [ep1]) ?_⟩⟩)
  refine xc_cut (L := L) (by omega) hcc hK hL hs (by rw [ba_un (by omega)]; exact hc) (fun A B nx' fi' e ha hb cA cB f1 f2 => ?_)
  have hs2 := hs
  rw [e] at hs2
  obtain ⟨s1, s2, _⟩ := List.pairwise_append.mp hs2
  have hl2 : A.length + B.length ≤ 40 := by rw [e, List.length_append] at hL; exact hL
  refine xm_measure (p := p) (L := A) (by omega) cA (by omega) (pt_key hK s1) (fun lk1 mk1 mv1 g1 g2 => ?_)
  refine xm_meas (p := p + 1) (L := B) (nI_1 p) (by omega) cB (by omega) (pt_key hK s2) (fun lk2 mk2 mv2 k1 k2 => ?_)
  have hnp : p ≠ p + 1 := by omega
  have hh := H A B nx' fi' (upd (upd sz p (nI A.length)) (p + 1) (nI B.length)) lk2 mk2 mv2 e ha hb cA cB f1 (fun q h1 h2 => ⟨(f2 q h1 h2).trans (ba_un h2), by rw [ba_un h2, ba_un h1], (k1 q h2).1.trans (g1 q h1).1, (k1 q h2).2.1.trans (g1 q h1).2.1, (k1 q h2).2.2.trans (g1 q h1).2.2⟩)
    (by rw [ba_un hnp, ba_us]) ba_us (fun a h => by rw [(k1 p hnp).1, (k1 p hnp).2.1, (k1 p hnp).2.2]; exact g2 a h) k2
  rw [← nI_1 p] at hh
  exact hh
theorem xs_loop {post : Int32 → SX → Prop} {p c P : Nat} (hp : p < P) (hP : P < 8) (hJ : ∀ n, wX_split_51 post (nI c) (nI p) (n + 1) (nI (p + 1)) fr (nI P) ft fg fn fh fs us ky va nx (sf_u lo (p + 1) P) (sf_u fi (p + 1) P) (sf_u sz (p + 1) P) (sf_u lk (p + 1) P) (sf_u mk (p + 1) P) (sf_u mv (p + 1) P) tl th te cu sl sh se ah) :
    ∀ d n i, i = p + 1 + d → i ≤ P → wX_split_51 post (nI c) (nI p) (n + d + 1) (nI i) fr (nI P) ft fg fn fh fs us ky va nx (sf_u lo i P) (sf_u fi i P) (sf_u sz i P) (sf_u lk i P) (sf_u mk i P) (sf_u mv i P) tl th te cu sl sh se ah := by
  intro d
  induction d with
  | zero => intro n i e _; subst e; exact hJ n
  | succ d ih =>
    intro n i e hi
    have hh := ih n (i - 1) (by omega) (by omega)
    refine br_f (by rw [nI_1]; exact nI_ge (by omega) (by omega)) (xv_move (a := i - 1) (b := i) (ba_s (by omega)) rfl (by omega) (by omega) (nm_r (ba_m (by omega)) ?_))
    rw [sf_s (by omega) hi, sf_s (by omega) hi, sf_s (by omega) hi, sf_s (by omega) hi, sf_s (by omega) hi, sf_s (by omega) hi]
    exact hh
end
end
section
/-! partitions, bound, rowsIn, truncate, split -/
section
variable {fr fp ft fg fn fh fs : Int32} {us ky va nx lo fi sz lk mk mv tl th te cu sl sh se ah : Nat → Int32}
theorem xn_part {post : Int32 → Prop} {x : Int32} {P : Nat} (hP : P ≤ 8) (h1 : (x < 0 ∨ nI P ≤ x) → post 1) (h0 : ∀ p, p < P → x = nI p → post 0) : wpX_noPartition post (fr, nI P, ft, fg, fn, fh, fs, us, ky, va, nx, lo, fi, sz, lk, mk, mv, tl, th, te, cu, sl, sh, se, ah) x := by
  rcases ba_ix x (n := P) (by omega) with h | h | ⟨a, ha, rfl⟩
  · exact br_t h (h1 (Or.inl h))
  · have hn : ¬ x < 0 := Int32.not_lt.mpr (Int32.le_trans (nI_pos' (n := P) (by omega)) h)
    exact br_f hn (br_f (Int32.not_lt.mpr h) (h1 (Or.inr h)))
  · exact br_f (nI_pos (by omega)) (br_t (nI_lt ha (by omega)) (h0 a ha rfl))
/-- rows of the list are gone -/
def dl_u (us : Nat → Int32) (A : List Nat) (a : Nat) : Int32 := if a ∈ A then 0 else us a
theorem xt_loop {post : Int32 → SX → Prop} {i : Nat} {x2 : Int32} {L : List Nat} (hl : L.length ≤ 40) (hJ : wX_truncate_60 post (nI i) x2 fr fp ft fg fn fh fs (dl_u us L) ky va nx lo fi sz lk mk mv tl th te cu sl sh se ah) : ∀ (B A : List Nat) (h : Int32) (n : Nat), L = A ++ B → sg_C nx h B (-1) → B.length < n → wX_truncate_28 post (nI i) x2 fr fp ft fg fn fh fs n h (nI A.length) (dl_u us A) ky va nx lo fi sz lk mk mv tl th te cu sl sh se ah := by
  intro B
  induction B with
  | nil =>
    intro A h n e hB hn
    obtain ⟨m, rfl⟩ : ∃ m, n = m + 1 := ⟨n - 1, by omega⟩
    rw [List.append_nil] at e
    subst e
    have hB' : h = -1 := hB
    subst hB'
    exact br_c (fun _ => hJ) (fun _ => br_t rfl hJ)
  | cons b B ih =>
    intro A h n e hB hn
    obtain ⟨m, rfl⟩ : ∃ m, n = m + 1 := ⟨n - 1, by omega⟩
    obtain ⟨eh, hb, hz⟩ := hB
    subst eh
    have lc : (b :: B).length = B.length + 1 := rfl
    have hl2 : A.length + (b :: B).length ≤ 40 := by rw [e, List.length_append] at hl; exact hl
    have ib : vp_in (nI b) 40 := vp_in_nI hb (by omega)
    have eb : (nI b).toNatClampNeg = b := nI_clamp (by omega)
    have el : (A ++ [b]).length = A.length + 1 := by rw [List.length_append]; rfl
    have ea : (A ++ [b]) ++ B = A ++ b :: B := by rw [List.append_assoc]; rfl
    have eu : upd (dl_u us A) b 0 = dl_u us (A ++ [b]) := by
      funext a
      unfold dl_u
      by_cases c : a = b
      · subst c
        rw [ba_us, if_pos (List.mem_append.mpr (Or.inr (List.mem_cons_self ..)))]
      · rw [ba_un c]
        by_cases c2 : a ∈ A
        · rw [if_pos c2, if_pos (List.mem_append.mpr (Or.inl c2))]
        · rw [if_neg c2, if_neg (fun w => (List.mem_append.mp w).elim c2 (fun w => c (List.mem_singleton.mp w)))]
    have hh := ih (A ++ [b]) (nx b) m (by rw [ea]; exact e) hz (by omega)
    rw [el] at hh
    exact br_f (nI_ge (b := 40) (by omega) (by omega)) (br_f (ba_ne1 (by omega)) ⟨ib, nm_r (e' := dl_u us (A ++ [b])) (by rw [eb, ba_vb0, eu]) ⟨ib, nm_r (e' := nx b) (by rw [eb]) (nm_r (nI_1 _) hh)⟩⟩)
end
theorem i_vc_partitions {k : Nat} {u : SX} {v : SY} (I : i_Rel k u v) (hk : k + 4 ≤ 2048) : wpX_partitions (fun r => wpY_partitions (fun r' => r' = r ∧ i_Rel (k + 4) u v) v) u := by
  refine zz_el (Q := fun u v => wpX_partitions (fun r => wpY_partitions (fun r' => r' = r ∧ i_Rel (k + 4) u v) v) u) ?_ I
  intro K P T fg fn fh fs us ky va nx lo fi sz lk mk mv tl th te cu sl sh se ah bd hR
  have hR2 := hR
  obtain ⟨hT, hK, hLB, hI, hG⟩ := hR
  unfold wpX_partitions
  refine yp_parts hLB.1 hLB.2.1 ?_
  exact ⟨rfl, zz_in rfl rfl rfl hR2⟩
theorem i_vc_bound {k : Nat} {u : SX} {v : SY} (I : i_Rel k u v) (hk : k + 4 ≤ 2048) (v1 : Int32) : wpX_bound (fun r => wpY_bound (fun r' => r' = r ∧ i_Rel (k + 4) u v) v v1) u v1 := by
  refine zz_el (Q := fun u v => wpX_bound (fun r => wpY_bound (fun r' => r' = r ∧ i_Rel (k + 4) u v) v v1) u v1) ?_ I
  intro K P T fg fn fh fs us ky va nx lo fi sz lk mk mv tl th te cu sl sh se ah bd hR
  have hR2 := hR
  obtain ⟨hT, hK, hLB, hI, hG⟩ := hR
  have hP8 := hLB.2.2.1
  unfold wpX_bound
  refine xn_part hP8 (fun h => br_f ba_10 (yb_bound (fun l hl q e => ?_) (fun _ => ⟨rfl, zz_in rfl rfl rfl hR2⟩))) (fun p hp e => ?_)
  · have h2 := cn_mono (bq_b bd) (show l + 1 ≤ 256 by omega)
    rw [cn_t q, hLB.1] at h2
    subst e
    rcases h with h | h
    · exact absurd h (nI_pos (by omega))
    · exact absurd h (nI_ge (by omega) (by omega))
  · subst e
    have ip : vp_in (nI p) 8 := vp_in_nI (by omega) (by omega)
    have ep : (nI p).toNatClampNeg = p := nI_clamp (by omega)
    obtain ⟨l, hl, e1, e2, e3⟩ := hLB.2.2.2 p hp
    refine br_t rfl ⟨ip, yb_bound (fun l2 hl2 q e => ?_) (fun h => absurd (by rw [e3]) (h l hl e2))⟩
    have h2 := cn_le (bq_b bd) l2
    have e4 := ba_im e (by omega) (by omega)
    have e5 := cn_inj q e2 (by omega)
    refine ⟨?_, zz_in rfl rfl rfl hR2⟩
    rw [ep, e1, e5]
theorem i_vc_rowsIn {k : Nat} {u : SX} {v : SY} (I : i_Rel k u v) (hk : k + 4 ≤ 2048) (v1 : Int32) : wpX_rowsIn (fun r => wpY_rowsIn (fun r' => r' = r ∧ i_Rel (k + 4) u v) v v1) u v1 := by
  refine zz_el (Q := fun u v => wpX_rowsIn (fun r => wpY_rowsIn (fun r' => r' = r ∧ i_Rel (k + 4) u v) v v1) u v1) ?_ I
  intro K P T fg fn fh fs us ky va nx lo fi sz lk mk mv tl th te cu sl sh se ah bd hR
  have hR2 := hR
  obtain ⟨hT, hK, hLB, hI, hG⟩ := hR
  have hP8 := hLB.2.2.1
  unfold wpX_rowsIn
  refine xn_part hP8 (fun h => br_f ba_10 (yr_no hLB.1 hLB.2.1 h ⟨rfl, zz_in rfl rfl rfl hR2⟩)) (fun p hp e => ?_)
  subst e
  have ip : vp_in (nI p) 8 := vp_in_nI (by omega) (by omega)
  have ep : (nI p).toNatClampNeg = p := nI_clamp (by omega)
  refine br_t rfl ⟨ip, yr_rows hp (by omega) hLB.1 hK hLB.2.1 ⟨?_, zz_in rfl rfl rfl hR2⟩⟩
  obtain ⟨L, hL⟩ := hI
  rw [ep, (hL p hp).2.1, pt_cnt (hL p hp)]
theorem i_vc_truncate {k : Nat} {u : SX} {v : SY} (I : i_Rel k u v) (hk : k + 4 ≤ 2048) (v1 : Int32) : wpX_truncate (fun r u' => wpY_truncate (fun r' v' => r' = r ∧ i_Rel (k + 4) u' v') v v1) u v1 := by
  refine zz_el (Q := fun u v => wpX_truncate (fun r u' => wpY_truncate (fun r' v' => r' = r ∧ i_Rel (k + 4) u' v') v v1) u v1) ?_ I
  intro K P T fg fn fh fs us ky va nx lo fi sz lk mk mv tl th te cu sl sh se ah bd hR
  have hR2 := hR
  obtain ⟨hT, hK, hLB, hI, hG⟩ := hR
  have hP8 := hLB.2.2.1
  unfold wpX_truncate wpY_truncate
  refine xn_part hP8 (fun h => br_f ba_10 ?_) (fun i hi e => ?_)
  · by_cases h0 : v1 < 0
    · exact br_t h0 ⟨rfl, zz_in rfl rfl rfl hR2⟩
    · exact br_f h0 (yp_parts hLB.1 hLB.2.1 (br_f (Int32.not_lt.mpr (h.resolve_left h0)) ⟨rfl, zz_in rfl rfl rfl hR2⟩))
  · subst e
    have ip : vp_in (nI i) 8 := vp_in_nI (by omega) (by omega)
    have ep : (nI i).toNatClampNeg = i := nI_clamp (by omega)
    obtain ⟨L, hL⟩ := hI
    have cap := pt_cap (hL i hi)
    have cnt := pt_cnt (hL i hi)
    obtain ⟨h1, h2, h3, h4, h5⟩ := hL i hi
    have eus : dl_u us (L i) = tr_u us bd K i 40 := by
      funext a
      unfold dl_u tr_u
      by_cases c : a ∈ L i
      · obtain ⟨w1, w2, w3⟩ := (h5 a).mp c
        rw [if_pos c, if_pos ⟨w1, rq_t.mpr ⟨w2, w3⟩⟩]
      · rw [if_neg c, if_neg (fun w => c ((h5 a).mpr ⟨w.1, rq_t.mp w.2⟩))]
    have hal : ∀ a, ¬ dl_u us (L i) a = 0 ↔ ¬ us a = 0 ∧ a ∉ L i := by
      intro a
      unfold dl_u
      by_cases c : a ∈ L i
      · rw [if_pos c]; exact ⟨fun w => absurd rfl w, fun w => absurd c w.2⟩
      · rw [if_neg c]; exact ⟨fun w => ⟨w, c⟩, fun w => w.1⟩
    have hcnt : cn_c (bq_b us) 40 = cn_c (bq_b (dl_u us (L i))) 40 + cn_c (rq_b us bd K i) 40 := by
      refine cn_split 40 (fun j hj => ?_)
      rw [bq_t, bq_t, rq_t, hal, h5 j]
      constructor
      · constructor
        · intro w
          by_cases c : pa_k bd (K j) = i
          · exact Or.inr ⟨w, c⟩
          · exact Or.inl ⟨w, fun w2 => c w2.2.2⟩
        · rintro (w | w)
          · exact w.1
          · exact w.1
      · rintro ⟨w, w2⟩
        exact w.2 ⟨hj, w2.1, w2.2⟩
    refine br_t rfl ⟨ip, nm_r (e' := nI (L i).length) (by rw [ep]; exact h2) ⟨ip, nm_r (e' := fi i) (by rw [ep]) (Exists.intro ((L i).length + 1) ?_)⟩⟩
    have e0 : dl_u us [] = us := by funext a; exact if_neg (List.not_mem_nil)
    suffices hw : wX_truncate_60 (fun r u' => wpY_truncate (fun r' v' => r' = r ∧ i_Rel (k + 4) u' v') (nI T, us, ky, va, bd, tl, th, te) (nI i)) (nI i) (nI (L i).length) (nI (cn_c (bq_b us) 40)) (nI P) (nI T) fg fn fh fs (dl_u us (L i)) ky va nx lo fi sz lk mk mv tl th te cu sl sh se ah by
      have hh := xt_loop cap hw (L i) [] (fi i) ((L i).length + 1) rfl h1 (by omega)
      rw [e0] at hh
      exact hh
    unfold wX_truncate_60
    refine And.intro ip (nm_r (e' := upd fi i (-1)) (by rw [ep]) (nm_r (e' := nI (cn_c (bq_b (dl_u us (L i))) 40)) ?_ ?_))
    · rw [hcnt, cnt, ba_sub (by omega), Nat.add_sub_cancel]
    refine xm_measure (p := i) (L := []) (by omega) ba_us (by decide) List.Pairwise.nil (fun lk' mk' mv' g1 g2 => ?_)
    show wpY_truncate _ _ _
    unfold wpY_truncate
    refine br_f (nI_pos (by omega)) (yp_parts hLB.1 hLB.2.1 (br_t (nI_lt hi (by omega)) (yr_rows hi (by omega) hLB.1 hK hLB.2.1 (Exists.intro (40 + 1) ?_))))
    have et : tr_u us bd K i 0 = us := by funext a; exact if_neg (fun w => absurd w.1 (by omega))
    suffices hw : (nI (cn_c (rq_b us bd K i) 40) = nI (L i).length ∧ i_Rel (k + 4) (nI (cn_c (bq_b (dl_u us (L i))) 40), nI P, nI T, fg, fn, fh, fs, dl_u us (L i), ky, va, nx, lo, upd fi i (-1), upd sz i (nI ([] : List Nat).length), lk', mk', mv', tl, th, te, cu, sl, sh, se, ah) (nI T, tr_u us bd K i 40, ky, va, bd, tl, th, te)) by
      have hh := yt_loop (post := fun r' v' => r' = nI (L i).length ∧ i_Rel (k + 4) (nI (cn_c (bq_b (dl_u us (L i))) 40), nI P, nI T, fg, fn, fh, fs, dl_u us (L i), ky, va, nx, lo, upd fi i (-1), upd sz i (nI ([] : List Nat).length), lk', mk', mv', tl, th, te, cu, sl, sh, se, ah) v') (i := i) (K := K) (by omega) hK hLB.2.1 hw 40 0 (by omega)
      rw [et] at hh
      exact hh
    refine ⟨by rw [cnt], ?_⟩
    rw [← eus]
    refine zz_in rfl rfl rfl ⟨hT, hK, hLB, ⟨fun q => if q = i then [] else L q, fun q hq => ?_⟩, hG⟩
    dsimp only
    by_cases c : q = i
    · subst c
      rw [if_pos rfl]
      refine ⟨ba_us, ba_us, g2, List.Pairwise.nil, fun a => ⟨fun w => absurd w (List.not_mem_nil), fun w => ?_⟩⟩
      have w2 := (hal a).mp w.2.1
      exact absurd ((h5 a).mpr ⟨w.1, w2.1, w.2.2⟩) w2.2
    · rw [if_neg c]
      refine pt_fr (hL q hq) (fun a _ => ⟨rfl, rfl, rfl, rfl⟩) (ba_un c) (ba_un c) (g1 q c).1 (g1 q c).2.1 (g1 q c).2.2 (fun a => ?_)
      rw [(hL q hq).2.2.2.2 a, hal a]
      constructor
      · rintro ⟨w1, w2, w3⟩
        exact ⟨w1, ⟨w2, fun w => c (w3.symm.trans ((h5 a).mp w).2.2)⟩, w3⟩
      · rintro ⟨w1, w2, w3⟩
        exact ⟨w1, w2.1, w3⟩
theorem i_vc_split {k : Nat} {u : SX} {v : SY} (I : i_Rel k u v) (hk : k + 4 ≤ 2048) (v1 : Int32) : wpX_split (fun r u' => wpY_split (fun r' v' => r' = r ∧ i_Rel (k + 4) u' v') v v1) u v1 := by
  refine zz_el (Q := fun u v => wpX_split (fun r u' => wpY_split (fun r' v' => r' = r ∧ i_Rel (k + 4) u' v') v v1) u v1) ?_ I
  intro K P T fg fn fh fs us ky va nx lo fi sz lk mk mv tl th te cu sl sh se ah bd hR
  have hR2 := hR
  obtain ⟨hT, hK, hLB, hI, hG⟩ := hR
  have hP8 := hLB.2.2.1
  have h0 := hLB.2.1
  unfold wpX_split wpY_split
  by_cases hlo : v1 < 1
  · exact br_t hlo (br_t hlo ⟨rfl, zz_in rfl rfl rfl hR2⟩)
  refine br_f hlo ?_
  rcases ba_key v1 with hb | hb | ⟨c, hc, rfl⟩
  · exact absurd (Int32.lt_iff_toInt_lt.mpr (by have := Int32.lt_iff_toInt_lt.mp hb; rw [show (0 : Int32).toInt = 0 by decide] at this; rw [show (1 : Int32).toInt = 1 by decide]; omega)) hlo
  · have h255 : 255 < v1 := Int32.not_le.mp hb.2
    exact br_f hb.2 (br_f hlo (br_t h255 ⟨rfl, zz_in rfl rfl rfl hR2⟩))
  have hc1 : 1 ≤ c := by
    rcases Nat.lt_or_ge c 1 with z | z
    · exact absurd (nI_lt (b := 1) z (by omega)) hlo
    · exact z
  have n255 : ¬ 255 < nI c := nI_nlt (a := 255) (by omega) (by omega)
  have ic : vp_in (nI c) 256 := vp_in_nI hc (by omega)
  have ec : (nI c).toNatClampNeg = c := nI_clamp (by omega)
  have hp := pa_lt hLB.1 h0 hc
  generalize hpe : pa_k bd c = p at hp
  have ip : vp_in (nI p) 8 := vp_in_nI (by omega) (by omega)
  have ep : (nI p).toNatClampNeg = p := nI_clamp (by omega)
  obtain ⟨l, hl, e1, e2, e3⟩ := hLB.2.2.2 p hp
  refine br_t (nI_le (b := 255) (by omega) (by omega)) (xp_part hLB hc ?_)
  rw [hpe]
  refine And.intro ip ?_
  rw [ep, e1]
  by_cases hz : bd c = 0
  · have hcl : l ≠ c := fun e => absurd hz (bq_t.mp (e ▸ e2))
    have hq : bq_b bd c = false := bq_f.mpr hz
    have hpc : cn_c (bq_b bd) c = p + 1 := by
      have h1 := pa_one h0 c
      unfold pa_k at hpe
      rw [cn_f hq] at hpe h1
      omega
    refine ba_eq l c (fun w => absurd w hcl) (fun _ => ba_lt P 8 (fun hP => ?_) (fun hP => ?_))
    · obtain ⟨L, hL⟩ := hI
      obtain ⟨h1, h2, h3, h4, h5⟩ := hL p hp
      have cap := pt_cap (hL p hp)
      have hadd := cn_add (q := bq_b bd) (q' := bq_b (upd bd c 1)) (k := c) hq (bq_t.mpr (by rw [ba_us]; exact ba_10)) (fun j hj => by unfold bq_b; rw [ba_un hj])
      have hpa1 : ∀ k, c ≤ k → pa_k (upd bd c 1) k = pa_k bd k + 1 := by
        intro k hk
        have := pa_one h0 k
        unfold pa_k
        rw [hadd, if_pos (by omega)]; omega
      have hpa0 : ∀ k, k < c → pa_k (upd bd c 1) k = pa_k bd k := by
        intro k hk
        unfold pa_k
        rw [hadd, if_neg (by omega)]; omega
      refine Exists.intro (0 + (P - (p + 1)) + 1) ?_
      suffices hw : ∀ n, wX_split_51 (fun r u' => wpY_split (fun r' v' => r' = r ∧ i_Rel (k + 4) u' v') (nI T, us, ky, va, bd, tl, th, te) (nI c)) (nI c) (nI p) (n + 1) (nI (p + 1)) (nI (cn_c (bq_b us) 40)) (nI P) (nI T) fg fn fh fs us ky va nx (sf_u lo (p + 1) P) (sf_u fi (p + 1) P) (sf_u sz (p + 1) P) (sf_u lk (p + 1) P) (sf_u mk (p + 1) P) (sf_u mv (p + 1) P) tl th te cu sl sh se ah by
        have hh := xs_loop hp hP hw (P - (p + 1)) 0 P (by omega) (by omega)
        rw [sf_0, sf_0, sf_0, sf_0, sf_0, sf_0] at hh
        exact hh
      intro n
      refine xs_last (L := L p) hp hP hc hK cap h4 (by rw [sf_lo (by omega)]; exact h1) (fun A B nx' fi' sz' lk' mk' mv' e hA hB cA cB f1 f2 sA sB xA xB => ?_)
      unfold wpY_split
      refine br_f hlo (br_f n255 ⟨ic, ?_⟩)
      rw [ec]
      refine br_t hz (yp_parts hLB.1 h0 (br_f (fun w => absurd (ba_im (b := 8) w (by omega) (by omega)) (by omega)) ⟨ic, nm_r (e' := upd bd c 1) (by rw [ba_vb1]) ?_⟩))
      have hb0 : bq_b (upd bd c 1) 0 = true := by
        have : bq_b (upd bd c 1) 0 = bq_b bd 0 := by unfold bq_b; rw [ba_un (by omega)]
        rw [this]; exact h0
      refine yp_part hc hb0 ⟨by rw [hpa1 c (Nat.le_refl c), hpe], ?_⟩
      have hs2 := h4
      rw [e] at hs2
      obtain ⟨s1, s2, _⟩ := List.pairwise_append.mp hs2
      have hmem : ∀ a, (a ∈ A ↔ a ∈ L p ∧ K a < c) ∧ (a ∈ B ↔ a ∈ L p ∧ c ≤ K a) := by
        intro a
        rw [e, List.mem_append]
        refine ⟨⟨fun w => ⟨Or.inl w, hA a w⟩, fun w => ?_⟩, ⟨fun w => ⟨Or.inr w, hB a w⟩, fun w => ?_⟩⟩
        · rcases w.1 with w1 | w1
          · exact w1
          · exact absurd (hB a w1) (by omega)
        · rcases w.1 with w1 | w1
          · exact absurd (hA a w1) (by omega)
          · exact w1
      refine zz_in rfl rfl rfl ⟨hT, hK, ⟨?_, hb0, by omega, ?_⟩, ⟨fun q => if q < p then L q else if q = p then A else if q = p + 1 then B else L (q - 1), fun q hq => ?_⟩, hG⟩
      · rw [hadd, if_pos hc, hLB.1]
      · intro q hq
        rcases Nat.lt_trichotomy q (p + 1) with z | z | z
        · obtain ⟨m, hm, m1, m2, m3⟩ := hLB.2.2.2 q (by omega)
          have hle : m ≤ c := (lb_le (k := c) h0 m2 m3).mpr (by omega)
          have hmc : m ≠ c := fun w => absurd hz (bq_t.mp (w ▸ m2))
          refine ⟨m, hm, ?_, ?_, ?_⟩
          · rw [ba_un (by omega), sf_lo (by omega)]; exact m1
          · exact bq_t.mpr (by rw [ba_un hmc]; exact bq_t.mp m2)
          · rw [hadd, if_neg (by omega), m3, Nat.add_zero]
        · subst z
          refine ⟨c, hc, ba_us, bq_t.mpr (by rw [ba_us]; exact ba_10), ?_⟩
          rw [hadd, if_neg (by omega), hpc]
        · obtain ⟨m, hm, m1, m2, m3⟩ := hLB.2.2.2 (q - 1) (by omega)
          have hle : ¬ m ≤ c := fun w => absurd ((lb_le (k := c) h0 m2 m3).mp w) (by omega)
          refine ⟨m, hm, ?_, ?_, ?_⟩
          · rw [ba_un (by omega), sf_hi (by omega) (by omega)]; exact m1
          · exact bq_t.mpr (by rw [ba_un (by omega)]; exact bq_t.mp m2)
          · rw [hadd, if_pos (by omega), m3]; omega
      · dsimp only
        have hfar : ∀ q, q < P → q ≠ p → ∀ a, a ∈ L q → nx' a = nx a ∧ ky a = ky a ∧ va a = va a ∧ K a = K a := by
          intro q hq hqp a ha
          refine ⟨f1 a (fun w => hqp ?_), rfl, rfl, rfl⟩
          rw [← ((h5 a).mp w).2.2, ← (((hL q hq).2.2.2.2 a).mp ha).2.2]
        have hab : ∀ a, c ≤ K a → p ≤ pa_k bd (K a) := fun a ha => by
          have := pa_mono (bd := bd) ha
          omega
        have hbe : ∀ a, K a < c → pa_k bd (K a) ≤ p := fun a ha => by
          have := pa_mono (bd := bd) (Nat.le_of_lt ha)
          omega
        rcases Nat.lt_trichotomy q p with z | z | z
        · rw [if_pos z]
          obtain ⟨g1, g2, g3, g4, g5⟩ := f2 q (by omega) (by omega)
          refine pt_fr (hL q (by omega)) (hfar q (by omega) (by omega)) (g1.trans (sf_lo (by omega))) (g2.trans (sf_lo (by omega))) (g3.trans (sf_lo (by omega))) (g4.trans (sf_lo (by omega))) (g5.trans (sf_lo (by omega))) (fun a => ?_)
          rw [(hL q (by omega)).2.2.2.2 a]
          rcases Nat.lt_or_ge (K a) c with y | y
          · rw [hpa0 _ y]
          · rw [hpa1 _ y]
            have := hab a y
            exact ⟨fun w => absurd w.2.2 (by omega), fun w => absurd w.2.2 (by omega)⟩
        · subst z
          rw [if_neg (by omega), if_pos rfl]
          refine ⟨cA, sA, xA, s1, fun a => ?_⟩
          rw [(hmem a).1, h5 a]
          rcases Nat.lt_or_ge (K a) c with y | y
          · rw [hpa0 _ y]
            exact ⟨fun w => w.1, fun w => ⟨w, y⟩⟩
          · rw [hpa1 _ y]
            have := hab a y
            exact ⟨fun w => absurd w.2 (by omega), fun w => absurd w.2.2 (by omega)⟩
        · rcases Nat.lt_trichotomy q (p + 1) with z2 | z2 | z2
          · omega
          · subst z2
            rw [if_neg (by omega), if_neg (by omega), if_pos rfl]
            refine ⟨cB, sB, xB, s2, fun a => ?_⟩
            rw [(hmem a).2, h5 a]
            rcases Nat.lt_or_ge (K a) c with y | y
            · rw [hpa0 _ y]
              have := hbe a y
              exact ⟨fun w => absurd w.2 (by omega), fun w => absurd w.2.2 (by omega)⟩
            · rw [hpa1 _ y]
              exact ⟨fun w => ⟨w.1.1, w.1.2.1, by omega⟩, fun w => ⟨⟨w.1, w.2.1, by omega⟩, y⟩⟩
          · rw [if_neg (by omega), if_neg (by omega), if_neg (by omega)]
            obtain ⟨g1, g2, g3, g4, g5⟩ := f2 q (by omega) (by omega)
            refine pt_fr (hL (q - 1) (by omega)) (hfar (q - 1) (by omega) (by omega)) (g1.trans (sf_hi (by omega) (by omega))) (g2.trans (sf_hi (by omega) (by omega))) (g3.trans (sf_hi (by omega) (by omega))) (g4.trans (sf_hi (by omega) (by omega))) (g5.trans (sf_hi (by omega) (by omega))) (fun a => ?_)
            rw [(hL (q - 1) (by omega)).2.2.2.2 a]
            rcases Nat.lt_or_ge (K a) c with y | y
            · rw [hpa0 _ y]
              have := hbe a y
              exact ⟨fun w => absurd w.2.2 (by omega), fun w => absurd w.2.2 (by omega)⟩
            · rw [hpa1 _ y]
              exact ⟨fun w => ⟨w.1, w.2.1, by omega⟩, fun w => ⟨w.1, w.2.1, by omega⟩⟩
    · refine br_f hlo (br_f n255 ⟨ic, ?_⟩)
      rw [ec]
      exact br_t hz (yp_parts hLB.1 h0 (br_t (show nI P = 8 by rw [show P = 8 by omega]; rfl) ⟨rfl, zz_in rfl rfl rfl hR2⟩))
  · have hq : bq_b bd c = true := bq_t.mpr hz
    have hcl : l = c := by
      refine cn_inj e2 hq ?_
      unfold pa_k at hpe
      rw [cn_t hq] at hpe
      omega
    refine br_t (by rw [hcl]) (br_f hlo (br_f n255 ⟨ic, ?_⟩))
    rw [ec]
    exact br_f hz ⟨rfl, zz_in rfl rfl rfl hR2⟩
end
section
/-! merge -/
section
variable {fr fp ft fg fn fh fs : Int32} {us ky va nx lo fi sz lk mk mv tl th te cu sl sh se ah : Nat → Int32}
theorem xg_loop {post : Int32 → SX → Prop} {i : Nat} {L : List Nat} (hl : L.length ≤ 40) (hJ : ∀ A a, L = A ++ [a] → a < 40 → wX_merge_81 post (nI i) (nI a) fr fp ft fg fn fh fs us ky va nx lo fi sz lk mk mv tl th te cu sl sh se ah) : ∀ (B A : List Nat) (a n : Nat), L = A ++ a :: B → a < 40 → sg_C nx (nx a) B (-1) → B.length < n → wX_merge_52 post (nI i) fr fp ft fg fn fh fs us ky va nx lo fi sz lk mk mv tl th te cu sl sh se ah n (nI a) (nI A.length) := by
  intro B
  induction B with
  | nil =>
    intro A a n e ha hB hn
    obtain ⟨m, rfl⟩ : ∃ m, n = m + 1 := ⟨n - 1, by omega⟩
    have ia : vp_in (nI a) 40 := vp_in_nI ha (by omega)
    have ea : (nI a).toNatClampNeg = a := nI_clamp (by omega)
    have hB' : nx a = -1 := hB
    exact br_c (fun _ => hJ A a e ha) (fun _ => ⟨ia, br_t (by rw [ea]; exact hB') (hJ A a e ha)⟩)
  | cons b B ih =>
    intro A a n e ha hB hn
    obtain ⟨m, rfl⟩ : ∃ m, n = m + 1 := ⟨n - 1, by omega⟩
    obtain ⟨eh, hb, hz⟩ := hB
    have lc : (b :: B).length = B.length + 1 := rfl
    have lc2 : (a :: b :: B).length = B.length + 2 := rfl
    have hl2 : A.length + (a :: b :: B).length ≤ 40 := by rw [e, List.length_append] at hl; exact hl
    have ia : vp_in (nI a) 40 := vp_in_nI ha (by omega)
    have ea : (nI a).toNatClampNeg = a := nI_clamp (by omega)
    have el : (A ++ [a]).length = A.length + 1 := by rw [List.length_append]; rfl
    have ea2 : (A ++ [a]) ++ b :: B = A ++ a :: b :: B := by rw [List.append_assoc]; rfl
    have hh := ih (A ++ [a]) b m (by rw [ea2]; exact e) hb hz (by omega)
    rw [el] at hh
    exact br_f (nI_ge (b := 40) (by omega) (by omega)) ⟨ia, br_f (by rw [ea, eh]; exact ba_ne1 (by omega)) ⟨ia, nm_r (e' := nI b) (by rw [ea]; exact eh) (nm_r (nI_1 _) hh)⟩⟩
theorem xg_last {post : Int32 → SX → Prop} {i P n : Nat} {L : List Nat} (hi : i < 8) (hP1 : 1 ≤ P) (hP8 : P ≤ 8) (hc : sg_C nx (fi i) L (-1)) (hL : L.length ≤ 40) (hs : L.Pairwise (fun a b => ky a ≤ ky b))
    (H : ∀ lk' mk' mv' : Nat → Int32, (∀ q, q ≠ i → lk' q = lk q ∧ mk' q = mk q ∧ mv' q = mv q) → (∀ a, a ∈ L → lk' i ≤ ky a ∧ ky a ≤ mk' i ∧ va a ≤ mv' i) → post (nI L.length) (fr, nI (P - 1), ft, fg, fn, fh, fs, us, ky, va, nx, lo, fi, upd sz i (nI L.length), lk', mk', mv', tl, th, te, cu, sl, sh, se, ah)) : wX_merge_99 post (nI i) (n + 1) (nI (P - 1)) fr (nI P) ft fg fn fh fs us ky va nx lo fi sz lk mk mv tl th te cu sl sh se ah := by
  have ip : vp_in (nI i) 8 := vp_in_nI hi (by omega)
  have ep : (nI i).toNatClampNeg = i := nI_clamp (by omega)
  refine br_t (by rw [ba_s hP1]; exact Int32.le_refl _) (nm_r (ba_s hP1) (xm_measure hi hc hL hs (fun lk' mk' mv' g1 g2 => And.intro ip ?_)))
  have hh := H lk' mk' mv' g1 g2
  rw [ep, ba_us]
  exact hh
theorem xg_move {post : Int32 → SX → Prop} {i P : Nat} (hP8 : P ≤ 8) (hJ : ∀ n, wX_merge_99 post (nI i) (n + 1) (nI (P - 1)) fr (nI P) ft fg fn fh fs us ky va nx (sd_u lo i (P - 1)) (sd_u fi i (P - 1)) (sd_u sz i (P - 1)) (sd_u lk i (P - 1)) (sd_u mk i (P - 1)) (sd_u mv i (P - 1)) tl th te cu sl sh se ah) :
    ∀ d n k, k + d = P - 1 → i < k → wX_merge_99 post (nI i) (n + d + 1) (nI k) fr (nI P) ft fg fn fh fs us ky va nx (sd_u lo i k) (sd_u fi i k) (sd_u sz i k) (sd_u lk i k) (sd_u mk i k) (sd_u mv i k) tl th te cu sl sh se ah := by
  intro d
  induction d with
  | zero => intro n k e _; rw [show k = P - 1 by omega]; exact hJ n
  | succ d ih =>
    intro n k e hi
    have hh := ih n (k + 1) (by omega) (by omega)
    refine br_f (by rw [ba_s (by omega)]; exact nI_ge (by omega) (by omega)) (xv_move (a := k + 1) (b := k) (nI_1 k) rfl (by omega) (by omega) (nm_r (nI_1 k) ?_))
    rw [sd_s hi, sd_s hi, sd_s hi, sd_s hi, sd_s hi, sd_s hi]
    exact hh
end
theorem i_vc_merge {k : Nat} {u : SX} {v : SY} (I : i_Rel k u v) (hk : k + 4 ≤ 2048) (v1 : Int32) : wpX_merge (fun r u' => wpY_merge (fun r' v' => r' = r ∧ i_Rel (k + 4) u' v') v v1) u v1 := by
  refine zz_el (Q := fun u v => wpX_merge (fun r u' => wpY_merge (fun r' v' => r' = r ∧ i_Rel (k + 4) u' v') v v1) u v1) ?_ I
  intro K P T fg fn fh fs us ky va nx lo fi sz lk mk mv tl th te cu sl sh se ah bd hR
  have hR2 := hR
  obtain ⟨hT, hK, hLB, hI, hG⟩ := hR
  have hP8 := hLB.2.2.1
  have h0 := hLB.2.1
  have hP1 := lb_1 hLB
  unfold wpX_merge
  refine xn_part hP8 (fun h => br_f ba_10 ?_) (fun i hi e => br_t rfl ?_)
  · unfold wpY_merge
    by_cases h1 : v1 < 0
    · exact br_t h1 ⟨rfl, zz_in rfl rfl rfl hR2⟩
    · refine br_f h1 (yp_parts hLB.1 h0 (br_f ?_ ⟨rfl, zz_in rfl rfl rfl hR2⟩))
      rw [ba_s hP1]
      exact Int32.not_lt.mpr (Int32.le_trans (nI_le (by omega) (by omega)) (h.resolve_left h1))
  · subst e
    have ip : vp_in (nI i) 8 := vp_in_nI (by omega) (by omega)
    have ep : (nI i).toNatClampNeg = i := nI_clamp (by omega)
    refine ba_eq i (P - 1) (fun w => ?_) (fun w => ?_) rfl (ba_s hP1)
    · unfold wpY_merge
      refine br_f (nI_pos (by omega)) (yp_parts hLB.1 h0 (br_f ?_ ⟨rfl, zz_in rfl rfl rfl hR2⟩))
      rw [ba_s hP1]
      exact nI_nlt (by omega) (by omega)
    · have hi1 : i + 1 < P := by omega
      have ip1 : vp_in (nI i + 1) 8 := by rw [nI_1]; exact vp_in_nI (by omega) (by omega)
      have ep1 : (nI i + 1).toNatClampNeg = i + 1 := by rw [nI_1]; exact nI_clamp (by omega)
      obtain ⟨L, hL⟩ := hI
      have hcap := pt_cap (hL i hi)
      obtain ⟨h1, h2, h3, h4, h5⟩ := hL i hi
      obtain ⟨j1, j2, j3, j4, j5⟩ := hL (i + 1) hi1
      obtain ⟨c, hc, e1, e2, e3⟩ := hLB.2.2.2 (i + 1) hi1
      -- the bound c goes
      have hc0 : c ≠ 0 := fun z => by subst z; exact absurd (show (0 : Nat) = i + 1 from e3) (by omega)
      have hadd := cn_add (q := bq_b (upd bd c 0)) (q' := bq_b bd) (k := c) (bq_f.mpr ba_us) e2 (fun j hj => by unfold bq_b; rw [ba_un hj])
      have hb0 : bq_b (upd bd c 0) 0 = true := by
        have : bq_b (upd bd c 0) 0 = bq_b bd 0 := by unfold bq_b; rw [ba_un (by omega)]
        rw [this]; exact h0
      have hpa1 : ∀ k, c ≤ k → pa_k bd k = pa_k (upd bd c 0) k + 1 := by
        intro k hk
        have := pa_one hb0 k
        unfold pa_k
        rw [hadd, if_pos (by omega)]; omega
      have hpa0 : ∀ k, k < c → pa_k bd k = pa_k (upd bd c 0) k := by
        intro k hk
        unfold pa_k
        rw [hadd, if_neg (by omega)]; omega
      have hle : ∀ k, c ≤ k ↔ i + 1 ≤ pa_k bd k := fun k => lb_le h0 e2 e3
      have hP' : cn_c (bq_b (upd bd c 0)) 256 = P - 1 := by
        have := hadd 256
        rw [if_pos hc, hLB.1] at this
        omega
      have hs2 : (L i ++ L (i + 1)).Pairwise (bf_B K) := by
        refine List.pairwise_append.mpr ⟨h4, j4, fun a ha b hb => Or.inl (pa_up (bd := bd) ?_)⟩
        rw [((h5 a).mp ha).2.2, ((j5 b).mp hb).2.2]
        omega
      have hm2 : ∀ a, a ∈ L i ++ L (i + 1) ↔ a < 40 ∧ ¬ us a = 0 ∧ pa_k (upd bd c 0) (K a) = i := by
        intro a
        rw [List.mem_append, h5 a, j5 a]
        have hl := hle (K a)
        rcases Nat.lt_or_ge (K a) c with y | y
        · rw [hpa0 _ y]
          have hl2 := mt hl.mpr (show ¬ _ by omega)
          rw [hpa0 _ y] at hl2
          constructor
          · rintro (w | w)
            · exact w
            · exact absurd w.2.2 (by omega)
          · intro w; exact Or.inl w
        · have hl2 := hl.mp y
          rw [hpa1 _ y] at hl2
          rw [hpa1 _ y]
          constructor
          · rintro (w | w)
            · exact absurd w.2.2 (by omega)
            · exact ⟨w.1, w.2.1, by omega⟩
          · intro w; exact Or.inr ⟨w.1, w.2.1, by omega⟩
      have hcap2 : (L i ++ L (i + 1)).length ≤ 40 := cn_cap (bf_nodup hs2) (fun a h => ((hm2 a).mp h).1)
      have fin : ∀ nx' fi' : Nat → Int32, sg_C nx' (fi' i) (L i ++ L (i + 1)) (-1) → (∀ a, a ∉ L i → nx' a = nx a) → (∀ q, q ≠ i → fi' q = fi q) → ∃ n99, wX_merge_99 (fun r u' => wpY_merge (fun r' v' => r' = r ∧ i_Rel (k + 4) u' v') (nI T, us, ky, va, bd, tl, th, te) (nI i)) (nI i) n99 (nI (i + 1)) (nI (cn_c (bq_b us) 40)) (nI P) (nI T) fg fn fh fs us ky va nx' lo fi' sz lk mk mv tl th te cu sl sh se ah := by
        intro nx' fi' hch f1 f2
        refine ⟨0 + (P - 1 - (i + 1)) + 1, ?_⟩
        suffices hw : ∀ n, wX_merge_99 (fun r u' => wpY_merge (fun r' v' => r' = r ∧ i_Rel (k + 4) u' v') (nI T, us, ky, va, bd, tl, th, te) (nI i)) (nI i) (n + 1) (nI (P - 1)) (nI (cn_c (bq_b us) 40)) (nI P) (nI T) fg fn fh fs us ky va nx' (sd_u lo i (P - 1)) (sd_u fi' i (P - 1)) (sd_u sz i (P - 1)) (sd_u lk i (P - 1)) (sd_u mk i (P - 1)) (sd_u mv i (P - 1)) tl th te cu sl sh se ah by
          have hh := xg_move hP8 hw (P - 1 - (i + 1)) 0 (i + 1) (by omega) (by omega)
          rw [sd_0, sd_0, sd_0, sd_0, sd_0, sd_0] at hh
          exact hh
        intro n
        refine xg_last (L := L i ++ L (i + 1)) (by omega) hP1 hP8 (by rw [sd_lo (Nat.le_refl i)]; exact hch) hcap2 (pt_key hK hs2) (fun lk' mk' mv' g1 g2 => ?_)
        unfold wpY_merge
        refine br_f (nI_pos (by omega)) (yp_parts hLB.1 h0 (br_t (by rw [ba_s hP1]; exact nI_lt (by omega) (by omega)) ?_))
        rw [nI_1]
        refine yb_bound (fun c2 hc2 q2 e4 => ?_) (fun h => absurd (by rw [e3]) (h c hc e2))
        have hcn2 := cn_le (bq_b bd) c2
        have e5 : c2 = c := cn_inj q2 e2 (by rw [e3]; exact ba_im e4 (by omega) (by omega))
        subst e5
        have ic : vp_in (nI c2) 256 := vp_in_nI hc (by omega)
        have ec : (nI c2).toNatClampNeg = c2 := nI_clamp (by omega)
        refine And.intro ic (nm_r (e' := upd bd c2 0) (by rw [ec, ba_vb0]) (yr_rows (P := P - 1) (K := K) (by omega) (by omega) hP' hK hb0 ⟨?_, ?_⟩))
        · rw [cn_len (bf_nodup hs2) (fun a => by rw [hm2 a, ← rq_t])]
        · have hfar : ∀ q, q < P → q ≠ i → ∀ a, a ∈ L q → nx' a = nx a ∧ ky a = ky a ∧ va a = va a ∧ K a = K a := by
            intro q hq hqi a ha
            refine ⟨f1 a (fun w => hqi ?_), rfl, rfl, rfl⟩
            rw [← ((h5 a).mp w).2.2, ← (((hL q hq).2.2.2.2 a).mp ha).2.2]
          refine zz_in rfl rfl rfl ⟨hT, hK, ⟨hP', hb0, by omega, ?_⟩, ⟨fun q => if q < i then L q else if q = i then L i ++ L (i + 1) else L (q + 1), fun q hq => ?_⟩, hG⟩
          · intro q hq
            rcases Nat.lt_or_ge i q with z | z
            · obtain ⟨m, hm, m1, m2, m3⟩ := hLB.2.2.2 (q + 1) (by omega)
              have hlt : c2 < m := by
                rcases Nat.lt_or_ge c2 m with y | y
                · exact y
                · have := cn_mono (bq_b bd) y
                  omega
              refine ⟨m, hm, ?_, ?_, ?_⟩
              · rw [sd_hi z hq]; exact m1
              · exact bq_t.mpr (by rw [ba_un (by omega)]; exact bq_t.mp m2)
              · have := hadd m
                rw [if_pos hlt, m3] at this
                omega
            · obtain ⟨m, hm, m1, m2, m3⟩ := hLB.2.2.2 q (by omega)
              have hlt : m < c2 := by
                rcases Nat.lt_or_ge m c2 with y | y
                · exact y
                · have := cn_mono (bq_b bd) y
                  omega
              refine ⟨m, hm, ?_, ?_, ?_⟩
              · rw [sd_lo z]; exact m1
              · exact bq_t.mpr (by rw [ba_un (by omega)]; exact bq_t.mp m2)
              · have := hadd m
                rw [if_neg (by omega), m3] at this
                omega
          · dsimp only
            rcases Nat.lt_trichotomy q i with z | z | z
            · rw [if_pos z]
              obtain ⟨k1, k2, k3⟩ := g1 q (by omega)
              refine pt_fr (hL q (by omega)) (hfar q (by omega) (by omega)) ((sd_lo (by omega)).trans (f2 q (by omega))) ((ba_un (by omega)).trans (sd_lo (by omega))) (k1.trans (sd_lo (by omega))) (k2.trans (sd_lo (by omega))) (k3.trans (sd_lo (by omega))) (fun a => ?_)
              rw [(hL q (by omega)).2.2.2.2 a]
              have hl := hle (K a)
              rcases Nat.lt_or_ge (K a) c2 with y | y
              · rw [hpa0 _ y]
              · have hl2 := hl.mp y
                rw [hpa1 _ y] at hl2
                rw [hpa1 _ y]
                exact ⟨fun w => absurd w.2.2 (by omega), fun w => absurd w.2.2 (by omega)⟩
            · subst z
              rw [if_neg (by omega), if_pos rfl]
              refine ⟨?_, ba_us, g2, hs2, hm2⟩
              rw [sd_lo (Nat.le_refl q)]; exact hch
            · rw [if_neg (by omega), if_neg (by omega)]
              obtain ⟨k1, k2, k3⟩ := g1 q (by omega)
              refine pt_fr (hL (q + 1) (by omega)) (hfar (q + 1) (by omega) (by omega)) ((sd_hi z hq).trans (f2 (q + 1) (by omega))) ((ba_un (by omega)).trans (sd_hi z hq)) (k1.trans (sd_hi z hq)) (k2.trans (sd_hi z hq)) (k3.trans (sd_hi z hq)) (fun a => ?_)
              rw [(hL (q + 1) (by omega)).2.2.2.2 a]
              have hl := hle (K a)
              rcases Nat.lt_or_ge (K a) c2 with y | y
              · have hl2 := mt hl.mpr (show ¬ _ by omega)
                rw [hpa0 _ y] at hl2
                rw [hpa0 _ y]
                exact ⟨fun w => absurd w.2.2 (by omega), fun w => absurd w.2.2 (by omega)⟩
              · rw [hpa1 _ y]
                exact ⟨fun w => ⟨w.1, w.2.1, by omega⟩, fun w => ⟨w.1, w.2.1, by omega⟩⟩
      refine And.intro ip (nm_r (e' := fi i) (by rw [ep]) ?_)
      cases hLi : L i with
      | nil =>
        rw [hLi] at h1
        refine br_t h1 ⟨ip1, ip, nm_r (e' := upd fi i (fi (i + 1))) (by rw [ep, ep1]) (nm_r (nI_1 i) ?_)⟩
        refine fin nx (upd fi i (fi (i + 1))) ?_ (fun a _ => rfl) (fun q hq => ba_un hq)
        rw [hLi, ba_us]
        exact j1
      | cons b B =>
        have h1' := h1
        rw [hLi] at h1 hcap
        obtain ⟨w1, w2, w3⟩ := h1
        rw [w1]
        refine br_f (ba_ne1 (by omega)) (Exists.intro (B.length + 1) (xg_loop (L := b :: B) hcap (fun A a e ha => ?_) B [] b (B.length + 1) rfl w2 w3 (by omega)))
        have ia : vp_in (nI a) 40 := vp_in_nI ha (by omega)
        have ea : (nI a).toNatClampNeg = a := nI_clamp (by omega)
        unfold wX_merge_81
        refine And.intro ip1 ⟨ia, nm_r (e' := upd nx a (fi (i + 1))) (by rw [ep1, ea]) (nm_r (nI_1 i) ?_)⟩
        refine fin (upd nx a (fi (i + 1))) fi ?_ (fun x hx => ba_un (fun z => hx (by rw [hLi, e, z]; exact List.mem_append.mpr (Or.inr (List.mem_cons_self ..))))) (fun q _ => rfl)
        have hLi2 : L i = A ++ [a] := hLi.trans e
        rw [hLi2] at h1' hs2 ⊢
        exact sg_del1 h1' j1 (bf_nodup hs2)
end
section
/-! cuts and segments -/
theorem ba_pred {x : Int32} (h : 0 ≤ x.toInt) : (x - 1).toInt = x.toInt - 1 := by
  have h1 : (1 : Int32).toInt = 1 := by decide
  have h2 := x.toInt_lt
  rw [Int32.toInt_sub, h1]
  exact Int.bmod_eq_of_le (by omega) (by omega)
theorem ba_succ {x : Int32} (h : 0 ≤ x.toInt) (h' : x.toInt ≤ 255) : (x + 1).toInt = x.toInt + 1 := by
  have h1 : (1 : Int32).toInt = 1 := by decide
  rw [Int32.toInt_add, h1]
  exact Int.bmod_eq_of_le (by omega) (by omega)
/-- the first n cuts stand in order; their values are those of V -/
def cs_C (c : Nat → Int32) (n : Nat) (V : Int → Prop) : Prop :=
  (∀ i j, i < j → j < n → (c i).toInt ≤ (c j).toInt) ∧ (∀ j, j < n → V (c j).toInt) ∧ ∀ x, V x → ∃ j, j < n ∧ (c j).toInt = x
theorem cs_ins {c c' : Nat → Int32} {n i : Nat} {x : Int32} {V : Int → Prop} (h : cs_C c n V) (hi : i ≤ n) (h1 : ∀ j, j < i → (c j).toInt ≤ x.toInt) (h2 : ∀ j, i ≤ j → j < n → x.toInt ≤ (c j).toInt)
    (e1 : ∀ j, j < i → c' j = c j) (e2 : c' i = x) (e3 : ∀ j, i < j → j ≤ n → c' j = c (j - 1)) : cs_C c' (n + 1) (fun y => V y ∨ y = x.toInt) := by
  obtain ⟨s1, s2, s3⟩ := h
  refine ⟨fun a b hab hb => ?_, fun j hj => ?_, fun y hy => ?_⟩
  · rcases Nat.lt_trichotomy a i with za | za | za
    · rw [e1 a za]
      rcases Nat.lt_trichotomy b i with zb | zb | zb
      · rw [e1 b zb]; exact s1 a b hab (by omega)
      · rw [zb, e2]; exact h1 a za
      · rw [e3 b zb (by omega)]
        rcases Nat.lt_or_ge a (b - 1) with z | z
        · exact s1 a (b - 1) z (by omega)
        · omega
    · rw [za, e2, e3 b (by omega) (by omega)]
      exact h2 (b - 1) (by omega) (by omega)
    · rw [e3 a za (by omega), e3 b (by omega) (by omega)]
      exact s1 (a - 1) (b - 1) (by omega) (by omega)
  · rcases Nat.lt_trichotomy j i with z | z | z
    · rw [e1 j z]; exact Or.inl (s2 j (by omega))
    · rw [z, e2]; exact Or.inr rfl
    · rw [e3 j z (by omega)]; exact Or.inl (s2 (j - 1) (by omega))
  · rcases hy with hy | hy
    · obtain ⟨j, hj, e⟩ := s3 y hy
      rcases Nat.lt_or_ge j i with z | z
      · exact ⟨j, by omega, by rw [e1 j z]; exact e⟩
      · exact ⟨j + 1, by omega, by rw [e3 (j + 1) (by omega) (by omega)]; exact e⟩
    · exact ⟨i, by omega, by rw [e2, hy]⟩
/-- the cuts that the first t terms ask for -/
def vw_V (tl th : Nat → Int32) (t : Nat) (V : Int → Prop) : Prop :=
  V 0 ∧ (∀ y, V y → 0 ≤ y ∧ y ≤ 256) ∧ ∀ s, s < t → ∀ l h : Int, ((l = (tl s).toInt ∧ 0 ≤ l) ∨ (l = 0 ∧ (tl s).toInt < 0)) → ((h = (th s).toInt ∧ h ≤ 255) ∨ (h = 255 ∧ 255 < (th s).toInt)) → l ≤ h → V l ∧ V (h + 1)
theorem vw_up {tl th : Nat → Int32} {t : Nat} {V : Int → Prop} {x : Int} (h : vw_V tl th t V) (hx : 0 ≤ x ∧ x ≤ 256) : vw_V tl th t (fun y => V y ∨ y = x) := by
  obtain ⟨h1, h2, h3⟩ := h
  refine ⟨Or.inl h1, fun y hy => ?_, fun s hs l h' a b c => ⟨Or.inl (h3 s hs l h' a b c).1, Or.inl (h3 s hs l h' a b c).2⟩⟩
  rcases hy with hy | hy
  · exact h2 y hy
  · rw [hy]; exact hx

section
variable {fr fp ft fg fn fh fs : Int32} {us ky va nx lo fi sz lk mk mv tl th te cu sl sh se ah : Nat → Int32}
theorem xq_loop {post : Int32 → SX → Prop} {n : Nat} {x : Int32} {c : Nat → Int32} (hn : n < 10) (hs : ∀ i j, i < j → j < n → (c i).toInt ≤ (c j).toInt)
    (H : ∀ (i : Nat) (cu' : Nat → Int32), i ≤ n → (∀ j, j < i → (c j).toInt ≤ x.toInt) → (∀ j, i ≤ j → j < n → x.toInt ≤ (c j).toInt) → (∀ j, j < i → cu' j = c j) → cu' i = x → (∀ j, i < j → j ≤ n → cu' j = c (j - 1)) → post (nI (n + 1)) (fr, fp, ft, fg, fn, fh, fs, us, ky, va, nx, lo, fi, sz, lk, mk, mv, tl, th, te, cu', sl, sh, se, ah)) :
    ∀ (i : Nat) (cu : Nat → Int32), i ≤ n → (∀ j, j < i → cu j = c j) → (∀ j, i < j → j ≤ n → cu j = c (j - 1)) → (∀ j, i ≤ j → j < n → x.toInt ≤ (c j).toInt) → ∀ m, i < m → wX_addCut_2 post (nI n) x fr fp ft fg fn fh fs m (nI i) us ky va nx lo fi sz lk mk mv tl th te cu sl sh se ah := by
  intro i
  induction i with
  | zero =>
    intro cu _ f1 f2 f3 m hm
    obtain ⟨m, rfl⟩ : ∃ m', m = m' + 1 := ⟨m - 1, by omega⟩
    have i0 : vp_in (nI 0) 10 := vp_in_nI (by omega) (by omega)
    have e0 : (nI 0).toNatClampNeg = 0 := nI_clamp (by omega)
    refine br_t (nI_le (a := 0) (b := 0) (by omega) (by omega)) (And.intro i0 (nm_r (e' := upd cu 0 x) (by rw [e0]) ?_))
    rw [nI_1]
    exact H 0 (upd cu 0 x) (by omega) (fun j hj => absurd hj (by omega)) f3 (fun j hj => absurd hj (by omega)) ba_us (fun j h1 h2 => by rw [ba_un (by omega)]; exact f2 j h1 h2)
  | succ i ih =>
    intro cu hi f1 f2 f3 m hm
    obtain ⟨m, rfl⟩ : ∃ m', m = m' + 1 := ⟨m - 1, by omega⟩
    have ii : vp_in (nI (i + 1)) 10 := vp_in_nI (by omega) (by omega)
    have ei : (nI (i + 1)).toNatClampNeg = i + 1 := nI_clamp (by omega)
    have ij : vp_in (nI (i + 1) - 1) 10 := by rw [nI_pred]; exact vp_in_nI (by omega) (by omega)
    have ej : (nI (i + 1) - 1).toNatClampNeg = i := by rw [nI_pred]; exact nI_clamp (by omega)
    have ec : cu (nI (i + 1) - 1).toNatClampNeg = c i := by rw [ej]; exact f1 i (by omega)
    refine br_f (nI_nle (by omega) (by omega)) ⟨ij, ?_⟩
    by_cases w : c i ≤ x
    · refine br_t (by rw [ec]; exact w) (And.intro ii (nm_r (e' := upd cu (i + 1) x) (by rw [ei]) ?_))
      rw [nI_1]
      have w' := Int32.le_iff_toInt_le.mp w
      refine H (i + 1) (upd cu (i + 1) x) hi (fun j hj => ?_) f3 (fun j hj => by rw [ba_un (by omega)]; exact f1 j hj) ba_us (fun j h1 h2 => by rw [ba_un (by omega)]; exact f2 j h1 h2)
      rcases Nat.lt_or_ge j i with z | z
      · have := hs j i z (by omega); omega
      · rw [show j = i by omega]; exact w'
    · have w' := Int32.lt_iff_toInt_lt.mp (Int32.not_le.mp w)
      refine br_f (by rw [ec]; exact w) ⟨ij, ii, nm_r (e' := upd cu (i + 1) (c i)) (by rw [ei, ec]) (nm_r (ba_m1 i) ?_)⟩
      refine ih (upd cu (i + 1) (c i)) (by omega) (fun j hj => by rw [ba_un (by omega)]; exact f1 j (by omega)) (fun j h1 h2 => ?_) (fun j h1 h2 => ?_) m (by omega)
      · by_cases z : j = i + 1
        · subst z; rw [ba_us]; rfl
        · rw [ba_un z]; exact f2 j (by omega) h2
      · rcases Nat.lt_or_ge i j with z | z
        · exact f3 j (by omega) h2
        · rw [show j = i by omega]; omega
theorem xq_add {post : Int32 → SX → Prop} {n : Nat} {x y : Int32} {V : Int → Prop} (hy : y = nI n) (hn : n < 10) (h : cs_C cu n V) (H : ∀ cu' : Nat → Int32, cs_C cu' (n + 1) (fun y => V y ∨ y = x.toInt) → post (nI (n + 1)) (fr, fp, ft, fg, fn, fh, fs, us, ky, va, nx, lo, fi, sz, lk, mk, mv, tl, th, te, cu', sl, sh, se, ah)) : wpX_addCut post (fr, fp, ft, fg, fn, fh, fs, us, ky, va, nx, lo, fi, sz, lk, mk, mv, tl, th, te, cu, sl, sh, se, ah) y x := by
  subst hy
  exact Exists.intro (n + 1) (xq_loop (c := cu) hn h.1 (fun i cu' hi h1 h2 e1 e2 e3 => H cu' (cs_ins h hi h1 h2 e1 e2 e3)) n cu (Nat.le_refl n) (fun _ _ => rfl) (fun j h1 h2 => absurd h1 (by omega)) (fun j h1 h2 => absurd h1 (by omega)) (n + 1) (by omega))
theorem xa_loop {post : SX → Prop} {T m : Nat} {x1 x2 : Int32} (hT : T ≤ 4) (hm : m < 10) (h0 : (∀ t, t < T → ¬ (tl t ≤ x1 ∧ x2 ≤ th t)) → post (fr, fp, nI T, fg, nI m, fh, fs, us, ky, va, nx, lo, fi, sz, lk, mk, mv, tl, th, te, cu, sl, sh, se, ah))
    (h1 : ∀ l, (∃ t, t < T ∧ tl t ≤ x1 ∧ x2 ≤ th t ∧ te t = l) → (∀ t, t < T → tl t ≤ x1 → x2 ≤ th t → l ≤ te t) → post (fr, fp, nI T, fg, nI (m + 1), fh, fs, us, ky, va, nx, lo, fi, sz, lk, mk, mv, tl, th, te, cu, upd sl m x1, upd sh m x2, upd se m l, ah)) :
    ∀ (d t : Nat) (x3 x4 : Int32), t + d = T → ((x3 = 0 ∧ ∀ s, s < t → ¬ (tl s ≤ x1 ∧ x2 ≤ th s)) ∨ (x3 = 1 ∧ (∃ s, s < t ∧ tl s ≤ x1 ∧ x2 ≤ th s ∧ te s = x4) ∧ ∀ s, s < t → tl s ≤ x1 → x2 ≤ th s → x4 ≤ te s)) → wX_addSegment_8 post x1 x2 fr fp (nI T) fg (nI m) fh fs us ky va nx lo fi sz lk mk mv tl th te cu sl sh se ah (d + 1) x3 x4 (nI t) := by
  intro d
  induction d with
  | zero =>
    intro t x3 x4 ht hi
    have et : t = T := by omega
    subst et
    refine br_t (nI_le (Nat.le_refl t) (by omega)) ?_
    rcases hi with ⟨e, hi⟩ | ⟨e, hi, hj⟩
    · subst e; exact br_t rfl (h0 hi)
    · subst e
      have im : vp_in (nI m) 10 := vp_in_nI hm (by omega)
      have em : (nI m).toNatClampNeg = m := nI_clamp (by omega)
      exact br_f ba_10 (br_t (nI_lt (b := 10) hm (by omega)) ⟨im, nm_r (e' := upd sl m x1) (by rw [em]) ⟨im, nm_r (e' := upd sh m x2) (by rw [em]) ⟨im, nm_r (e' := upd se m x4) (by rw [em]) (nm_r (nI_1 m) (h1 x4 hi hj))⟩⟩⟩)
  | succ d ih =>
    intro t x3 x4 ht hi
    have it : vp_in (nI t) 4 := vp_in_nI (by omega) (by omega)
    have et : (nI t).toNatClampNeg = t := nI_clamp (by omega)
    have skip : ¬ (tl t ≤ x1 ∧ x2 ≤ th t) → wX_addSegment_8 post x1 x2 fr fp (nI T) fg (nI m) fh fs us ky va nx lo fi sz lk mk mv tl th te cu sl sh se ah (d + 1) x3 x4 (nI (t + 1)) := by
      intro w
      refine ih (t + 1) x3 x4 (by omega) ?_
      rcases hi with ⟨e, hi⟩ | ⟨e, ⟨s, hs, hi⟩, hj⟩
      · exact Or.inl ⟨e, lt_s hi w⟩
      · exact Or.inr ⟨e, ⟨s, by omega, hi⟩, lt_s hj (fun a b => absurd ⟨a, b⟩ w)⟩
    refine br_f (nI_ge (by omega) (by omega)) ⟨it, ?_⟩
    rw [et]
    by_cases c1 : x1 < tl t
    · exact br_t c1 (nm_r (nI_1 t) (skip (fun w => Int32.not_lt.mpr w.1 c1)))
    · refine br_f c1 ⟨it, ?_⟩
      by_cases c2 : th t < x2
      · exact br_t c2 (nm_r (nI_1 t) (skip (fun w => Int32.not_lt.mpr w.2 c2)))
      · have c1' := Int32.not_lt.mp c1
        have c2' := Int32.not_lt.mp c2
        refine br_f c2 ?_
        rcases hi with ⟨e, hi⟩ | ⟨e, ⟨s, hs, hi⟩, hj⟩
        · subst e
          refine br_t rfl (And.intro it (nm_r (e' := te t) (by rw [et]) (nm_r (nI_1 t) (ih (t + 1) 1 (te t) (by omega) (Or.inr ⟨rfl, ⟨t, by omega, c1', c2', rfl⟩, lt_s (fun s hs a b => absurd ⟨a, b⟩ (hi s hs)) (fun _ _ => Int32.le_refl _)⟩)))))
        · subst e
          refine br_f ba_10 ⟨it, ?_⟩
          by_cases c3 : x4 ≤ te t
          · exact br_t c3 (nm_r (nI_1 t) (ih (t + 1) 1 x4 (by omega) (Or.inr ⟨rfl, ⟨s, by omega, hi⟩, lt_s hj (fun _ _ => c3)⟩)))
          · have c3' := Int32.le_of_lt (Int32.not_le.mp c3)
            exact br_f c3 (And.intro it (nm_r (e' := te t) (by rw [et]) (nm_r (nI_1 t) (ih (t + 1) 1 (te t) (by omega) (Or.inr ⟨rfl, ⟨t, by omega, c1', c2', rfl⟩, lt_s (fun s hs a b => Int32.le_trans c3' (hj s hs a b)) (fun _ _ => Int32.le_refl _)⟩)))))
theorem xa_seg {post : SX → Prop} {T m : Nat} {x1 x2 : Int32} (hT : T ≤ 4) (hm : m < 10) (h0 : (∀ t, t < T → ¬ (tl t ≤ x1 ∧ x2 ≤ th t)) → post (fr, fp, nI T, fg, nI m, fh, fs, us, ky, va, nx, lo, fi, sz, lk, mk, mv, tl, th, te, cu, sl, sh, se, ah))
    (h1 : ∀ l, (∃ t, t < T ∧ tl t ≤ x1 ∧ x2 ≤ th t ∧ te t = l) → (∀ t, t < T → tl t ≤ x1 → x2 ≤ th t → l ≤ te t) → post (fr, fp, nI T, fg, nI (m + 1), fh, fs, us, ky, va, nx, lo, fi, sz, lk, mk, mv, tl, th, te, cu, upd sl m x1, upd sh m x2, upd se m l, ah)) : wpX_addSegment post (fr, fp, nI T, fg, nI m, fh, fs, us, ky, va, nx, lo, fi, sz, lk, mk, mv, tl, th, te, cu, sl, sh, se, ah) x1 x2 :=
  Exists.intro (T + 1) (xa_loop hT hm h0 h1 T 0 0 0 (by omega) (Or.inl ⟨rfl, lt_0⟩))
end
/-- the segments made so far, of the keys below e -/
def si_I (tl th te sl sh se : Nat → Int32) (T m : Nat) (e : Int) : Prop :=
  (∀ s s', s < s' → s' < m → sh s < sl s') ∧ (∀ s, s < m → (sh s).toInt < e) ∧ ∀ k v : Int32, 0 ≤ k.toInt → k.toInt < e → ((∃ s, s < m ∧ sl s ≤ k ∧ k ≤ sh s ∧ se s ≤ v) ↔ ∃ t, t < T ∧ tl t ≤ k ∧ k ≤ th t ∧ te t ≤ v)
/-- between two cuts a term holds everywhere or nowhere -/
theorem vw_cut {tl th cu : Nat → Int32} {T n i t : Nat} {V : Int → Prop} (hC : cs_C cu n V) (hV : vw_V tl th T V) (hi : i + 1 < n) (ht : t < T) {k : Int} (h1 : (cu i).toInt ≤ k) (h2 : k < (cu (i + 1)).toInt) : ((tl t).toInt ≤ k ∧ k ≤ (th t).toInt) ↔ ((tl t).toInt ≤ (cu i).toInt ∧ (cu (i + 1)).toInt - 1 ≤ (th t).toInt) := by
  constructor
  · rintro ⟨a, b⟩
    have r1 := hV.2.1 _ (hC.2.1 i (by omega))
    have r2 := hV.2.1 _ (hC.2.1 (i + 1) (by omega))
    obtain ⟨l, hl, hlk⟩ : ∃ l : Int, ((l = (tl t).toInt ∧ 0 ≤ l) ∨ (l = 0 ∧ (tl t).toInt < 0)) ∧ (l ≤ k ∧ (tl t).toInt ≤ l) := by
      by_cases c : 0 ≤ (tl t).toInt
      · exact ⟨_, Or.inl ⟨rfl, c⟩, a, Int.le_refl _⟩
      · exact ⟨0, Or.inr ⟨rfl, by omega⟩, by omega, by omega⟩
    obtain ⟨h, hh, hhk⟩ : ∃ h : Int, ((h = (th t).toInt ∧ h ≤ 255) ∨ (h = 255 ∧ 255 < (th t).toInt)) ∧ (k ≤ h ∧ h ≤ (th t).toInt) := by
      by_cases c : (th t).toInt ≤ 255
      · exact ⟨_, Or.inl ⟨rfl, c⟩, b, Int.le_refl _⟩
      · exact ⟨255, Or.inr ⟨rfl, by omega⟩, by omega, by omega⟩
    obtain ⟨v1, v2⟩ := hV.2.2 t ht l h hl hh (by omega)
    obtain ⟨j1, hj1, e1⟩ := hC.2.2 _ v1
    obtain ⟨j2, hj2, e2⟩ := hC.2.2 _ v2
    constructor
    · rcases Nat.lt_trichotomy j1 i with z | z | z
      · have := hC.1 j1 i z (by omega); omega
      · rw [← z]; omega
      · rcases Nat.lt_or_ge (i + 1) j1 with y | y
        · have := hC.1 (i + 1) j1 y hj1; omega
        · rw [show j1 = i + 1 by omega] at e1; omega
    · rcases Nat.lt_or_ge (i + 1) j2 with y | y
      · have := hC.1 (i + 1) j2 y hj2; omega
      · rcases Nat.lt_trichotomy j2 i with z | z | z
        · have := hC.1 j2 i z (by omega); omega
        · rw [z] at e2; omega
        · rw [show j2 = i + 1 by omega] at e2; omega
  · rintro ⟨a, b⟩; omega
theorem si_same {tl th te sl sh se : Nat → Int32} {T m : Nat} {e e' : Int} (h : e' = e) (hs : si_I tl th te sl sh se T m e) : si_I tl th te sl sh se T m e' := by
  rw [h]; exact hs
/-- no term holds between the cuts -/
theorem si_none {tl th te sl sh se cu : Nat → Int32} {T m n i : Nat} {V : Int → Prop} {x2 : Int32} (hC : cs_C cu n V) (hV : vw_V tl th T V) (hi : i + 1 < n) (hlt : (cu i).toInt < (cu (i + 1)).toInt) (hx : x2.toInt = (cu (i + 1)).toInt - 1) (hs : si_I tl th te sl sh se T m (cu i).toInt)
    (h0 : ∀ t, t < T → ¬ (tl t ≤ cu i ∧ x2 ≤ th t)) : si_I tl th te sl sh se T m (cu (i + 1)).toInt := by
  obtain ⟨h1, h2, h3⟩ := hs
  refine ⟨h1, fun s hs => by have := h2 s hs; omega, fun k v hk hk' => ?_⟩
  by_cases c : k.toInt < (cu i).toInt
  · exact h3 k v hk c
  · constructor
    · rintro ⟨s, hs, _, b, _⟩
      have := h2 s hs
      have := Int32.le_iff_toInt_le.mp b
      omega
    · rintro ⟨t, ht, a, b, _⟩
      have := (vw_cut hC hV hi ht (k := k.toInt) (by omega) hk').mp ⟨Int32.le_iff_toInt_le.mp a, Int32.le_iff_toInt_le.mp b⟩
      exact absurd ⟨Int32.le_iff_toInt_le.mpr this.1, Int32.le_iff_toInt_le.mpr (by rw [hx]; exact this.2)⟩ (h0 t ht)
/-- the least of the terms that hold between the cuts -/
theorem si_some {tl th te sl sh se cu : Nat → Int32} {T m n i : Nat} {V : Int → Prop} {x2 l : Int32} (hC : cs_C cu n V) (hV : vw_V tl th T V) (hi : i + 1 < n) (hlt : (cu i).toInt < (cu (i + 1)).toInt) (hx : x2.toInt = (cu (i + 1)).toInt - 1) (hs : si_I tl th te sl sh se T m (cu i).toInt)
    (h4 : ∃ t, t < T ∧ tl t ≤ cu i ∧ x2 ≤ th t ∧ te t = l) (h5 : ∀ t, t < T → tl t ≤ cu i → x2 ≤ th t → l ≤ te t) : si_I tl th te (upd sl m (cu i)) (upd sh m x2) (upd se m l) T (m + 1) (cu (i + 1)).toInt := by
  obtain ⟨h1, h2, h3⟩ := hs
  refine ⟨fun s s' a b => ?_, fun s hs => ?_, fun k v hk hk' => ?_⟩
  · rw [ba_un (show s ≠ m by omega)]
    by_cases z : s' = m
    · subst z; rw [ba_us]; exact Int32.lt_iff_toInt_lt.mpr (h2 s a)
    · rw [ba_un z]; exact h1 s s' a (by omega)
  · by_cases z : s = m
    · subst z; rw [ba_us]; omega
    · rw [ba_un z]; have := h2 s (by omega); omega
  · by_cases c : k.toInt < (cu i).toInt
    · rw [← h3 k v hk c]
      constructor
      · rintro ⟨s, hs, a, b, d⟩
        by_cases z : s = m
        · subst z
          rw [ba_us] at a
          have := Int32.le_iff_toInt_le.mp a
          omega
        · rw [ba_un z] at a b d
          exact ⟨s, by omega, a, b, d⟩
      · rintro ⟨s, hs, a, b, d⟩
        have z : s ≠ m := by omega
        exact ⟨s, by omega, by rw [ba_un z]; exact a, by rw [ba_un z]; exact b, by rw [ba_un z]; exact d⟩
    · constructor
      · rintro ⟨s, hs, a, b, d⟩
        by_cases z : s = m
        · subst z
          rw [ba_us] at d
          obtain ⟨t, ht, t1, t2, t3⟩ := h4
          have := (vw_cut hC hV hi ht (k := k.toInt) (by omega) hk').mpr ⟨Int32.le_iff_toInt_le.mp t1, by rw [← hx]; exact Int32.le_iff_toInt_le.mp t2⟩
          exact ⟨t, ht, Int32.le_iff_toInt_le.mpr this.1, Int32.le_iff_toInt_le.mpr this.2, by rw [t3]; exact d⟩
        · rw [ba_un z] at b
          have := h2 s (by omega)
          have := Int32.le_iff_toInt_le.mp b
          omega
      · rintro ⟨t, ht, a, b, d⟩
        have := (vw_cut hC hV hi ht (k := k.toInt) (by omega) hk').mp ⟨Int32.le_iff_toInt_le.mp a, Int32.le_iff_toInt_le.mp b⟩
        refine ⟨m, by omega, ?_, ?_, ?_⟩
        · rw [ba_us]; exact Int32.le_iff_toInt_le.mpr (by omega)
        · rw [ba_us]; exact Int32.le_iff_toInt_le.mpr (by omega)
        · rw [ba_us]; exact Int32.le_trans (h5 t ht (Int32.le_iff_toInt_le.mpr this.1) (Int32.le_iff_toInt_le.mpr (by rw [hx]; exact this.2))) d
end
section
/-! makeSegments -/
section
variable {fr fp ft fg fn fh fs : Int32} {us ky va nx lo fi sz lk mk mv tl th te cu sl sh se ah : Nat → Int32}
theorem xz_loop {post : SX → Prop} {T n : Nat} {V : Int → Prop} (hT : T ≤ 4) (hn : n ≤ 10) (hC : cs_C cu n V) (hV : vw_V tl th T V)
    (H : ∀ (m : Nat) (sl' sh' se' : Nat → Int32), m ≤ 10 → si_I tl th te sl' sh' se' T m (cu (n - 1)).toInt → post (fr, fp, nI T, fg, nI m, fh, fs, us, ky, va, nx, lo, fi, sz, lk, mk, mv, tl, th, te, cu, sl', sh', se', ah)) :
    ∀ (d i m : Nat) (sl sh se : Nat → Int32), i + d + 1 = n → m ≤ i → si_I tl th te sl sh se T m (cu i).toInt → wX_makeSegments_121 post (nI n) (d + 1) (nI i) fr fp (nI T) fg (nI m) fh fs us ky va nx lo fi sz lk mk mv tl th te cu sl sh se ah := by
  intro d
  induction d with
  | zero =>
    intro i m sl sh se e hm hs
    refine br_t (by rw [nI_1]; exact nI_le (by omega) (by omega)) (H m sl sh se (by omega) ?_)
    rw [show n - 1 = i by omega]; exact hs
  | succ d ih =>
    intro i m sl sh se e hm hs
    have ii : vp_in (nI i) 10 := vp_in_nI (by omega) (by omega)
    have ei : (nI i).toNatClampNeg = i := nI_clamp (by omega)
    have ij : vp_in (nI i + 1) 10 := by rw [nI_1]; exact vp_in_nI (by omega) (by omega)
    have ej : (nI i + 1).toNatClampNeg = i + 1 := by rw [nI_1]; exact nI_clamp (by omega)
    refine br_f (by rw [nI_1]; exact nI_ge (by omega) (by omega)) ⟨ii, ij, ?_⟩
    rw [ei, ej]
    have hsor := hC.1 i (i + 1) (by omega) (by omega)
    by_cases c : cu (i + 1) ≤ cu i
    · have c' := Int32.le_iff_toInt_le.mp c
      exact br_t c (nm_r (nI_1 i) (ih (i + 1) m sl sh se (by omega) (by omega) (si_same (by omega) hs)))
    · have c' := Int32.lt_iff_toInt_lt.mp (Int32.not_le.mp c)
      have r1 := hV.2.1 _ (hC.2.1 (i + 1) (by omega))
      have hx : (cu (i + 1) - 1).toInt = (cu (i + 1)).toInt - 1 := ba_pred r1.1
      refine br_f c ⟨ii, ij, xa_seg hT (by omega) (fun h0 => nm_r (nI_1 i) (ih (i + 1) m sl sh se (by omega) (by omega) (si_none hC hV (by omega) c' hx hs h0))) (fun l h4 h5 => nm_r (nI_1 i) (ih (i + 1) (m + 1) _ _ _ (by omega) (by omega) (si_some hC hV (by omega) c' hx hs h4 h5)))⟩
theorem xz_27 {post : SX → Prop} {T : Nat} (hT : T ≤ 4)
    (hJ : ∀ (n : Nat) (cu' : Nat → Int32) (V : Int → Prop), 0 < n → n ≤ 10 → cs_C cu' n V → vw_V tl th T V → V 256 → ∃ n121, wX_makeSegments_121 post (nI n) n121 0 fr fp (nI T) fg fn fh fs us ky va nx lo fi sz lk mk mv tl th te cu' sl sh se ah) :
    ∀ (d t n : Nat) (cu : Nat → Int32) (V : Int → Prop), t + d = T → n ≤ 1 + 2 * t → cs_C cu n V → vw_V tl th t V → wX_makeSegments_27 post (d + 1) (nI n) (nI t) fr fp (nI T) fg fn fh fs us ky va nx lo fi sz lk mk mv tl th te cu sl sh se ah := by
  intro d
  induction d with
  | zero =>
    intro t n cu V ht hn hC hV
    have et : t = T := by omega
    subst et
    refine br_t (nI_le (Nat.le_refl t) (by omega)) (xq_add rfl (by omega) hC (fun cu' hC' => ?_))
    refine hJ (n + 1) cu' _ (by omega) (by omega) hC' (vw_up hV (by rw [ba_lit256]; omega)) (Or.inr (by rw [ba_lit256]))
  | succ d ih =>
    intro t n cu V ht hn hC hV
    have it : vp_in (nI t) 4 := vp_in_nI (by omega) (by omega)
    have et : (nI t).toNatClampNeg = t := nI_clamp (by omega)
    have last : ∀ x3 z0 : Int32, ((x3.toInt = (tl t).toInt ∧ 0 ≤ x3.toInt) ∨ (x3.toInt = 0 ∧ (tl t).toInt < 0)) → ((z0.toInt = (th t).toInt ∧ z0.toInt ≤ 255) ∨ (z0.toInt = 255 ∧ 255 < (th t).toInt)) → wX_makeSegments_79 post (wX_makeSegments_27 post (d + 1)) (nI n) (nI t) x3 z0 fr fp (nI T) fg fn fh fs us ky va nx lo fi sz lk mk mv tl th te cu sl sh se ah := by
      intro x3 z0 hx hz
      unfold wX_makeSegments_79
      by_cases c : z0 < x3
      · have c' := Int32.lt_iff_toInt_lt.mp c
        refine br_t c (nm_r (nI_1 t) (ih (t + 1) n cu V (by omega) (by omega) hC ⟨hV.1, hV.2.1, fun s hs => ?_⟩))
        rcases Nat.lt_or_ge s t with y | y
        · exact hV.2.2 s y
        · rw [show s = t by omega]
          intro l h a b e
          omega
      · have c' := Int32.le_iff_toInt_le.mp (Int32.not_lt.mp c)
        have hz1 : (z0 + 1).toInt = z0.toInt + 1 := ba_succ (by omega) (by omega)
        refine br_f c (xq_add rfl (by omega) hC (fun cu1 hC1 => xq_add rfl (by omega) hC1 (fun cu2 hC2 => nm_r (nI_1 t) (ih (t + 1) (n + 1 + 1) cu2 _ (by omega) (by omega) hC2 ?_))))
        have hV2 := vw_up (vw_up hV (x := x3.toInt) (by omega)) (x := (z0 + 1).toInt) (by omega)
        refine ⟨hV2.1, hV2.2.1, fun s hs => ?_⟩
        rcases Nat.lt_or_ge s t with y | y
        · exact hV2.2.2 s y
        · rw [show s = t by omega]
          intro l h a b e
          exact ⟨Or.inl (Or.inr (by omega)), Or.inr (by omega)⟩
    have mid : ∀ x3 : Int32, ((x3.toInt = (tl t).toInt ∧ 0 ≤ x3.toInt) ∨ (x3.toInt = 0 ∧ (tl t).toInt < 0)) → wX_makeSegments_54 post (wX_makeSegments_27 post (d + 1)) (nI n) (nI t) x3 fr fp (nI T) fg fn fh fs us ky va nx lo fi sz lk mk mv tl th te cu sl sh se ah := by
      intro x3 hx
      unfold wX_makeSegments_54
      refine And.intro it ?_
      rw [et]
      by_cases c : th t ≤ 255
      · have c' := Int32.le_iff_toInt_le.mp c
        rw [ba_lit255] at c'
        exact br_t c ⟨it, last x3 (th t) hx (Or.inl ⟨rfl, c'⟩)⟩
      · have c' := Int32.lt_iff_toInt_lt.mp (Int32.not_le.mp c)
        rw [ba_lit255] at c'
        exact br_f c (last x3 255 hx (Or.inr ⟨ba_lit255, c'⟩))
    refine br_f (nI_ge (by omega) (by omega)) ⟨it, ?_⟩
    rw [et]
    by_cases c : 0 ≤ tl t
    · have c' := Int32.le_iff_toInt_le.mp c
      rw [ba_lit0] at c'
      exact br_t c ⟨it, mid (tl t) (Or.inl ⟨rfl, c'⟩)⟩
    · have c' := Int32.lt_iff_toInt_lt.mp (Int32.not_le.mp c)
      rw [ba_lit0] at c'
      exact br_f c (mid 0 (Or.inr ⟨ba_lit0, c'⟩))
theorem xz_make {post : SX → Prop} {T : Nat} (hT : T ≤ 4) (hG : ¬ fg = 0 → se_G fn sl sh se tl th te T)
    (H : ∀ (fg' fn' : Int32) (cu' sl' sh' se' : Nat → Int32), se_G fn' sl' sh' se' tl th te T → post (fr, fp, nI T, fg', fn', fh, fs, us, ky, va, nx, lo, fi, sz, lk, mk, mv, tl, th, te, cu', sl', sh', se', ah)) : wpX_makeSegments post (fr, fp, nI T, fg, fn, fh, fs, us, ky, va, nx, lo, fi, sz, lk, mk, mv, tl, th, te, cu, sl, sh, se, ah) := by
  by_cases c : fg = 0
  · refine br_t c (xq_add (n := 0) (V := fun _ => False) rfl (by omega) ⟨fun i j _ h => absurd h (by omega), fun j h => absurd h (by omega), fun x h => h.elim⟩ (fun cu' hC => Exists.intro (T + 1) ?_))
    refine xz_27 hT (fun n cu2 V hn hn2 hC2 hV2 h256 => ?_) T 0 1 cu' _ (by omega) (by omega) hC ⟨Or.inr (by rw [ba_lit0]), fun y hy => ?_, lt_0⟩
    · have e0 : (cu2 0).toInt = 0 := by
        obtain ⟨j, hj, e⟩ := hC2.2.2 0 hV2.1
        have r := hV2.2.1 _ (hC2.2.1 0 hn)
        rcases Nat.lt_or_ge 0 j with z | z
        · have := hC2.1 0 j z hj; omega
        · rw [show j = 0 by omega] at e; exact e
      have e1 : (cu2 (n - 1)).toInt = 256 := by
        obtain ⟨j, hj, e⟩ := hC2.2.2 256 h256
        have r := hV2.2.1 _ (hC2.2.1 (n - 1) (by omega))
        rcases Nat.lt_or_ge j (n - 1) with z | z
        · have := hC2.1 j (n - 1) z (by omega); omega
        · rw [show j = n - 1 by omega] at e; exact e
      refine Exists.intro (n - 1 + 1) (xz_loop (cu := cu2) hT hn2 hC2 hV2 (fun m sl' sh' se' hm hs => ?_) (n - 1) 0 0 sl sh se (by omega) (by omega) ⟨fun s s' _ h => absurd h (by omega), fun s h => absurd h (by omega), fun k v h1 h2 => absurd h2 (by omega)⟩)
      refine H 1 (nI m) cu2 sl' sh' se' ⟨m, hm, rfl, hs.1, fun k v h1 h2 => ?_⟩
      have h1' := Int32.le_iff_toInt_le.mp h1
      have h2' := Int32.le_iff_toInt_le.mp h2
      rw [ba_lit0] at h1'
      rw [ba_lit255] at h2'
      exact hs.2.2 k v h1' (by omega)
    · rcases hy with hy | hy
      · exact hy.elim
      · rw [hy, ba_lit0]; omega
  · exact br_f c (H fg fn cu sl sh se (hG c))
end
end
section
/-! mayMatch, searchPartition, search -/
def hm_M (ah : Nat → Int32) (G : List Nat) : Prop := ∀ j b, G[j]? = some b → ah j = nI b
theorem hm_snoc {ah : Nat → Int32} {G : List Nat} {b : Nat} (h : hm_M ah G) : hm_M (upd ah G.length (nI b)) (G ++ [b]) := by
  intro j c hj
  rcases Nat.lt_trichotomy j G.length with z | z | z
  · rw [List.getElem?_append_left z] at hj
    rw [ba_un (by omega)]; exact h j c hj
  · subst z
    rw [List.getElem?_concat_length] at hj
    rw [ba_us, Option.some.inj hj]
  · rw [List.getElem?_eq_none (by rw [List.length_append]; show G.length + 1 ≤ j; omega)] at hj
    exact absurd hj (by simp)
theorem cn_pos {q : Nat → Bool} {n j : Nat} (hj : j < n) (h : q j = true) : ¬ cn_c q n = 0 := by
  have := cn_mono q (show j + 1 ≤ n by omega)
  rw [cn_t h] at this
  omega
theorem tq_t {q : Nat → Bool} {bd : Nat → Int32} {K : Nat → Nat} {p a : Nat} (ha : a < 40) (hq : q a = true) (hp : pa_k bd (K a) = p) : tq_b q bd K p = true :=
  decide_eq_true (cn_pos ha (gq_t.mpr ⟨hq, hp⟩))
theorem tq_n {q : Nat → Bool} {bd : Nat → Int32} {K : Nat → Nat} {p : Nat} (h : ∀ a, a < 40 → q a = true → ¬ pa_k bd (K a) = p) : tq_b q bd K p = false :=
  decide_eq_false (fun w => w (cn_zero (fun j hj => gq_n (fun y => h j hj y.1 y.2))))
section
variable {fr fp ft fg fn fh fs : Int32} {us ky va nx lo fi sz lk mk mv tl th te cu sl sh se ah : Nat → Int32}
theorem xw_loop {post : Int32 → Prop} {p m : Nat} (hp : p < 8) (hm : m ≤ 10) (h1 : post 1) (h0 : (∀ s, s < m → ¬ (sl s ≤ mk p ∧ lk p ≤ sh s ∧ se s ≤ mv p)) → post 0) : ∀ d s : Nat, s + d = m → (∀ s', s' < s → ¬ (sl s' ≤ mk p ∧ lk p ≤ sh s' ∧ se s' ≤ mv p)) → wX_mayMatch_13 post (nI p) fr fp ft fg (nI m) fh fs us ky va nx lo fi sz lk mk mv tl th te cu sl sh se ah (d + 1) (nI s) := by
  intro d
  have ip : vp_in (nI p) 8 := vp_in_nI hp (by omega)
  have ep : (nI p).toNatClampNeg = p := nI_clamp (by omega)
  induction d with
  | zero =>
    intro s e h
    exact br_t (nI_le (by omega) (by omega)) (h0 (fun s' hs => h s' (by omega)))
  | succ d ih =>
    intro s e h
    have is : vp_in (nI s) 10 := vp_in_nI (by omega) (by omega)
    have es : (nI s).toNatClampNeg = s := nI_clamp (by omega)
    refine br_f (nI_ge (by omega) (by omega)) ⟨is, ip, ?_⟩
    rw [ep, es]
    by_cases c1 : mk p < sl s
    · exact br_t c1 (nm_r (nI_1 s) (ih (s + 1) (by omega) (lt_s h (fun w => Int32.not_lt.mpr w.1 c1))))
    · refine br_f c1 ⟨ip, is, ?_⟩
      by_cases c2 : sh s < lk p
      · exact br_t c2 (nm_r (nI_1 s) (ih (s + 1) (by omega) (lt_s h (fun w => Int32.not_lt.mpr w.2.1 c2))))
      · refine br_f c2 ⟨is, ip, ?_⟩
        by_cases c3 : mv p < se s
        · exact br_t c3 (nm_r (nI_1 s) (ih (s + 1) (by omega) (lt_s h (fun w => Int32.not_lt.mpr w.2.2 c3))))
        · exact br_f c3 h1
theorem xw_may {post : Int32 → Prop} {p m : Nat} (hp : p < 8) (hm : m ≤ 10) (h1 : post 1) (h0 : (sz p = 0 ∨ ∀ s, s < m → ¬ (sl s ≤ mk p ∧ lk p ≤ sh s ∧ se s ≤ mv p)) → post 0) : wpX_mayMatch post (fr, fp, ft, fg, nI m, fh, fs, us, ky, va, nx, lo, fi, sz, lk, mk, mv, tl, th, te, cu, sl, sh, se, ah) (nI p) := by
  have ip : vp_in (nI p) 8 := vp_in_nI hp (by omega)
  have ep : (nI p).toNatClampNeg = p := nI_clamp (by omega)
  refine And.intro ip ?_
  rw [ep]
  exact br_c (fun w => h0 (Or.inl w)) (fun _ => Exists.intro (m + 1) (xw_loop hp hm h1 (fun w => h0 (Or.inr w)) m 0 (by omega) lt_0))
theorem xr_in {post : SX → Prop} {J : Int32 → Int32 → Int32 → Int32 → (Nat → Int32) → (Nat → Int32) → (Nat → Int32) → (Nat → Int32) → (Nat → Int32) → (Nat → Int32) → (Nat → Int32) → (Nat → Int32) → (Nat → Int32) → (Nat → Int32) → (Nat → Int32) → (Nat → Int32) → (Nat → Int32) → (Nat → Int32) → (Nat → Int32) → (Nat → Int32) → (Nat → Int32) → (Nat → Int32) → Prop} {b m : Nat} {x4 : Int32} (hb : b < 40) (hm : m ≤ 10)
    (hJ : ∀ s1, s1 ≤ m → (∀ s', s' < s1 → sh s' < ky b) → (s1 < m → ky b ≤ sh s1) → wX_searchPartition_53 post J (nI b) (nI s1) x4 fr fp ft fg (nI m) fh fs us ky va nx lo fi sz lk mk mv tl th te cu sl sh se ah) : ∀ d s : Nat, s + d = m → (∀ s', s' < s → sh s' < ky b) → wX_searchPartition_24 post J (nI b) x4 fr fp ft fg (nI m) fh fs us ky va nx lo fi sz lk mk mv tl th te cu sl sh se ah (d + 1) (nI s) := by
  have ib : vp_in (nI b) 40 := vp_in_nI hb (by omega)
  have eb : (nI b).toNatClampNeg = b := nI_clamp (by omega)
  intro d
  induction d with
  | zero =>
    intro s e h
    exact br_t (nI_le (by omega) (by omega)) (hJ s (by omega) h (fun w => absurd w (by omega)))
  | succ d ih =>
    intro s e h
    have is : vp_in (nI s) 10 := vp_in_nI (by omega) (by omega)
    have es : (nI s).toNatClampNeg = s := nI_clamp (by omega)
    refine br_f (nI_ge (by omega) (by omega)) ⟨is, ib, ?_⟩
    rw [es, eb]
    exact br_c (fun w => hJ s (by omega) h (fun _ => w)) (fun w => nm_r (nI_1 s) (ih (s + 1) (by omega) (lt_s h (Int32.not_le.mp w))))
theorem xr_loop {post : SX → Prop} {m : Nat} {q : Nat → Bool} (hm : m ≤ 10) (hasc : ∀ s s', s < s' → s' < m → sh s < sl s') :
    ∀ (B G : List Nat) (h : Int32) (s i n : Nat) (ah : Nat → Int32), sg_C nx h B (-1) → B.Pairwise (fun a b => ky a ≤ ky b) → (∀ b, b ∈ B → (q b = true ↔ ∃ s, s < m ∧ sl s ≤ ky b ∧ ky b ≤ sh s ∧ se s ≤ va b)) → (∀ s', s' < s → ∀ b, b ∈ B → sh s' < ky b) → s ≤ m → hm_M ah G → G.length + B.length ≤ 40 → i + B.length ≤ 40 → B.length < n
      → (∀ ah' : Nat → Int32, hm_M ah' (G ++ B.filter q) → post (fr, fp, ft, fg, nI m, nI (G ++ B.filter q).length, fs, us, ky, va, nx, lo, fi, sz, lk, mk, mv, tl, th, te, cu, sl, sh, se, ah')) → wX_searchPartition_12 post fr fp ft fg (nI m) fs n h (nI s) (nI i) (nI G.length) us ky va nx lo fi sz lk mk mv tl th te cu sl sh se ah := by
  intro B
  induction B with
  | nil =>
    intro G h s i n ah hz _ _ _ _ hM _ hi hn H
    obtain ⟨n, rfl⟩ : ∃ n', n = n' + 1 := ⟨n - 1, by omega⟩
    have hz' : h = -1 := hz
    subst hz'
    rw [show ([] : List Nat).filter q = [] from rfl, List.append_nil] at H
    have hq := H ah hM
    exact br_c (fun _ => hq) (fun _ => br_t rfl hq)
  | cons b B ih =>
    intro G h s i n ah hz hs hq hlow hsm hM hG hi hn H
    obtain ⟨n, rfl⟩ : ∃ n', n = n' + 1 := ⟨n - 1, by omega⟩
    obtain ⟨eh, hb, hz⟩ := hz
    subst eh
    have lc : (b :: B).length = B.length + 1 := rfl
    have ib : vp_in (nI b) 40 := vp_in_nI hb (by omega)
    have eb : (nI b).toNatClampNeg = b := nI_clamp (by omega)
    obtain ⟨p1, p2⟩ := List.pairwise_cons.mp hs
    refine br_f (nI_ge (b := 40) (by omega) (by omega)) (br_f (ba_ne1 (by omega)) (Exists.intro (m - s + 1) (xr_in hb hm (fun s1 hs1 hl1 hu1 => ?_) (m - s) s (by omega) (fun s' hs' => hlow s' hs' b (List.mem_cons_self ..)))))
    have hqb := hq b (List.mem_cons_self ..)
    have hlow2 : ∀ s', s' < s1 → ∀ c, c ∈ B → sh s' < ky c := fun s' hs' c hc => Int32.lt_of_lt_of_le (hl1 s' hs') (p1 c hc)
    have skip : q b = false → wX_searchPartition_12 post fr fp ft fg (nI m) fs n (nx b) (nI s1) (nI (i + 1)) (nI G.length) us ky va nx lo fi sz lk mk mv tl th te cu sl sh se ah := by
      intro w
      rw [List.filter_cons_of_neg (by rw [w]; decide)] at H
      exact ih G (nx b) s1 (i + 1) n ah hz p2 (fun c hc => hq c (List.mem_cons_of_mem _ hc)) hlow2 hs1 hM (by omega) (by omega) (by omega) H
    have qf : ¬ (∃ s, s < m ∧ sl s ≤ ky b ∧ ky b ≤ sh s ∧ se s ≤ va b) → q b = false := by
      intro w
      cases e : q b
      · rfl
      · exact absurd (hqb.mp e) w
    -- only s1 can hold the key
    have only : ∀ s', s' < m → sl s' ≤ ky b → ky b ≤ sh s' → s' = s1 := by
      intro s' h1 h2 h3
      rcases Nat.lt_trichotomy s' s1 with z | z | z
      · exact absurd (hl1 s' z) (Int32.not_lt.mpr h3)
      · exact z
      · have := Int32.lt_of_le_of_lt (hu1 (by omega)) (hasc s1 s' z h1)
        exact absurd this (Int32.not_lt.mpr h2)
    unfold wX_searchPartition_53
    rcases Nat.lt_or_ge s1 m with y | y
    · have is : vp_in (nI s1) 10 := vp_in_nI (by omega) (by omega)
      have es : (nI s1).toNatClampNeg = s1 := nI_clamp (by omega)
      refine br_f (nI_ge (by omega) (by omega)) ⟨is, ib, ?_⟩
      rw [eb, es]
      by_cases c1 : ky b < sl s1
      · refine br_t c1 ⟨ib, nm_e (nm_r (nI_1 i) (skip (qf ?_)))⟩
        rintro ⟨s', h1, h2, h3, _⟩
        have := only s' h1 h2 h3
        subst this
        exact absurd c1 (Int32.not_lt.mpr h2)
      · refine br_f c1 ⟨ib, is, ?_⟩
        by_cases c2 : va b < se s1
        · refine br_t c2 ⟨ib, nm_e (nm_r (nI_1 i) (skip (qf ?_)))⟩
          rintro ⟨s', h1, h2, h3, h4⟩
          have := only s' h1 h2 h3
          subst this
          exact absurd c2 (Int32.not_lt.mpr h4)
        · have hbt : q b = true := hqb.mpr ⟨s1, y, Int32.not_lt.mp c1, hu1 y, Int32.not_lt.mp c2⟩
          have ig : vp_in (nI G.length) 40 := vp_in_nI (by omega) (by omega)
          have eg : (nI G.length).toNatClampNeg = G.length := nI_clamp (by omega)
          have el : (G ++ [b]).length = G.length + 1 := by rw [List.length_append]; rfl
          have eapp : G ++ b :: B.filter q = (G ++ [b]) ++ B.filter q := by rw [List.append_assoc]; rfl
          rw [List.filter_cons_of_pos hbt, eapp] at H
          have hh := ih (G ++ [b]) (nx b) s1 (i + 1) n (upd ah G.length (nI b)) hz p2 (fun c hc => hq c (List.mem_cons_of_mem _ hc)) hlow2 hs1 (hm_snoc hM) (by omega) (by omega) (by omega) H
          rw [el] at hh
          exact br_f c2 ⟨ig, nm_r (e' := upd ah G.length (nI b)) (by rw [eg]) (nm_r (nI_1 _) ⟨ib, nm_e (nm_r (nI_1 i) hh)⟩)⟩
    · refine br_t (nI_le (by omega) (by omega)) ⟨ib, nm_r (e' := nx b) (by rw [eb]) (nm_r (nI_1 i) (skip (qf ?_)))⟩
      rintro ⟨s', h1, h2, h3, _⟩
      have := only s' h1 h2 h3
      omega
theorem xh_loop {post : SX → Prop} {bd : Nat → Int32} {K : Nat → Nat} {P T m : Nat} {q : Nat → Bool} {L : Nat → List Nat} (hm : m ≤ 10) (hP : P ≤ 8) (hK : ∀ a, ky a = nI (K a) ∧ K a < 256) (hasc : ∀ s s', s < s' → s' < m → sh s < sl s')
    (hq : ∀ b, (q b = true ↔ ¬ us b = 0 ∧ ∃ s, s < m ∧ sl s ≤ ky b ∧ ky b ≤ sh s ∧ se s ≤ va b))
    (hL : ∀ p, p < P → pt_P (fun a => ¬ us a = 0) bd K ky va nx fi sz lk mk mv p (L p))
    (H : ∀ (ah' : Nat → Int32) (G : List Nat), G.Pairwise (bf_B K) → (∀ a, a ∈ G ↔ a < 40 ∧ q a = true ∧ pa_k bd (K a) < P) → hm_M ah' G → post (fr, nI P, ft, fg, nI m, nI G.length, nI (cn_c (tq_b q bd K) P), us, ky, va, nx, lo, fi, sz, lk, mk, mv, tl, th, te, cu, sl, sh, se, ah')) :
    ∀ (d p : Nat) (G : List Nat) (ah : Nat → Int32), p + d = P → G.Pairwise (bf_B K) → (∀ a, a ∈ G ↔ a < 40 ∧ q a = true ∧ pa_k bd (K a) < p) → hm_M ah G → wX_search_16 post (d + 1) (nI p) fr (nI P) ft fg (nI m) (nI G.length) (nI (cn_c (tq_b q bd K) p)) us ky va nx lo fi sz lk mk mv tl th te cu sl sh se ah := by
  intro d
  induction d with
  | zero =>
    intro p G ah e hs hm2 hM
    have ep : p = P := by omega
    subst ep
    exact br_t (nI_le (Nat.le_refl p) (by omega)) (H ah G hs hm2 hM)
  | succ d ih =>
    intro p G ah e hs hm2 hM
    have hp : p < P := by omega
    have ip : vp_in (nI p) 8 := vp_in_nI (by omega) (by omega)
    have ep : (nI p).toNatClampNeg = p := nI_clamp (by omega)
    obtain ⟨h1, h2, h3, h4, h5⟩ := hL p hp
    have cap := pt_cap (hL p hp)
    have none : (∀ a, a ∈ L p → q a = false) → tq_b q bd K p = false ∧ ∀ a, a ∈ G ↔ a < 40 ∧ q a = true ∧ pa_k bd (K a) < p + 1 := by
      intro w
      have w2 : ∀ a, a < 40 → q a = true → ¬ pa_k bd (K a) = p := by
        intro a ha hqa hpa
        have := w a ((h5 a).mpr ⟨ha, ((hq a).mp hqa).1, hpa⟩)
        rw [hqa] at this
        exact absurd this (by decide)
      refine ⟨tq_n w2, fun a => ?_⟩
      rw [hm2 a]
      constructor
      · rintro ⟨a1, a2, a3⟩; exact ⟨a1, a2, by omega⟩
      · rintro ⟨a1, a2, a3⟩
        have := w2 a a1 a2
        exact ⟨a1, a2, by omega⟩
    refine br_f (nI_ge hp (by omega)) (xw_may (by omega) hm ?_ (fun w => br_t rfl (nm_r (nI_1 p) ?_)))
    · refine br_f ba_10 (And.intro ip (nm_r (e' := fi p) (by rw [ep]) (Exists.intro ((L p).length + 1) ?_)))
      have hnd : (G ++ L p).Nodup := by
        refine List.nodup_append.mpr ⟨bf_nodup hs, bf_nodup h4, fun a ha b hb e' => ?_⟩
        subst e'
        have a1 := ((hm2 a).mp ha).2.2
        have a2 := ((h5 a).mp hb).2.2
        omega
      have hlen : G.length + (L p).length ≤ 40 := by
        have := cn_cap hnd (n := 40) (fun a ha => by
          rcases List.mem_append.mp ha with ha | ha
          · exact ((hm2 a).mp ha).1
          · exact ((h5 a).mp ha).1)
        rw [List.length_append] at this
        exact this
      refine xr_loop (q := q) hm hasc (L p) G (fi p) 0 0 ((L p).length + 1) ah h1 (pt_key hK h4) (fun b hb => ?_) (fun s' hs' => absurd hs' (by omega)) (by omega) hM hlen (by omega) (by omega) (fun ah' hM' => ?_)
      · rw [hq b]
        exact ⟨fun w => w.2, fun w => ⟨((h5 b).mp hb).2.1, w⟩⟩
      have hs' : (G ++ (L p).filter q).Pairwise (bf_B K) := by
        refine List.pairwise_append.mpr ⟨hs, List.Pairwise.filter q h4, fun a ha b hb => Or.inl (pa_up (bd := bd) ?_)⟩
        rw [((h5 b).mp (List.mem_filter.mp hb).1).2.2]
        exact ((hm2 a).mp ha).2.2
      have hm' : ∀ a, a ∈ G ++ (L p).filter q ↔ a < 40 ∧ q a = true ∧ pa_k bd (K a) < p + 1 := by
        intro a
        rw [List.mem_append, List.mem_filter, hm2 a, h5 a]
        constructor
        · rintro (w | w)
          · exact ⟨w.1, w.2.1, by omega⟩
          · exact ⟨w.1.1, w.2, by omega⟩
        · rintro ⟨w1, w2, w3⟩
          rcases Nat.lt_or_ge (pa_k bd (K a)) p with z | z
          · exact Or.inl ⟨w1, w2, z⟩
          · exact Or.inr ⟨⟨w1, ((hq a).mp w2).1, by omega⟩, w2⟩
      have hfl := List.length_filter_le q (L p)
      have hla : (G ++ (L p).filter q).length = G.length + ((L p).filter q).length := List.length_append
      refine ba_le (G ++ (L p).filter q).length G.length (fun w => nm_r (nI_1 p) ?_) (fun w => ?_)
      · have hnil : (L p).filter q = [] := List.length_eq_zero_iff.mp (by omega)
        have hno := none (fun a ha => by
          cases e' : q a
          · rfl
          · exact absurd (List.mem_filter.mpr ⟨ha, e'⟩) (by rw [hnil]; exact List.not_mem_nil))
        have hh := ih (p + 1) (G ++ (L p).filter q) ah' (by omega) hs' hm' hM'
        rw [cn_f hno.1] at hh
        exact hh
      · have htr : tq_b q bd K p = true := by
          cases hc : (L p).filter q with
          | nil => rw [hc] at hla w; have : ([] : List Nat).length = 0 := rfl; omega
          | cons a l =>
            have ha : a ∈ (L p).filter q := by rw [hc]; exact List.mem_cons_self ..
            have ha2 := List.mem_filter.mp ha
            exact tq_t ((h5 a).mp ha2.1).1 ha2.2 ((h5 a).mp ha2.1).2.2
        have hh := ih (p + 1) (G ++ (L p).filter q) ah' (by omega) hs' hm' hM'
        rw [cn_t htr] at hh
        exact nm_r (nI_1 _) (nm_r (nI_1 p) hh)
    · have hno := none (fun a ha => by
        cases e' : q a
        · rfl
        · exfalso
          rcases w with w | w
          · rw [h2] at w
            have : (L p).length = 0 := ba_im (b := 0) w (by omega) (by omega)
            rw [List.length_eq_zero_iff.mp this] at ha
            exact absurd ha (List.not_mem_nil)
          · obtain ⟨s, s1, s2, s3, s4⟩ := ((hq a).mp e').2
            obtain ⟨b1, b2, b3⟩ := h3 a ha
            exact w s s1 ⟨Int32.le_trans s2 b2, Int32.le_trans b1 s3, Int32.le_trans s4 b3⟩)
      have hh := ih (p + 1) G ah (by omega) hs hno.2 hM
      rw [cn_f hno.1] at hh
      exact hh
theorem xh_search {post : SX → Prop} {bd : Nat → Int32} {K : Nat → Nat} {P T : Nat} (hR : rr_R K P T fg fn us ky va nx lo fi sz lk mk mv tl th te sl sh se bd)
    (H : ∀ (fg' fn' : Int32) (cu' sl' sh' se' ah' : Nat → Int32) (G : List Nat), rr_R K P T fg' fn' us ky va nx lo fi sz lk mk mv tl th te sl' sh' se' bd → G.Pairwise (bf_B K) → (∀ a, a ∈ G ↔ a < 40 ∧ fq_b us ky va tl th te T a = true) → hm_M ah' G
      → post (fr, nI P, nI T, fg', fn', nI G.length, nI (cn_c (tq_b (fq_b us ky va tl th te T) bd K) 8), us, ky, va, nx, lo, fi, sz, lk, mk, mv, tl, th, te, cu', sl', sh', se', ah')) : wpX_search post (fr, nI P, nI T, fg, fn, fh, fs, us, ky, va, nx, lo, fi, sz, lk, mk, mv, tl, th, te, cu, sl, sh, se, ah) := by
  obtain ⟨hT, hK, hLB, hI, hG⟩ := hR
  unfold wpX_search
  refine xz_make hT hG (fun fg' fn' cu' sl' sh' se' hG' => ?_)
  have hG2 := hG'
  obtain ⟨m, hm, em, hasc, hseg⟩ := hG'
  obtain ⟨L, hL⟩ := hI
  subst em
  have hP8 := hLB.2.2.1
  refine Exists.intro (P + 1) (xh_loop (m := m) (q := fq_b us ky va tl th te T) (bd := bd) (K := K) (L := L) (T := T) hm hP8 hK hasc (fun b => ?_) hL (fun ah' G hs hmm hM => ?_) P 0 [] ah (by omega) List.Pairwise.nil (fun a => ⟨fun w => absurd w (List.not_mem_nil), fun w => absurd w.2.2 (by omega)⟩) (fun j b w => absurd w (by simp)))
  · rw [fq_t, hseg (ky b) (va b) (by rw [(hK b).1]; exact nI_pos' (by have := (hK b).2; omega)) (by rw [(hK b).1]; exact nI_le (b := 255) (by have := (hK b).2; omega) (by omega))]
  · have hlt : ∀ a, pa_k bd (K a) < P := fun a => pa_lt hLB.1 hLB.2.1 (hK a).2
    have h8 : ∀ d, cn_c (tq_b (fq_b us ky va tl th te T) bd K) (P + d) = cn_c (tq_b (fq_b us ky va tl th te T) bd K) P := by
      intro d
      induction d with
      | zero => rfl
      | succ d ih =>
        rw [← Nat.add_assoc, cn_f (tq_n (fun a _ _ w => by have := hlt a; omega)), ih]
    have h8' := h8 (8 - P)
    rw [show P + (8 - P) = 8 by omega] at h8'
    have hh := H fg' (nI m) cu' sl' sh' se' ah' G ⟨hT, hK, hLB, ⟨L, hL⟩, fun _ => hG2⟩ hs (fun a => by rw [hmm a]; exact ⟨fun w => ⟨w.1, w.2.1⟩, fun w => ⟨w.1, w.2, hlt a⟩⟩) hM
    rw [h8'] at hh
    exact hh
end
end
section
/-! the questions: count, sum, match, pairs, touched -/
section
variable {fr fp ft fg fn fh fs : Int32} {us ky va nx lo fi sz lk mk mv tl th te cu sl sh se ah : Nat → Int32}
theorem xo_sum {post : Int32 → SX → Prop} {G : List Nat} (hl : G.length ≤ 40) (h40 : ∀ a, a ∈ G → a < 40) (hM : hm_M ah G) (hp : post (G.foldl (fun s a => s + va a) 0) (fr, fp, ft, fg, fn, nI G.length, fs, us, ky, va, nx, lo, fi, sz, lk, mk, mv, tl, th, te, cu, sl, sh, se, ah)) : ∀ (B A : List Nat), G = A ++ B → wX_sum_8 post fr fp ft fg fn (nI G.length) fs us ky va nx lo fi sz lk mk mv tl th te cu sl sh se ah (B.length + 1) (A.foldl (fun s a => s + va a) 0) (nI A.length) := by
  intro B
  induction B with
  | nil =>
    intro A e
    rw [List.append_nil] at e
    subst e
    exact br_t (nI_le (Nat.le_refl _) (by omega)) hp
  | cons b B ih =>
    intro A e
    have lc : (b :: B).length = B.length + 1 := rfl
    have hl2 : G.length = A.length + (b :: B).length := by rw [e, List.length_append]
    have hb : b < 40 := h40 b (by rw [e]; exact List.mem_append.mpr (Or.inr (List.mem_cons_self ..)))
    have ib : vp_in (nI b) 40 := vp_in_nI hb (by omega)
    have eb : (nI b).toNatClampNeg = b := nI_clamp (by omega)
    have ia : vp_in (nI A.length) 40 := vp_in_nI (by omega) (by omega)
    have ea : (nI A.length).toNatClampNeg = A.length := nI_clamp (by omega)
    have eh : ah A.length = nI b := hM A.length b (by rw [e, List.getElem?_append_right (Nat.le_refl _), Nat.sub_self]; rfl)
    have el : (A ++ [b]).length = A.length + 1 := by rw [List.length_append]; rfl
    have eapp : (A ++ [b]) ++ B = A ++ b :: B := by rw [List.append_assoc]; rfl
    have hh := ih (A ++ [b]) (by rw [eapp]; exact e)
    rw [el, List.foldl_append] at hh
    exact br_f (nI_ge (by omega) (by omega)) ⟨ia, by rw [ea, eh]; exact ib, nm_r (e' := A.foldl (fun s a => s + va a) 0 + va b) (by rw [ea, eh, eb]) (nm_r (nI_1 _) hh)⟩
theorem xo_pairs {post : Int32 → SX → Prop} {G : List Nat} {K : Nat → Nat} (hK : ∀ a, ky a = nI (K a) ∧ K a < 256) (hs : G.Pairwise (bf_B K)) (hl : G.length ≤ 40) (h40 : ∀ a, a ∈ G → a < 40) (hM : hm_M ah G) (hp : post (nI (pr_p K G)) (fr, fp, ft, fg, fn, nI G.length, fs, us, ky, va, nx, lo, fi, sz, lk, mk, mv, tl, th, te, cu, sl, sh, se, ah)) : ∀ (B A : List Nat) (x2 : Int32), G = A ++ B → (∀ A' a, A = A' ++ [a] → x2 = nI (A'.countP (fun c => decide (K a = K c)))) → wX_pairs_10 post fr fp ft fg fn (nI G.length) fs us ky va nx lo fi sz lk mk mv tl th te cu sl sh se ah (B.length + 1) (nI (pr_p K A)) x2 (nI A.length) := by
  intro B
  induction B with
  | nil =>
    intro A x2 e _
    rw [List.append_nil] at e
    subst e
    exact br_t (nI_le (Nat.le_refl _) (by omega)) hp
  | cons b B ih =>
    intro A x2 e hx
    have lc : (b :: B).length = B.length + 1 := rfl
    have hl2 : G.length = A.length + (b :: B).length := by rw [e, List.length_append]
    have hb : b < 40 := h40 b (by rw [e]; exact List.mem_append.mpr (Or.inr (List.mem_cons_self ..)))
    have ib : vp_in (nI b) 40 := vp_in_nI hb (by omega)
    have eb : (nI b).toNatClampNeg = b := nI_clamp (by omega)
    have iA : vp_in (nI A.length) 40 := vp_in_nI (by omega) (by omega)
    have eA : (nI A.length).toNatClampNeg = A.length := nI_clamp (by omega)
    have eh : ah A.length = nI b := hM A.length b (by rw [e, List.getElem?_append_right (Nat.le_refl _), Nat.sub_self]; rfl)
    have el : (A ++ [b]).length = A.length + 1 := by rw [List.length_append]; rfl
    have eapp : (A ++ [b]) ++ B = A ++ b :: B := by rw [List.append_assoc]; rfl
    -- the next turn, when the run is known
    have go : ∀ c : Nat, A.countP (fun d => decide (K b = K d)) = c → wX_pairs_10 post fr fp ft fg fn (nI G.length) fs us ky va nx lo fi sz lk mk mv tl th te cu sl sh se ah (B.length + 1) (nI (pr_p K A + c)) (nI c) (nI (A.length + 1)) := by
      intro c hc
      have hh := ih (A ++ [b]) (nI c) (by rw [eapp]; exact e) (fun A' a h => by
        obtain ⟨h1, h2⟩ := List.append_inj' h rfl
        have h3 : b = a := by injection h2
        subst h1 h3
        rw [hc])
      rw [el, pr_snoc, hc] at hh
      exact hh
    have z0 : ∀ z : Int32, z = 0 → A.countP (fun d => decide (K b = K d)) = 0 → wX_pairs_54 post (wX_pairs_10 post fr fp ft fg fn (nI G.length) fs us ky va nx lo fi sz lk mk mv tl th te cu sl sh se ah (B.length + 1)) (nI (pr_p K A)) x2 (nI A.length) z fr fp ft fg fn (nI G.length) fs us ky va nx lo fi sz lk mk mv tl th te cu sl sh se ah := by
      intro z ez hc
      subst ez
      unfold wX_pairs_54
      exact br_t rfl (nm_r (e' := nI (pr_p K A + 0)) (by rw [Nat.add_zero, Int32.add_zero]) (nm_r (nI_1 _) (go 0 hc)))
    refine br_f (nI_ge (by omega) (by omega)) ?_
    rcases sg_snoc A with w | ⟨A', a, w⟩
    · subst w
      exact br_t (nI_le (a := 0) (b := 0) (by omega) (by omega)) (z0 0 rfl rfl)
    · subst w
      have ha : a < 40 := h40 a (by rw [e]; exact List.mem_append.mpr (Or.inl (List.mem_append.mpr (Or.inr (List.mem_cons_self ..)))))
      have ia : vp_in (nI a) 40 := vp_in_nI ha (by omega)
      have ea : (nI a).toNatClampNeg = a := nI_clamp (by omega)
      have la : (A' ++ [a]).length = A'.length + 1 := by rw [List.length_append]; rfl
      have ep : nI (A' ++ [a]).length - 1 = nI A'.length := by rw [la, nI_pred]
      have iA' : vp_in (nI A'.length) 40 := vp_in_nI (by omega) (by omega)
      have eA' : (nI A'.length).toNatClampNeg = A'.length := nI_clamp (by omega)
      have eh' : ah A'.length = nI a := hM A'.length a (by rw [e, List.append_assoc, List.getElem?_append_right (Nat.le_refl _), Nat.sub_self]; rfl)
      have e3 : ah (nI (A' ++ [a]).length).toNatClampNeg = nI b := by rw [eA, eh]
      have e4 : ah (nI (A' ++ [a]).length - 1).toNatClampNeg = nI a := by rw [ep, eA', eh']
      refine br_f (nI_nle (by omega) (by omega)) ⟨iA, by rw [e3]; exact ib, by rw [ep]; exact iA', by rw [e4]; exact ia, ?_⟩
      rw [e3, e4, ea, eb, (hK a).1, (hK b).1]
      have ka := (hK a).2
      have kb := (hK b).2
      have hx' := hx A' a rfl
      refine ba_eq (K b) (K a) (fun w => ?_) (fun w => z0 0 rfl (pr_diff (e ▸ hs) w))
      have hg := go _ (pr_same w)
      unfold wX_pairs_54
      refine br_f ba_10 (nm_r (e' := nI (A'.countP (fun c => decide (K a = K c)) + 1)) (by rw [hx', nI_1]) (nm_r (nI_add _ _) (nm_r (nI_1 _) hg)))
end
theorem hm_len {G : List Nat} {q : Nat → Bool} {K : Nat → Nat} (hs : G.Pairwise (bf_B K)) (hm : ∀ a, a ∈ G ↔ a < 40 ∧ q a = true) : G.length ≤ 40 :=
  cn_cap (bf_nodup hs) (fun a ha => ((hm a).mp ha).1)
theorem i_vc_count {k : Nat} {u : SX} {v : SY} (I : i_Rel k u v) (hk : k + 4 ≤ 2048) : wpX_count (fun r u' => wpY_count (fun r' => r' = r ∧ i_Rel (k + 4) u' v) v) u := by
  refine zz_el (Q := fun u v => wpX_count (fun r u' => wpY_count (fun r' => r' = r ∧ i_Rel (k + 4) u' v) v) u) ?_ I
  intro K P T fg fn fh fs us ky va nx lo fi sz lk mk mv tl th te cu sl sh se ah bd hR
  have hR2 := hR
  obtain ⟨hT, hK, hLB, hI, hG⟩ := hR
  unfold wpX_count
  refine xh_search hR2 (fun fg' fn' cu' sl' sh' se' ah' G hR' hs hm hM => ?_)
  exact yc_count hT ⟨by rw [cn_len (bf_nodup hs) hm], zz_in rfl rfl rfl hR'⟩
theorem i_vc_touched {k : Nat} {u : SX} {v : SY} (I : i_Rel k u v) (hk : k + 4 ≤ 2048) : wpX_touched (fun r u' => wpY_touched (fun r' => r' = r ∧ i_Rel (k + 4) u' v) v) u := by
  refine zz_el (Q := fun u v => wpX_touched (fun r u' => wpY_touched (fun r' => r' = r ∧ i_Rel (k + 4) u' v) v) u) ?_ I
  intro K P T fg fn fh fs us ky va nx lo fi sz lk mk mv tl th te cu sl sh se ah bd hR
  have hR2 := hR
  obtain ⟨hT, hK, hLB, hI, hG⟩ := hR
  unfold wpX_touched
  refine xh_search hR2 (fun fg' fn' cu' sl' sh' se' ah' G hR' hs hm hM => ?_)
  exact yt_touched hT hK hLB.2.1 ⟨rfl, zz_in rfl rfl rfl hR'⟩
theorem i_vc_sum {k : Nat} {u : SX} {v : SY} (I : i_Rel k u v) (hk : k + 4 ≤ 2048) : wpX_sum (fun r u' => wpY_sum (fun r' => r' = r ∧ i_Rel (k + 4) u' v) v) u := by
  refine zz_el (Q := fun u v => wpX_sum (fun r u' => wpY_sum (fun r' => r' = r ∧ i_Rel (k + 4) u' v) v) u) ?_ I
  intro K P T fg fn fh fs us ky va nx lo fi sz lk mk mv tl th te cu sl sh se ah bd hR
  have hR2 := hR
  obtain ⟨hT, hK, hLB, hI, hG⟩ := hR
  unfold wpX_sum
  refine xh_search hR2 (fun fg' fn' cu' sl' sh' se' ah' G hR' hs hm hM => ?_)
  refine Exists.intro (G.length + 1) (xo_sum (hm_len hs hm) (fun a ha => ((hm a).mp ha).1) hM ?_ G [] rfl)
  exact ys_sum hT ⟨(sm_perm va (bf_nodup hs) hm).symm, zz_in rfl rfl rfl hR'⟩
theorem i_vc_pairs {k : Nat} {u : SX} {v : SY} (I : i_Rel k u v) (hk : k + 4 ≤ 2048) : wpX_pairs (fun r u' => wpY_pairs (fun r' => r' = r ∧ i_Rel (k + 4) u' v) v) u := by
  refine zz_el (Q := fun u v => wpX_pairs (fun r u' => wpY_pairs (fun r' => r' = r ∧ i_Rel (k + 4) u' v) v) u) ?_ I
  intro K P T fg fn fh fs us ky va nx lo fi sz lk mk mv tl th te cu sl sh se ah bd hR
  have hR2 := hR
  obtain ⟨hT, hK, hLB, hI, hG⟩ := hR
  unfold wpX_pairs
  refine xh_search hR2 (fun fg' fn' cu' sl' sh' se' ah' G hR' hs hm hM => ?_)
  refine Exists.intro (G.length + 1) (xo_pairs hK hs (hm_len hs hm) (fun a ha => ((hm a).mp ha).1) hM ?_ G [] 0 rfl (fun A' a h => absurd h (by simp)))
  exact yq_pairs hT hK ⟨by rw [pr_perm (cn_perm (bf_nodup hs) hm)], zz_in rfl rfl rfl hR'⟩
theorem i_vc_match {k : Nat} {u : SX} {v : SY} (I : i_Rel k u v) (hk : k + 4 ≤ 2048) (v1 : Int32) : wpX_match (fun r u' => wpY_match (fun r' => r' = r ∧ i_Rel (k + 4) u' v) v v1) u v1 := by
  refine zz_el (Q := fun u v => wpX_match (fun r u' => wpY_match (fun r' => r' = r ∧ i_Rel (k + 4) u' v) v v1) u v1) ?_ I
  intro K P T fg fn fh fs us ky va nx lo fi sz lk mk mv tl th te cu sl sh se ah bd hR
  have hR2 := hR
  obtain ⟨hT, hK, hLB, hI, hG⟩ := hR
  unfold wpX_match
  refine xh_search hR2 (fun fg' fn' cu' sl' sh' se' ah' G hR' hs hm hM => ?_)
  have hl := hm_len hs hm
  -- the place of a row that fits is its index
  have hpl : ∀ x, x < 40 → fq_b us ky va tl th te T x = true → ∃ j, G[j]? = some x ∧ j < G.length ∧ cn_c (pq_b (fq_b us ky va tl th te T) K x) 40 = j := by
    intro x hx hq
    obtain ⟨A, B, e⟩ := List.append_of_mem ((hm x).mpr ⟨hx, hq⟩)
    refine ⟨A.length, ?_, ?_, pl_at hs hm e⟩
    · rw [e, List.getElem?_append_right (Nat.le_refl _), Nat.sub_self]; rfl
    · rw [e, List.length_append]; show A.length < A.length + (B.length + 1); omega
  by_cases h1 : v1 < 0
  · refine br_t h1 (ym_match hT hK (fun x hx hq e => ?_) (fun _ => ⟨rfl, zz_in rfl rfl rfl hR'⟩))
    subst e
    obtain ⟨j, j1, j2, j3⟩ := hpl x hx hq
    rw [j3] at h1
    exact absurd h1 (nI_pos (by omega))
  · refine br_f h1 ?_
    obtain ⟨n, hn, rfl⟩ := nI_of h1
    refine ba_lt n G.length (fun w => ?_) (fun w => ?_)
    · have iv : vp_in (nI n) 40 := vp_in_nI (by omega) (by omega)
      have ev : (nI n).toNatClampNeg = n := nI_clamp hn
      have hg : G[n]? = some G[n] := List.getElem?_eq_getElem w
      refine And.intro iv ?_
      rw [ev, hM n G[n] hg]
      have hmem := (hm G[n]).mp (List.getElem_mem w)
      refine ym_match hT hK (fun x hx hq e => ⟨?_, zz_in rfl rfl rfl hR'⟩) (fun hB => ?_)
      · obtain ⟨j, j1, j2, j3⟩ := hpl x hx hq
        rw [j3] at e
        have e' := ba_im e (by omega) hn
        subst e'
        rw [hg] at j1
        rw [Option.some.inj j1]
      · obtain ⟨j, j1, j2, j3⟩ := hpl G[n] hmem.1 hmem.2
        have hj : j = n := by
          have hnd := bf_nodup hs
          exact (List.getElem?_inj j2 hnd).mp (j1.trans hg.symm)
        exact absurd (by rw [j3, hj]) (hB G[n] hmem.1 hmem.2)
    · refine ym_match hT hK (fun x hx hq e => ?_) (fun _ => ⟨rfl, zz_in rfl rfl rfl hR'⟩)
      obtain ⟨j, j1, j2, j3⟩ := hpl x hx hq
      rw [j3] at e
      have e' := ba_im e (by omega) hn
      omega
end
