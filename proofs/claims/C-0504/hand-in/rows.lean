section
/-! rows of kit/rows/PURE-ROWS (a starting text) -/
theorem pk_us {f : Nat → Int32} {k : Nat} {x : Int32} : upd f k x k = x := if_pos rfl
theorem pk_un {f : Nat → Int32} {k j : Nat} {x : Int32} (h : j ≠ k) : upd f k x j = f j := if_neg h
theorem pk_sub {a b : Nat} (h : b ≤ a) : nI a - nI b = nI (a - b) := by
  obtain ⟨c, rfl⟩ : ∃ c, a = c + b := ⟨a - b, by omega⟩
  rw [← nI_add, Int32.add_sub_cancel, Nat.add_sub_cancel]
theorem pk_m1 (n : Nat) : nI (n + 1) + (-1) = nI n := by
  rw [← nI_1, Int32.add_assoc, show (1 : Int32) + (-1) = 0 from rfl, Int32.add_zero]
theorem pk_mul (a b : Nat) : nI a * nI b = nI (a * b) := (Int32.ofNat_mul a b).symm
theorem pk_ix (x : Int32) {n : Nat} (hn : n < 2 ^ 31) : x < 0 ∨ nI n ≤ x ∨ ∃ j : Nat, j < n ∧ x = nI j := by
  by_cases h : x < 0
  · exact Or.inl h
  · obtain ⟨j, hj, rfl⟩ := nI_of h
    by_cases h2 : j < n
    · exact Or.inr (Or.inr ⟨j, h2, rfl⟩)
    · exact Or.inr (Or.inl (nI_le (by omega) hj))
theorem pk_le {x y : Int32} {A B : Prop} (a b : Nat) (f : a ≤ b → A) (g : b < a → B) (hx : x = nI a := by rfl) (hy : y = nI b := by rfl) (ha : a < 2 ^ 31 := by omega) (hb : b < 2 ^ 31 := by omega) : (x ≤ y → A) ∧ (¬ x ≤ y → B) := by
  subst hx hy
  rw [nI_leI ha hb]
  exact ⟨f, fun z => g (by omega)⟩
theorem pk_lt {x y : Int32} {A B : Prop} (a b : Nat) (f : a < b → A) (g : b ≤ a → B) (hx : x = nI a := by rfl) (hy : y = nI b := by rfl) (ha : a < 2 ^ 31 := by omega) (hb : b < 2 ^ 31 := by omega) : (x < y → A) ∧ (¬ x < y → B) := by
  subst hx hy
  rw [nI_ltI ha hb]
  exact ⟨f, fun z => g (by omega)⟩
theorem pk_eq {x y : Int32} {A B : Prop} (a b : Nat) (f : a = b → A) (g : a ≠ b → B) (hx : x = nI a := by rfl) (hy : y = nI b := by rfl) (ha : a < 2 ^ 31 := by omega) (hb : b < 2 ^ 31 := by omega) : (x = y → A) ∧ (¬ x = y → B) := by
  subst hx hy
  rw [nI_eq ha hb]
  exact ⟨f, g⟩
theorem pk_in {x : Int32} (n N : Nat) (h : n < N) (hx : x = nI n := by rfl) (hN : N < 2 ^ 31 := by omega) : vp_in x N := by
  subst hx
  exact vp_in_nI h hN
theorem pk_cl {x : Int32} (n : Nat) (hx : x = nI n := by rfl) (h : n < 2 ^ 31 := by omega) : x.toNatClampNeg = n := by
  subst hx
  exact nI_clamp h
theorem pk_tn {n : Nat} (h : n < 2 ^ 32) : (nI n).toBitVec.toNat = n := Nat.mod_eq_of_lt h
theorem pk_and (x : Int32) {m : Int32} (k : Nat) (hm : m.toBitVec.toNat = 2 ^ k - 1) : x &&& m = nI (x.toBitVec.toNat % 2 ^ k) := by
  apply Int32.toBitVec_inj.mp
  apply BitVec.eq_of_toNat_eq
  rw [Int32.toBitVec_and, BitVec.toNat_and, hm, Nat.and_two_pow_sub_one_eq_mod]
  show _ = (BitVec.ofNat 32 _).toNat
  rw [BitVec.toNat_ofNat]
  exact (Nat.mod_eq_of_lt (Nat.lt_of_le_of_lt (Nat.mod_le _ _) x.toBitVec.isLt)).symm
theorem pk_andE (x : Int32) {m : Int32} (k : Nat) (hm : m.toBitVec.toNat = 2 ^ k - 1) : ∃ j : Nat, j < 2 ^ k ∧ x &&& m = nI j := ⟨_, Nat.mod_lt _ (Nat.two_pow_pos k), pk_and x k hm⟩
theorem pk_andIn (x : Int32) {m : Int32} (k : Nat) (hm : m.toBitVec.toNat = 2 ^ k - 1) (hk : k ≤ 30) : vp_in (x &&& m) (2 ^ k) := by
  obtain ⟨j, hj, e⟩ := pk_andE x k hm
  rw [e]
  exact vp_in_nI hj (Nat.lt_of_le_of_lt (Nat.pow_le_pow_right (by decide) hk) (by decide))
end
section
/-! ## rows, columns, comparisons -/
abbrev fp_Row : Type := List Int32
def fp_at (x : fp_Row) (c : Int32) : Int32 := x.getD c.toNatClampNeg 0
def fp_cmp (x k y : Int32) : Bool :=
  if k = 0 then decide (x = y) else if k = 1 then !decide (x = y) else if k = 2 then decide (x < y)
  else if k = 3 then decide (x ≤ y) else if k = 4 then decide (y < x) else decide (y ≤ x)
def fp_calc (o x y : Int32) : Int32 :=
  if o = 0 then x + y else if o = 1 then x - y else if o = 2 then x * y
  else if o = 3 then (if x < y then x else y) else (if x < y then y else x)
/-! ## the plan: kind, first, second, p, q, r, width, parent -/
abbrev fp_Pl : Type := (Nat → Int32) × (Nat → Int32) × (Nat → Int32) × (Nat → Int32) × (Nat → Int32) × (Nat → Int32) × (Nat → Int32) × (Nat → Int32)
def fp_kd (π : fp_Pl) (n : Nat) : Nat := (π.1 n).toNatClampNeg
def fp_fa (π : fp_Pl) (n : Nat) : Nat := (π.2.1 n).toNatClampNeg
def fp_sb (π : fp_Pl) (n : Nat) : Nat := (π.2.2.1 n).toNatClampNeg
def fp_p (π : fp_Pl) (n : Nat) : Int32 := π.2.2.2.1 n
def fp_q (π : fp_Pl) (n : Nat) : Int32 := π.2.2.2.2.1 n
def fp_r (π : fp_Pl) (n : Nat) : Int32 := π.2.2.2.2.2.1 n
def fp_wd (π : fp_Pl) (n : Nat) : Nat := (π.2.2.2.2.2.2.1 n).toNatClampNeg
def fp_pa (π : fp_Pl) (n : Nat) : Int32 := π.2.2.2.2.2.2.2 n
def fp_par (π : fp_Pl) (n : Nat) : Nat := (fp_pa π n).toNatClampNeg
/-- a column of w -/
def fp_col (c : Int32) (w : Nat) : Prop := c = nI c.toNatClampNeg ∧ c.toNatClampNeg < w
/-- what holds at a node n of a plan, by its kind -/
def fp_prm (π : fp_Pl) (n : Nat) : Prop :=
  (fp_kd π n = 0 → fp_col (fp_p π n) 3 ∧ fp_wd π n = 3) ∧
  (fp_kd π n = 1 → fp_col (fp_p π n) (fp_wd π (fp_fa π n)) ∧ fp_wd π n = fp_wd π (fp_fa π n)) ∧
  (fp_kd π n = 2 → fp_col (fp_p π n) 5 ∧ fp_col (fp_q π n) (fp_wd π (fp_fa π n)) ∧ fp_col (fp_r π n) (fp_wd π (fp_fa π n)) ∧ fp_wd π n = fp_wd π (fp_fa π n) + 1) ∧
  (fp_kd π n = 3 → fp_col (fp_p π n) (fp_wd π (fp_fa π n)) ∧ (¬ fp_q π n < 0 → fp_col (fp_q π n) (fp_wd π (fp_fa π n))) ∧ (¬ fp_r π n < 0 → fp_col (fp_r π n) (fp_wd π (fp_fa π n))) ∧ fp_wd π n = 1 + (if fp_q π n < 0 then 0 else 1) + (if fp_r π n < 0 then 0 else 1)) ∧
  (fp_kd π n = 4 → fp_col (fp_p π n) (fp_wd π (fp_fa π n)) ∧ fp_col (fp_q π n) (fp_wd π (fp_sb π n)) ∧ fp_wd π n = fp_wd π (fp_fa π n) + fp_wd π (fp_sb π n)) ∧
  (fp_kd π n = 5 ∨ fp_kd π n = 6 → fp_col (fp_p π n) (fp_wd π (fp_fa π n)) ∧ fp_col (fp_q π n) (fp_wd π (fp_sb π n)) ∧ fp_wd π n = fp_wd π (fp_fa π n)) ∧
  (fp_kd π n = 7 → fp_col (fp_p π n) (fp_wd π (fp_fa π n)) ∧ fp_col (fp_q π n) 4 ∧ fp_col (fp_r π n) (fp_wd π (fp_fa π n)) ∧ fp_wd π n = 2) ∧
  (fp_kd π n = 8 → fp_wd π n = fp_wd π (fp_fa π n)) ∧
  (fp_kd π n = 9 → fp_wd π n = fp_wd π (fp_fa π n) ∧ fp_wd π n = fp_wd π (fp_sb π n))
def fp_two (π : fp_Pl) (n : Nat) : Prop := fp_kd π n = 4 ∨ fp_kd π n = 5 ∨ fp_kd π n = 6 ∨ fp_kd π n = 9
def fp_fst (π : fp_Pl) (n : Nat) : Prop := π.2.1 n = nI (fp_fa π n) ∧ fp_fa π n < n ∧ fp_pa π (fp_fa π n) = nI n
def fp_snd (π : fp_Pl) (n : Nat) : Prop := π.2.2.1 n = nI (fp_sb π n) ∧ fp_sb π n < n ∧ fp_sb π n ≠ fp_fa π n ∧ fp_pa π (fp_sb π n) = nI n
def fp_up (π : fp_Pl) (m n : Nat) : Prop := ∃ c, n < c ∧ c < m ∧ fp_pa π n = nI c ∧ ((fp_kd π c ≠ 0 ∧ fp_fa π c = n) ∨ (fp_two π c ∧ fp_sb π c = n))
def fp_nd (π : fp_Pl) (m n : Nat) : Prop :=
  π.1 n = nI (fp_kd π n) ∧ fp_kd π n ≤ 9 ∧
  π.2.2.2.2.2.2.1 n = nI (fp_wd π n) ∧ 1 ≤ fp_wd π n ∧ fp_wd π n ≤ 6 ∧
  (fp_kd π n = 0 → π.2.1 n = -1) ∧ (fp_kd π n ≠ 0 → fp_fst π n) ∧
  (¬ fp_two π n → π.2.2.1 n = -1) ∧ (fp_two π n → fp_snd π n) ∧
  (fp_pa π n = -1 ∨ fp_up π m n) ∧ fp_prm π n
def fp_WF (π : fp_Pl) (m : Nat) : Prop := m ≤ 12 ∧ ∀ n, n < m → fp_nd π m n
/-! ## what the operators make of rows -/
def fp_pick (π : fp_Pl) (n : Nat) (x : fp_Row) : fp_Row :=
  fp_at x (fp_p π n) :: ((if fp_q π n < 0 then [] else [fp_at x (fp_q π n)]) ++ (if fp_r π n < 0 then [] else [fp_at x (fp_r π n)]))
def fp_mt (π : fp_Pl) (n : Nat) (x y : fp_Row) : Bool := decide (fp_at y (fp_q π n) = fp_at x (fp_p π n))
def fp_phi (π : fp_Pl) (f : Nat → List fp_Row) (n : Nat) (x : fp_Row) : List fp_Row :=
  if fp_kd π n = 1 then (if fp_cmp (fp_at x (fp_p π n)) (fp_q π n) (fp_r π n) then [x] else [])
  else if fp_kd π n = 2 then [x ++ [fp_calc (fp_p π n) (fp_at x (fp_q π n)) (fp_at x (fp_r π n))]]
  else if fp_kd π n = 3 then [fp_pick π n x]
  else if fp_kd π n = 4 then ((f (fp_sb π n)).filter (fp_mt π n x)).map (fun y => x ++ y)
  else if fp_kd π n = 5 then (if (f (fp_sb π n)).any (fp_mt π n x) then [x] else [])
  else if fp_kd π n = 6 then (if (f (fp_sb π n)).any (fp_mt π n x) then [] else [x])
  else [x]
def fp_dd {α : Type} [DecidableEq α] (l : List α) : List α := l.foldl (fun acc x => if x ∈ acc then acc else acc ++ [x]) []
def fp_comb (fn old v : Int32) : Int32 := if fn = 0 then old + v else if fn = 1 then old + 1 else fp_calc (fn + 1) old v
def fp_ini (fn v : Int32) : Int32 := if fn = 1 then 1 else v
def fp_agg (fn : Int32) (l : List Int32) : Int32 := match l with
  | [] => 0
  | v :: vs => vs.foldl (fp_comb fn) (fp_ini fn v)
def fp_vals (k v key : Int32) (l : List fp_Row) : List Int32 := (l.filter (fun x => decide (fp_at x k = key))).map (fun x => fp_at x v)
def fp_grp (k fn v : Int32) (l : List fp_Row) : List fp_Row :=
  (fp_dd (l.map (fun x => fp_at x k))).map (fun key => [key, fp_agg fn (fp_vals k v key l)])
def fp_op (π : fp_Pl) (TB : Nat → List fp_Row) (f : Nat → List fp_Row) (n : Nat) : List fp_Row :=
  if fp_kd π n = 0 then TB (fp_p π n).toNatClampNeg
  else if fp_kd π n = 7 then fp_grp (fp_p π n) (fp_q π n) (fp_r π n) (f (fp_fa π n))
  else if fp_kd π n = 8 then fp_dd (f (fp_fa π n))
  else if fp_kd π n = 9 then f (fp_fa π n) ++ f (fp_sb π n)
  else (f (fp_fa π n)).flatMap (fp_phi π f n)
def fp_tab (π : fp_Pl) (TB : Nat → List fp_Row) : Nat → Nat → List fp_Row
  | 0 => fun _ => []
  | k + 1 => fun j => if j = k then fp_op π TB (fp_tab π TB k) k else fp_tab π TB k j
def fp_L (π : fp_Pl) (TB : Nat → List fp_Row) (n : Nat) : List fp_Row := fp_tab π TB (n + 1) n
theorem fp_tab_L (π : fp_Pl) (TB : Nat → List fp_Row) : ∀ k j, j < k → fp_tab π TB k j = fp_L π TB j := by
  intro k
  induction k with
  | zero => intro j h; omega
  | succ k ih =>
    intro j h
    by_cases e : j = k
    · subst e; rfl
    · have : fp_tab π TB (k + 1) j = fp_tab π TB k j := by simp [fp_tab, e]
      rw [this]; exact ih j (by omega)
theorem fp_phi_cg (π : fp_Pl) (f g : Nat → List fp_Row) (n : Nat) (x : fp_Row) (h : fp_two π n → f (fp_sb π n) = g (fp_sb π n)) : fp_phi π f n x = fp_phi π g n x := by
  unfold fp_phi
  by_cases h4 : fp_kd π n = 4
  · rw [h (Or.inl h4)]
  · by_cases h5 : fp_kd π n = 5
    · rw [h (Or.inr (Or.inl h5))]
    · by_cases h6 : fp_kd π n = 6
      · rw [h (Or.inr (Or.inr (Or.inl h6)))]
      · simp only [h4, h5, h6, if_false]
theorem fp_op_cg (π : fp_Pl) (TB : Nat → List fp_Row) (f g : Nat → List fp_Row) (n : Nat) (h1 : fp_kd π n ≠ 0 → f (fp_fa π n) = g (fp_fa π n)) (h2 : fp_two π n → f (fp_sb π n) = g (fp_sb π n)) : fp_op π TB f n = fp_op π TB g n := by
  have hp : fp_phi π f n = fp_phi π g n := funext fun x => fp_phi_cg π f g n x h2
  unfold fp_op
  by_cases h0 : fp_kd π n = 0
  · simp only [h0, if_true]
  · rw [h1 h0, hp]
    by_cases h9 : fp_kd π n = 9
    · rw [h2 (Or.inr (Or.inr (Or.inr h9)))]
    · simp only [h9, if_false]
theorem fp_L_eq {π : fp_Pl} {m : Nat} (TB : Nat → List fp_Row) (W : fp_WF π m) {n : Nat} (hn : n < m) : fp_L π TB n = fp_op π TB (fp_L π TB) n := by
  have e : fp_L π TB n = fp_op π TB (fp_tab π TB n) n := by simp [fp_L, fp_tab]
  obtain ⟨_, _, _, _, _, _, h1, _, h2, _⟩ := W.2 n hn
  rw [e]
  exact fp_op_cg π TB _ _ n (fun h0 => fp_tab_L π TB n _ (h1 h0).2.1) (fun ht => fp_tab_L π TB n _ (h2 ht).2.1)
/-! ## distinct -/
theorem fp_dd_snoc {α : Type} [DecidableEq α] (l : List α) (x : α) : fp_dd (l ++ [x]) = if x ∈ fp_dd l then fp_dd l else fp_dd l ++ [x] := by
  unfold fp_dd; rw [List.foldl_append]; rfl
theorem fp_rev {α : Type} {P : List α → Prop} (h0 : P []) (hs : ∀ l x, P l → P (l ++ [x])) (l : List α) : P l := by
  have : ∀ r : List α, P r.reverse := by
    intro r
    induction r with
    | nil => exact h0
    | cons a r ih => rw [List.reverse_cons]; exact hs _ _ ih
  have h := this l.reverse
  rw [List.reverse_reverse] at h; exact h
theorem fp_dd_mem {α : Type} [DecidableEq α] (l : List α) (y : α) : y ∈ fp_dd l ↔ y ∈ l := by
  refine fp_rev (P := fun l => y ∈ fp_dd l ↔ y ∈ l) ?_ ?_ l
  · simp [fp_dd]
  · intro l x ih
    rw [fp_dd_snoc]
    by_cases h : x ∈ fp_dd l
    · rw [if_pos h, List.mem_append, List.mem_singleton, ih]
      constructor
      · exact Or.inl
      · intro h'
        rcases h' with h' | h'
        · exact h'
        · subst h'; exact ih.mp h
    · rw [if_neg h, List.mem_append, List.mem_append, ih]
theorem fp_dd_nodup {α : Type} [DecidableEq α] (l : List α) : (fp_dd l).Nodup := by
  refine fp_rev (P := fun l => (fp_dd l).Nodup) ?_ ?_ l
  · simp [fp_dd]
  · intro l x ih
    rw [fp_dd_snoc]
    by_cases h : x ∈ fp_dd l
    · rw [if_pos h]; exact ih
    · rw [if_neg h, List.nodup_append]
      refine ⟨ih, by simp, ?_⟩
      intro a ha b hb
      rw [List.mem_singleton] at hb
      subst hb
      intro e; subst e; exact h ha
theorem fp_dd_perm {α : Type} [DecidableEq α] {l l' : List α} (h : l.Perm l') : (fp_dd l).Perm (fp_dd l') := by
  rw [List.perm_ext_iff_of_nodup (fp_dd_nodup l) (fp_dd_nodup l')]
  intro a
  rw [fp_dd_mem, fp_dd_mem]; exact h.mem_iff
theorem fp_dd_len {α : Type} [DecidableEq α] (l : List α) : (fp_dd l).length ≤ l.length := by
  refine fp_rev (P := fun l => (fp_dd l).length ≤ l.length) ?_ ?_ l
  · simp [fp_dd]
  · intro l x ih
    rw [fp_dd_snoc]
    by_cases h : x ∈ fp_dd l
    · rw [if_pos h, List.length_append]; omega
    · rw [if_neg h, List.length_append, List.length_append]; omega
end
section
/-! ## lists by getD -/
theorem fp_gd {α : Type} (l : List α) (d : α) {i : Nat} (h : i < l.length) : l.getD i d = l[i] := by
  simp [List.getD, h]
theorem fp_gdo {α : Type} (l : List α) (d : α) {i : Nat} (h : l.length ≤ i) : l.getD i d = d := by
  simp [List.getD, h]
theorem fp_gd_map {α β : Type} (f : α → β) (l : List α) (d : β) (e : α) {i : Nat} (h : i < l.length) : (l.map f).getD i d = f (l.getD i e) := by
  rw [fp_gd l e h, fp_gd (l.map f) d (by simpa using h), List.getElem_map]
theorem fp_gd_app {α : Type} (l r : List α) (d : α) {i : Nat} (h : i < l.length) : (l ++ r).getD i d = l.getD i d := by
  rw [fp_gd l d h, fp_gd (l ++ r) d (by rw [List.length_append]; omega), List.getElem_append_left h]
theorem fp_gd_app2 {α : Type} (l r : List α) (d : α) (i : Nat) : (l ++ r).getD (l.length + i) d = r.getD i d := by
  unfold List.getD
  rw [List.getElem?_append_right (by omega), Nat.add_sub_cancel_left]
theorem fp_gd_last {α : Type} (l : List α) (x d : α) : (l ++ [x]).getD l.length d = x := by
  simp [List.getD]
theorem fp_gd_ext {α : Type} {l r : List α} (d : α) (hl : l.length = r.length) (h : ∀ i, i < l.length → l.getD i d = r.getD i d) : l = r := by
  refine List.ext_getElem hl fun i h1 h2 => ?_
  have := h i h1
  rw [fp_gd l d h1, fp_gd r d h2] at this; exact this
theorem fp_gd_mem {α : Type} (l : List α) (d : α) {i : Nat} (h : i < l.length) : l.getD i d ∈ l := by
  rw [fp_gd l d h]; exact List.getElem_mem h
theorem fp_gd_of_mem {α : Type} {l : List α} (d : α) {x : α} (h : x ∈ l) : ∃ i, i < l.length ∧ l.getD i d = x := by
  obtain ⟨i, hi, e⟩ := List.getElem_of_mem h
  exact ⟨i, hi, by rw [fp_gd l d hi]; exact e⟩
theorem fp_gd_set {α : Type} (l : List α) (d x : α) {i j : Nat} (h : j < l.length) : (l.set i x).getD j d = if i = j then x else l.getD j d := by
  rw [fp_gd l d h, fp_gd (l.set i x) d (by rw [List.length_set]; exact h), List.getElem_set]
/-! ## aggregates -/
theorem fp_vals_snoc (k v key : Int32) (l : List fp_Row) (x : fp_Row) : fp_vals k v key (l ++ [x]) = fp_vals k v key l ++ (if fp_at x k = key then [fp_at x v] else []) := by
  unfold fp_vals
  rw [List.filter_append, List.map_append]
  by_cases h : fp_at x k = key
  · simp [h]
  · simp [h]
theorem fp_agg_snoc (fn : Int32) (vs : List Int32) (w : Int32) (h : vs ≠ []) : fp_agg fn (vs ++ [w]) = fp_comb fn (fp_agg fn vs) w := by
  cases vs with
  | nil => exact absurd rfl h
  | cons v vs => simp [fp_agg, List.foldl_append]
theorem fp_agg_one (fn w : Int32) : fp_agg fn [w] = fp_ini fn w := rfl
theorem fp_agg0 (l : List Int32) : fp_agg 0 l = l.foldl (fun a v => a + v) 0 := by
  cases l with
  | nil => rfl
  | cons v vs =>
    have e : fp_comb 0 = fun a v => a + v := by funext a v; rfl
    simp only [fp_agg, e, List.foldl_cons, fp_ini]
    rw [if_neg (by decide), Int32.zero_add]
theorem fp_agg1 (l : List Int32) : fp_agg 1 l = l.foldl (fun a _ => a + 1) 0 := by
  cases l with
  | nil => rfl
  | cons v vs =>
    have e : fp_comb 1 = fun a _ => a + 1 := by funext a v; rfl
    simp only [fp_agg, e, List.foldl_cons, fp_ini]
    rfl
theorem fp_comb2 (a v : Int32) : fp_comb 2 a v = if a < v then a else v := rfl
theorem fp_comb3 (a v : Int32) : fp_comb 3 a v = if a < v then v else a := rfl
theorem fp_agg2 (l : List Int32) : l ≠ [] → fp_agg 2 l ∈ l ∧ ∀ w, w ∈ l → fp_agg 2 l ≤ w := by
  refine fp_rev (P := fun l => l ≠ [] → fp_agg 2 l ∈ l ∧ ∀ w, w ∈ l → fp_agg 2 l ≤ w) ?_ ?_ l
  · intro h; exact absurd rfl h
  · intro l x ih _
    by_cases hl : l = []
    · subst hl
      refine ⟨List.mem_singleton.mpr rfl, ?_⟩
      intro w hw
      rw [List.nil_append, List.mem_singleton] at hw
      subst hw; exact Int32.le_refl _
    · obtain ⟨h1, h2⟩ := ih hl
      rw [fp_agg_snoc 2 l x hl, fp_comb2]
      by_cases c : fp_agg 2 l < x
      · rw [if_pos c]
        refine ⟨List.mem_append_left _ h1, ?_⟩
        intro w hw
        rcases List.mem_append.mp hw with hw | hw
        · exact h2 w hw
        · rw [List.mem_singleton] at hw; subst hw; exact Int32.le_of_lt c
      · rw [if_neg c]
        refine ⟨List.mem_append_right _ (List.mem_singleton.mpr rfl), ?_⟩
        intro w hw
        rcases List.mem_append.mp hw with hw | hw
        · exact Int32.le_trans (Int32.not_lt.mp c) (h2 w hw)
        · rw [List.mem_singleton] at hw; subst hw; exact Int32.le_refl _
theorem fp_agg3 (l : List Int32) : l ≠ [] → fp_agg 3 l ∈ l ∧ ∀ w, w ∈ l → w ≤ fp_agg 3 l := by
  refine fp_rev (P := fun l => l ≠ [] → fp_agg 3 l ∈ l ∧ ∀ w, w ∈ l → w ≤ fp_agg 3 l) ?_ ?_ l
  · intro h; exact absurd rfl h
  · intro l x ih _
    by_cases hl : l = []
    · subst hl
      refine ⟨List.mem_singleton.mpr rfl, ?_⟩
      intro w hw
      rw [List.nil_append, List.mem_singleton] at hw
      subst hw; exact Int32.le_refl _
    · obtain ⟨h1, h2⟩ := ih hl
      rw [fp_agg_snoc 3 l x hl, fp_comb3]
      by_cases c : fp_agg 3 l < x
      · rw [if_pos c]
        refine ⟨List.mem_append_right _ (List.mem_singleton.mpr rfl), ?_⟩
        intro w hw
        rcases List.mem_append.mp hw with hw | hw
        · exact Int32.le_trans (h2 w hw) (Int32.le_of_lt c)
        · rw [List.mem_singleton] at hw; subst hw; exact Int32.le_refl _
      · rw [if_neg c]
        refine ⟨List.mem_append_left _ h1, ?_⟩
        intro w hw
        rcases List.mem_append.mp hw with hw | hw
        · exact h2 w hw
        · rw [List.mem_singleton] at hw; subst hw; exact Int32.not_lt.mp c
theorem fp_fn4 {fn : Int32} (h : fp_col fn 4) : fn = 0 ∨ fn = 1 ∨ fn = 2 ∨ fn = 3 := by
  obtain ⟨e, h⟩ := h
  generalize fn.toNatClampNeg = j at e h
  subst e
  match j, h with
  | 0, _ => exact Or.inl rfl
  | 1, _ => exact Or.inr (Or.inl rfl)
  | 2, _ => exact Or.inr (Or.inr (Or.inl rfl))
  | 3, _ => exact Or.inr (Or.inr (Or.inr rfl))
theorem fp_agg_perm {fn : Int32} (hf : fp_col fn 4) {l l' : List Int32} (h : l.Perm l') : fp_agg fn l = fp_agg fn l' := by
  by_cases hl : l = []
  · subst hl
    rw [List.nil_perm.mp h]
  · have hl' : l' ≠ [] := fun e => hl (List.perm_nil.mp (e ▸ h))
    rcases fp_fn4 hf with e | e | e | e
    · subst e
      rw [fp_agg0, fp_agg0]
      refine h.foldl_eq' ?_ 0
      intro x _ y _ z
      rw [Int32.add_assoc, Int32.add_comm x y, ← Int32.add_assoc]
    · subst e
      rw [fp_agg1, fp_agg1]
      exact h.foldl_eq' (fun x _ y _ z => rfl) 0
    · subst e
      obtain ⟨a1, a2⟩ := fp_agg2 l hl
      obtain ⟨b1, b2⟩ := fp_agg2 l' hl'
      exact Int32.le_antisymm (a2 _ (h.mem_iff.mpr b1)) (b2 _ (h.mem_iff.mp a1))
    · subst e
      obtain ⟨a1, a2⟩ := fp_agg3 l hl
      obtain ⟨b1, b2⟩ := fp_agg3 l' hl'
      exact Int32.le_antisymm (b2 _ (h.mem_iff.mp a1)) (a2 _ (h.mem_iff.mpr b1))
theorem fp_grp_perm {k fn v : Int32} (hf : fp_col fn 4) {l l' : List fp_Row} (h : l.Perm l') : (fp_grp k fn v l).Perm (fp_grp k fn v l') := by
  unfold fp_grp
  have e : (fun key => [key, fp_agg fn (fp_vals k v key l)]) = (fun key => [key, fp_agg fn (fp_vals k v key l')]) := by
    funext key
    rw [fp_agg_perm hf (l := fp_vals k v key l) (l' := fp_vals k v key l') ((h.filter _).map _)]
  rw [e]
  exact (fp_dd_perm (h.map _)).map _
theorem fp_grp_len (k fn v : Int32) (l : List fp_Row) : (fp_grp k fn v l).length ≤ l.length := by
  unfold fp_grp
  rw [List.length_map]
  exact Nat.le_trans (fp_dd_len _) (by rw [List.length_map]; exact Nat.le_refl _)
/-! ## the last row with a key -/
def fp_fm (g : Nat → Int32) (key : Int32) : Nat → Option Nat
  | 0 => none
  | n + 1 => if g n = key then some n else fp_fm g key n
theorem fp_fm_some {g : Nat → Int32} {key : Int32} : ∀ {n i : Nat}, fp_fm g key n = some i → i < n ∧ g i = key ∧ ∀ j, i < j → j < n → g j ≠ key := by
  intro n
  induction n with
  | zero => intro i h; exact absurd h (by simp [fp_fm])
  | succ n ih =>
    intro i h
    by_cases c : g n = key
    · rw [fp_fm, if_pos c] at h
      cases h
      exact ⟨Nat.lt_succ_self _, c, fun j h1 h2 => by omega⟩
    · rw [fp_fm, if_neg c] at h
      obtain ⟨h1, h2, h3⟩ := ih h
      refine ⟨by omega, h2, fun j h4 h5 => ?_⟩
      by_cases e : j = n
      · subst e; exact c
      · exact h3 j h4 (by omega)
theorem fp_fm_none {g : Nat → Int32} {key : Int32} : ∀ {n : Nat}, fp_fm g key n = none → ∀ j, j < n → g j ≠ key := by
  intro n
  induction n with
  | zero => intro _ j h; omega
  | succ n ih =>
    intro h j hj
    by_cases c : g n = key
    · rw [fp_fm, if_pos c] at h; cases h
    · rw [fp_fm, if_neg c] at h
      by_cases e : j = n
      · subst e; exact c
      · exact ih h j (by omega)
/-- a content's column -/
def fp_cl (T : List fp_Row) (c : Nat) (i : Nat) : Int32 := (T.getD i []).getD c 0
def fp_gst (fn : Int32) (T : List fp_Row) (key v : Int32) : List fp_Row :=
  match fp_fm (fp_cl T 0) key T.length with
  | none => T ++ [[key, fp_ini fn v]]
  | some i => T.set i [key, fp_comb fn (fp_cl T 1 i) v]
theorem fp_gst_none {fn : Int32} {T : List fp_Row} {key v : Int32} (h : fp_fm (fp_cl T 0) key T.length = none) : fp_gst fn T key v = T ++ [[key, fp_ini fn v]] := by
  unfold fp_gst; rw [h]
theorem fp_gst_some {fn : Int32} {T : List fp_Row} {key v : Int32} {i : Nat} (h : fp_fm (fp_cl T 0) key T.length = some i) : fp_gst fn T key v = T.set i [key, fp_comb fn (fp_cl T 1 i) v] := by
  unfold fp_gst; rw [h]
theorem fp_vals_nil {k v key : Int32} {l : List fp_Row} (h : ¬ key ∈ l.map (fun x => fp_at x k)) : fp_vals k v key l = [] := by
  unfold fp_vals
  rw [List.map_eq_nil_iff, List.filter_eq_nil_iff]
  intro x hx
  rw [decide_eq_true_eq]
  intro e
  exact h (e ▸ List.mem_map_of_mem hx)
theorem fp_vals_ne {k v key : Int32} {l : List fp_Row} (h : key ∈ l.map (fun x => fp_at x k)) : fp_vals k v key l ≠ [] := by
  unfold fp_vals
  obtain ⟨x, hx, e⟩ := List.mem_map.mp h
  intro c
  rw [List.map_eq_nil_iff, List.filter_eq_nil_iff] at c
  exact c x hx (decide_eq_true e)
theorem fp_grp_snoc (k fn v : Int32) (l : List fp_Row) (x : fp_Row) : fp_gst fn (fp_grp k fn v l) (fp_at x k) (fp_at x v) = fp_grp k fn v (l ++ [x]) := by
  have hT : ∀ i, i < (fp_dd (l.map (fun x => fp_at x k))).length → (fp_grp k fn v l).getD i [] = [(fp_dd (l.map (fun x => fp_at x k))).getD i 0, fp_agg fn (fp_vals k v ((fp_dd (l.map (fun x => fp_at x k))).getD i 0) l)] := fun i hi => fp_gd_map _ _ _ 0 hi
  have hlen : (fp_grp k fn v l).length = (fp_dd (l.map (fun x => fp_at x k))).length := by unfold fp_grp; rw [List.length_map]
  have hR : fp_grp k fn v (l ++ [x]) = (if fp_at x k ∈ fp_dd (l.map (fun x => fp_at x k)) then fp_dd (l.map (fun x => fp_at x k)) else fp_dd (l.map (fun x => fp_at x k)) ++ [fp_at x k]).map (fun key => [key, fp_agg fn (fp_vals k v key (l ++ [x]))]) := by
    unfold fp_grp
    rw [List.map_append, List.map_singleton, fp_dd_snoc]
  have hnd : (fp_dd (l.map (fun x => fp_at x k))).Nodup := fp_dd_nodup _
  have hmem : ∀ y, y ∈ fp_dd (l.map (fun x => fp_at x k)) ↔ y ∈ l.map (fun x => fp_at x k) := fp_dd_mem _
  revert hT hlen hR hnd hmem
  generalize fp_dd (l.map (fun x => fp_at x k)) = ks
  intro hT hlen hR hnd hmem
  rw [hR]
  cases h : fp_fm (fp_cl (fp_grp k fn v l) 0) (fp_at x k) (fp_grp k fn v l).length with
  | none =>
    have hn : ¬ fp_at x k ∈ ks := by
      intro c
      obtain ⟨i, hi, e⟩ := fp_gd_of_mem 0 c
      refine fp_fm_none h i (by omega) ?_
      unfold fp_cl; rw [hT i hi]; exact e
    rw [fp_gst_none h, if_neg hn, List.map_append, List.map_singleton, fp_vals_snoc, if_pos rfl, fp_vals_nil (fun c => hn ((hmem _).mpr c)), List.nil_append, fp_agg_one]
    refine congrArg (· ++ [[fp_at x k, fp_ini fn (fp_at x v)]]) ?_
    refine fp_gd_ext [] (by rw [List.length_map]; exact hlen) fun i hi => ?_
    have hi' : i < ks.length := by omega
    rw [hT i hi', fp_gd_map _ _ _ 0 hi', fp_vals_snoc, if_neg, List.append_nil]
    intro e
    exact hn (e ▸ fp_gd_mem ks 0 hi')
  | some i =>
    obtain ⟨h1, h2, _⟩ := fp_fm_some h
    have hi : i < ks.length := by omega
    have e1 : ks.getD i 0 = fp_at x k := by
      have := h2; unfold fp_cl at this; rw [hT i hi] at this; exact this
    have hn : fp_at x k ∈ ks := e1 ▸ fp_gd_mem ks 0 hi
    rw [fp_gst_some h, if_pos hn]
    refine fp_gd_ext [] (by rw [List.length_set, List.length_map]; exact hlen) fun j hj => ?_
    rw [List.length_set] at hj
    have hj' : j < ks.length := by omega
    rw [fp_gd_set _ _ _ hj, fp_gd_map _ _ _ 0 hj', fp_vals_snoc]
    by_cases e : i = j
    · subst e
      have e2 : fp_cl (fp_grp k fn v l) 1 i = fp_agg fn (fp_vals k v (ks.getD i 0) l) := by
        unfold fp_cl; rw [hT i hi]; rfl
      rw [if_pos rfl, e1, if_pos rfl, fp_agg_snoc _ _ _ (fp_vals_ne ((hmem _).mp hn)), e2, e1]
    · rw [if_neg e, hT j hj', if_neg, List.append_nil]
      intro c
      have hd : ks[i] = ks[j] := by rw [← fp_gd ks 0 hi, ← fp_gd ks 0 hj', e1, c]
      exact e ((List.getElem_inj hnd).mp hd)
end
section
/-! ## which nodes take part, tops -/
def fp_in (π : fp_Pl) (root : Nat) : Nat → Nat → Bool
  | 0 => fun n => decide (n = root)
  | k + 1 => fun n => decide (n = root) || (decide (0 ≤ fp_pa π n) && fp_in π root k (fp_par π n))
def fp_pl (π : fp_Pl) (root n : Nat) : Bool := fp_in π root 12 n
def fp_tp (π : fp_Pl) (root n : Nat) : Bool :=
  decide (n = root) || decide (fp_kd π (fp_par π n) = 7) || decide (fp_kd π (fp_par π n) = 8) ||
  (decide (4 ≤ fp_kd π (fp_par π n)) && decide (fp_kd π (fp_par π n) ≤ 6) && decide (fp_sb π (fp_par π n) = n))
def fp_top (π : fp_Pl) (root : Nat) : Nat → Nat → Nat
  | 0 => fun n => n
  | k + 1 => fun n => if fp_tp π root n then n else fp_top π root k (fp_par π n)
theorem fp_top_s (π : fp_Pl) (root k n : Nat) : fp_top π root (k + 1) n = if fp_tp π root n then n else fp_top π root k (fp_par π n) := rfl
/-- child x of c -/
def fp_ch (π : fp_Pl) (c x : Nat) : Prop := (fp_kd π c ≠ 0 ∧ fp_fa π c = x) ∨ (fp_two π c ∧ fp_sb π c = x)
theorem fp_nI_m1 {n : Nat} (h : n < 2 ^ 31) : ¬ nI n = -1 := by
  intro e
  have h1 := nI_pos h
  rw [e] at h1
  exact h1 (by decide)
section
variable {π : fp_Pl} {m : Nat}
theorem fp_chup (W : fp_WF π m) {n : Nat} (hn : n < m) (h : ¬ fp_pa π n = -1) : n < fp_par π n ∧ fp_par π n < m ∧ fp_pa π n = nI (fp_par π n) ∧ fp_ch π (fp_par π n) n := by
  obtain ⟨_, _, _, _, _, _, _, _, _, h1, _⟩ := W.2 n hn
  rcases h1 with h1 | ⟨c, h2, h3, h4, h5⟩
  · exact absurd h1 h
  · have hm := W.1
    have e : fp_par π n = c := by unfold fp_par; rw [h4]; exact nI_clamp (by omega)
    rw [e]; exact ⟨h2, h3, h4, h5⟩
theorem fp_chdn (W : fp_WF π m) {c x : Nat} (hc : c < m) (h : fp_ch π c x) : x < c ∧ fp_pa π x = nI c ∧ fp_par π x = c ∧ ¬ fp_pa π x = -1 := by
  obtain ⟨_, _, _, _, _, _, h1, _, h2, _⟩ := W.2 c hc
  have hm := W.1
  have key : ∀ y, y < c → fp_pa π y = nI c → y < c ∧ fp_pa π y = nI c ∧ fp_par π y = c ∧ ¬ fp_pa π y = -1 := by
    intro y hy e
    refine ⟨hy, e, ?_, ?_⟩
    · unfold fp_par; rw [e]; exact nI_clamp (by omega)
    · rw [e]; exact fp_nI_m1 (by omega)
  rcases h with ⟨h, e⟩ | ⟨h, e⟩
  · subst e; exact key _ (h1 h).2.1 (h1 h).2.2
  · subst e; exact key _ (h2 h).2.1 (h2 h).2.2.2
theorem fp_pa_ge (W : fp_WF π m) {n : Nat} (hn : n < m) : 0 ≤ fp_pa π n ↔ ¬ fp_pa π n = -1 := by
  constructor
  · intro h e; rw [e] at h; exact absurd h (by decide)
  · intro h
    have hm := W.1
    obtain ⟨_, h2, h3, _⟩ := fp_chup W hn h
    rw [h3]; exact nI_pos' (by omega)
theorem fp_in_sat (W : fp_WF π m) (root : Nat) : ∀ k k' n, n < m → m ≤ n + k → m ≤ n + k' → fp_in π root k n = fp_in π root k' n := by
  intro k
  induction k with
  | zero => intro k' n h1 h2; omega
  | succ k ih =>
    intro k' n h1 h2 h3
    cases k' with
    | zero => omega
    | succ k' =>
      unfold fp_in
      by_cases c : 0 ≤ fp_pa π n
      · obtain ⟨a1, a2, _⟩ := fp_chup W h1 ((fp_pa_ge W h1).mp c)
        rw [ih k' (fp_par π n) a2 (by omega) (by omega)]
      · rw [decide_eq_false c, Bool.false_and, Bool.false_and]
theorem fp_pl_root (π : fp_Pl) (root : Nat) : fp_pl π root root = true := by
  unfold fp_pl fp_in; simp
theorem fp_pl_ch (W : fp_WF π m) {root c x : Nat} (hc : c < m) (h : fp_pl π root c = true) (hx : fp_ch π c x) : fp_pl π root x = true := by
  obtain ⟨h1, h2, h3, h4⟩ := fp_chdn W hc hx
  have hm := W.1
  unfold fp_pl at h ⊢
  have : fp_in π root 12 x = (decide (x = root) || (decide (0 ≤ fp_pa π x) && fp_in π root 11 (fp_par π x))) := rfl
  rw [this, h3, decide_eq_true ((fp_pa_ge W (by omega)).mpr h4), fp_in_sat W root 11 12 c hc (by omega) (by omega), h]
  simp
theorem fp_pl_up (W : fp_WF π m) {root n : Nat} (hn : n < m) (h : fp_pl π root n = true) (hr : n ≠ root) : ¬ fp_pa π n = -1 ∧ fp_pl π root (fp_par π n) = true := by
  have hm := W.1
  unfold fp_pl at h ⊢
  have e : fp_in π root 12 n = (decide (n = root) || (decide (0 ≤ fp_pa π n) && fp_in π root 11 (fp_par π n))) := rfl
  rw [e, decide_eq_false hr, Bool.false_or, Bool.and_eq_true, decide_eq_true_eq] at h
  have h1 := (fp_pa_ge W hn).mp h.1
  obtain ⟨a1, a2, _⟩ := fp_chup W hn h1
  refine ⟨h1, ?_⟩
  rw [fp_in_sat W root 12 11 _ a2 (by omega) (by omega)]; exact h.2
theorem fp_pl_le (W : fp_WF π m) {root : Nat} : ∀ d n, n < m → m ≤ n + d → fp_pl π root n = true → n ≤ root := by
  intro d
  induction d with
  | zero => intro n h1 h2; omega
  | succ d ih =>
    intro n h1 h2 h3
    by_cases e : n = root
    · omega
    · obtain ⟨a1, a2⟩ := fp_pl_up W h1 h3 e
      obtain ⟨b1, b2, _⟩ := fp_chup W h1 a1
      have := ih _ b2 (by omega) a2
      omega
end
theorem fp_tp_iff (π : fp_Pl) (root n : Nat) : fp_tp π root n = true ↔ (n = root ∨ fp_kd π (fp_par π n) = 7 ∨ fp_kd π (fp_par π n) = 8 ∨ (4 ≤ fp_kd π (fp_par π n) ∧ fp_kd π (fp_par π n) ≤ 6 ∧ fp_sb π (fp_par π n) = n)) := by
  unfold fp_tp
  simp only [Bool.or_eq_true, Bool.and_eq_true, decide_eq_true_eq, or_assoc, and_assoc]
/-- the context of one run: a well formed plan and a root in it -/
def fp_cx (π : fp_Pl) (m root : Nat) : Prop := fp_WF π m ∧ root < m
/-- the pipelined parent: what a step up looks like -/
def fp_step (π : fp_Pl) (root n : Nat) : Prop :=
  n < fp_par π n ∧ fp_par π n ≤ root ∧ fp_pl π root (fp_par π n) = true ∧
  fp_kd π (fp_par π n) ≠ 0 ∧ fp_kd π (fp_par π n) ≠ 7 ∧ fp_kd π (fp_par π n) ≠ 8 ∧
  (fp_fa π (fp_par π n) = n ∨ (fp_kd π (fp_par π n) = 9 ∧ fp_sb π (fp_par π n) = n))
section
variable {π : fp_Pl} {m root : Nat}
theorem fp_plm (C : fp_cx π m root) {n : Nat} (h : fp_pl π root n = true) (hn : n < m) : n ≤ root := fp_pl_le C.1 m n hn (by omega) h
theorem fp_stepU (C : fp_cx π m root) {n : Nat} (hn : n ≤ root) (h : fp_pl π root n = true) (ht : ¬ fp_tp π root n = true) : fp_step π root n := by
  have hm : n < m := by have := C.2; omega
  rw [fp_tp_iff] at ht
  have hr : n ≠ root := fun e => ht (Or.inl e)
  have h7 : fp_kd π (fp_par π n) ≠ 7 := fun e => ht (Or.inr (Or.inl e))
  have h8 : fp_kd π (fp_par π n) ≠ 8 := fun e => ht (Or.inr (Or.inr (Or.inl e)))
  obtain ⟨a1, a2⟩ := fp_pl_up C.1 hm h hr
  obtain ⟨b1, b2, b3, b4⟩ := fp_chup C.1 hm a1
  refine ⟨b1, fp_plm C a2 b2, a2, ?_, h7, h8, ?_⟩
  · intro e
    rcases b4 with ⟨c, _⟩ | ⟨c, _⟩
    · exact c e
    · unfold fp_two at c; omega
  · rcases b4 with ⟨c, e⟩ | ⟨c, e⟩
    · exact Or.inl e
    · refine Or.inr ⟨?_, e⟩
      unfold fp_two at c
      rcases c with c | c | c | c
      · exact absurd (Or.inr (Or.inr (Or.inr ⟨by omega, by omega, e⟩))) ht
      · exact absurd (Or.inr (Or.inr (Or.inr ⟨by omega, by omega, e⟩))) ht
      · exact absurd (Or.inr (Or.inr (Or.inr ⟨by omega, by omega, e⟩))) ht
      · exact c
theorem fp_top_tp (C : fp_cx π m root) : ∀ k n, n ≤ root → root ≤ n + k → fp_pl π root n = true → fp_tp π root (fp_top π root k n) = true ∧ n ≤ fp_top π root k n ∧ fp_top π root k n ≤ root ∧ fp_pl π root (fp_top π root k n) = true := by
  intro k
  induction k with
  | zero =>
    intro n h1 h2 h3
    have e : n = root := by omega
    subst e
    exact ⟨(fp_tp_iff _ _ _).mpr (Or.inl rfl), Nat.le_refl _, Nat.le_refl _, h3⟩
  | succ k ih =>
    intro n h1 h2 h3
    unfold fp_top
    by_cases t : fp_tp π root n = true
    · rw [if_pos t]; exact ⟨t, Nat.le_refl _, h1, h3⟩
    · rw [if_neg t]
      obtain ⟨s1, s2, s3, _⟩ := fp_stepU C h1 h3 t
      obtain ⟨r1, r2, r3, r4⟩ := ih (fp_par π n) s2 (by omega) s3
      exact ⟨r1, by omega, r3, r4⟩
theorem fp_top_sat (C : fp_cx π m root) : ∀ k k' n, n ≤ root → root ≤ n + k → root ≤ n + k' → fp_pl π root n = true → fp_top π root k n = fp_top π root k' n := by
  intro k
  induction k with
  | zero =>
    intro k' n h1 h2 h3 h4
    have e : n = root := by omega
    subst e
    cases k' with
    | zero => rfl
    | succ k' => unfold fp_top; rw [if_pos ((fp_tp_iff _ _ _).mpr (Or.inl rfl))]
  | succ k ih =>
    intro k' n h1 h2 h3 h4
    by_cases t : fp_tp π root n = true
    · cases k' with
      | zero => unfold fp_top; rw [if_pos t]
      | succ k' => unfold fp_top; rw [if_pos t, if_pos t]
    · obtain ⟨s1, s2, s3, _⟩ := fp_stepU C h1 h4 t
      cases k' with
      | zero => omega
      | succ k' =>
        unfold fp_top; rw [if_neg t, if_neg t]
        exact ih k' _ s2 (by omega) (by omega) s3
/-- the top of a node -/
def fp_to (π : fp_Pl) (root n : Nat) : Nat := fp_top π root 12 n
theorem fp_to_tp {n : Nat} (t : fp_tp π root n = true) : fp_to π root n = n := by
  unfold fp_to fp_top; rw [if_pos t]
theorem fp_to_up (C : fp_cx π m root) {n : Nat} (h1 : n ≤ root) (h4 : fp_pl π root n = true) (t : ¬ fp_tp π root n = true) : fp_to π root n = fp_to π root (fp_par π n) := by
  obtain ⟨s1, s2, s3, _⟩ := fp_stepU C h1 h4 t
  have hm := C.1.1
  have hr := C.2
  have : fp_to π root n = fp_top π root 11 (fp_par π n) := by
    unfold fp_to; rw [show (12 : Nat) = 11 + 1 from rfl, fp_top_s, if_neg t]
  rw [this]
  exact fp_top_sat C 11 12 _ s2 (by omega) (by omega) s3
theorem fp_to_all (C : fp_cx π m root) {n : Nat} (h1 : n ≤ root) (h4 : fp_pl π root n = true) : fp_tp π root (fp_to π root n) = true ∧ n ≤ fp_to π root n ∧ fp_to π root n ≤ root ∧ fp_pl π root (fp_to π root n) = true := by
  have hm := C.1.1
  have hr := C.2
  exact fp_top_tp C 12 n h1 (by omega) h4
end
/-! ## rows made at m from a row at n -/
def fp_pu (π : fp_Pl) (root : Nat) (rt : Nat → List fp_Row) : Nat → Nat → fp_Row → Nat → List fp_Row
  | 0 => fun n x m => if n = m then [x] else []
  | k + 1 => fun n x m => if n = m then [x] else if fp_tp π root n then [] else (fp_phi π rt (fp_par π n) x).flatMap (fun y => fp_pu π root rt k (fp_par π n) y m)
abbrev fp_Ev : Type := Sum Nat fp_Row
def fp_cn (π : fp_Pl) (c : Nat) : List fp_Ev := if fp_kd π c = 4 ∨ fp_kd π c = 9 then [Sum.inl c] else []
def fp_ev (π : fp_Pl) (root : Nat) (rt : Nat → List fp_Row) : Nat → Nat → fp_Row → List fp_Ev
  | 0 => fun _ x => [Sum.inr x]
  | k + 1 => fun n x => if fp_tp π root n then [Sum.inr x] else (fp_phi π rt (fp_par π n) x).flatMap (fun y => fp_cn π (fp_par π n) ++ fp_ev π root rt k (fp_par π n) y)
theorem fp_pu_s (π : fp_Pl) (root : Nat) (rt : Nat → List fp_Row) (k n : Nat) (x : fp_Row) (m : Nat) : fp_pu π root rt (k + 1) n x m = if n = m then [x] else if fp_tp π root n then [] else (fp_phi π rt (fp_par π n) x).flatMap (fun y => fp_pu π root rt k (fp_par π n) y m) := rfl
theorem fp_ev_s (π : fp_Pl) (root : Nat) (rt : Nat → List fp_Row) (k n : Nat) (x : fp_Row) : fp_ev π root rt (k + 1) n x = if fp_tp π root n then [Sum.inr x] else (fp_phi π rt (fp_par π n) x).flatMap (fun y => fp_cn π (fp_par π n) ++ fp_ev π root rt k (fp_par π n) y) := rfl
def fp_sk (l : List fp_Ev) : List fp_Row := l.filterMap (fun e => match e with | Sum.inr x => some x | Sum.inl _ => none)
def fp_ct (m : Nat) (l : List fp_Ev) : Nat := l.countP (fun e => match e with | Sum.inl c => decide (c = m) | Sum.inr _ => false)
theorem fp_sk_app (l r : List fp_Ev) : fp_sk (l ++ r) = fp_sk l ++ fp_sk r := by unfold fp_sk; rw [List.filterMap_append]
theorem fp_ct_app (m : Nat) (l r : List fp_Ev) : fp_ct m (l ++ r) = fp_ct m l + fp_ct m r := by unfold fp_ct; rw [List.countP_append]
theorem fp_sk_fm {α : Type} (l : List α) (f : α → List fp_Ev) : fp_sk (l.flatMap f) = l.flatMap (fun a => fp_sk (f a)) := by
  induction l with
  | nil => rfl
  | cons a l ih => rw [List.flatMap_cons, List.flatMap_cons, fp_sk_app, ih]
theorem fp_ct_fm {α : Type} (m : Nat) (l : List α) (f : α → List fp_Ev) : fp_ct m (l.flatMap f) = (l.map (fun a => fp_ct m (f a))).sum := by
  induction l with
  | nil => rfl
  | cons a l ih => rw [List.flatMap_cons, fp_ct_app, ih, List.map_cons, List.sum_cons]
theorem fp_sk_cn (π : fp_Pl) (c : Nat) : fp_sk (fp_cn π c) = [] := by
  unfold fp_cn; by_cases h : fp_kd π c = 4 ∨ fp_kd π c = 9
  · rw [if_pos h]; rfl
  · rw [if_neg h]; rfl
theorem fp_ct_cn (π : fp_Pl) (m c : Nat) : fp_ct m (fp_cn π c) = if c = m ∧ (fp_kd π m = 4 ∨ fp_kd π m = 9) then 1 else 0 := by
  unfold fp_cn
  by_cases e : c = m
  · subst e
    by_cases h : fp_kd π c = 4 ∨ fp_kd π c = 9
    · rw [if_pos h, if_pos ⟨rfl, h⟩]; simp [fp_ct]
    · rw [if_neg h, if_neg (fun z => h z.2)]; rfl
  · rw [if_neg (c := c = m ∧ (fp_kd π m = 4 ∨ fp_kd π m = 9)) (fun z => e z.1)]
    by_cases h : fp_kd π c = 4 ∨ fp_kd π c = 9
    · rw [if_pos h]; simp [fp_ct, e]
    · rw [if_neg h]; rfl
end
section
/-! ## flatMap up to order -/
theorem fp_fm_app {α β : Type} (l : List α) (f g : α → List β) : (l.flatMap (fun a => f a ++ g a)).Perm (l.flatMap f ++ l.flatMap g) := by
  induction l with
  | nil => exact List.Perm.refl _
  | cons a l ih =>
    rw [List.flatMap_cons, List.flatMap_cons, List.flatMap_cons]
    refine (List.Perm.append_left _ ih).trans ?_
    rw [List.append_assoc, List.append_assoc]
    refine List.Perm.append_left _ ?_
    rw [← List.append_assoc, ← List.append_assoc]
    exact List.Perm.append_right _ List.perm_append_comm
theorem fp_fm_cg {α β : Type} (l : List α) (f g : α → List β) (h : ∀ a, a ∈ l → (f a).Perm (g a)) : (l.flatMap f).Perm (l.flatMap g) := by
  induction l with
  | nil => exact List.Perm.refl _
  | cons a l ih =>
    rw [List.flatMap_cons, List.flatMap_cons]
    exact (h a (List.mem_cons_self)).append (ih fun b hb => h b (List.mem_cons_of_mem _ hb))
theorem fp_fm_eq {α β : Type} (l : List α) (f g : α → List β) (h : ∀ a, a ∈ l → f a = g a) : l.flatMap f = l.flatMap g := by
  induction l with
  | nil => rfl
  | cons a l ih =>
    rw [List.flatMap_cons, List.flatMap_cons, h a (List.mem_cons_self), ih fun b hb => h b (List.mem_cons_of_mem _ hb)]
theorem fp_fm_nil {α β : Type} (l : List α) (f : α → List β) (h : ∀ a, a ∈ l → f a = []) : l.flatMap f = [] := by
  rw [fp_fm_eq l f (fun _ => []) h]
  induction l with
  | nil => rfl
  | cons a l ih => rw [List.flatMap_cons, List.nil_append]; exact ih fun b hb => h b (List.mem_cons_of_mem _ hb)
theorem fp_fm_one {α : Type} (l : List α) : l.flatMap (fun x => [x]) = l := by
  induction l with
  | nil => rfl
  | cons a l ih => rw [List.flatMap_cons, ih]; rfl
theorem fp_fm_as {α β γ : Type} (l : List α) (f : α → List β) (g : β → List γ) : (l.flatMap f).flatMap g = l.flatMap (fun a => (f a).flatMap g) := by
  induction l with
  | nil => rfl
  | cons a l ih => rw [List.flatMap_cons, List.flatMap_append, List.flatMap_cons, ih]
theorem fp_fm_only {β : Type} (F : Nat → List β) (k : Nat) : ∀ S : List Nat, S.Nodup → k ∈ S → (∀ s, s ∈ S → s ≠ k → F s = []) → S.flatMap F = F k := by
  intro S
  induction S with
  | nil => intro _ h; exact absurd h (by simp)
  | cons a S ih =>
    intro hn hk hF
    rw [List.nodup_cons] at hn
    rw [List.flatMap_cons]
    by_cases e : a = k
    · subst e
      rw [fp_fm_nil S F fun s hs => hF s (List.mem_cons_of_mem _ hs) (fun c => hn.1 (c ▸ hs)), List.append_nil]
    · rw [hF a (List.mem_cons_self) e, List.nil_append]
      refine ih hn.2 ?_ fun s hs => hF s (List.mem_cons_of_mem _ hs)
      rcases List.mem_cons.mp hk with h | h
      · exact absurd h.symm e
      · exact h
theorem fp_fm_len {α β : Type} (l : List α) (f : α → List β) (h : ∀ a, a ∈ l → (f a).length ≤ 1) : (l.flatMap f).length ≤ l.length := by
  induction l with
  | nil => exact Nat.le_refl _
  | cons a l ih =>
    rw [List.flatMap_cons, List.length_append, List.length_cons]
    have h1 := h a (List.mem_cons_self)
    have h2 := ih fun b hb => h b (List.mem_cons_of_mem _ hb)
    omega
theorem fp_sumlen {α β : Type} (l : List α) (f : α → List β) : (l.map (fun a => (f a).length)).sum = (l.flatMap f).length := by
  induction l with
  | nil => rfl
  | cons a l ih => rw [List.map_cons, List.sum_cons, List.flatMap_cons, List.length_append, ih]
theorem fp_sum0 {α : Type} (l : List α) (f : α → Nat) (h : ∀ a, a ∈ l → f a = 0) : (l.map f).sum = 0 := by
  induction l with
  | nil => rfl
  | cons a l ih => rw [List.map_cons, List.sum_cons, h a (List.mem_cons_self), ih fun b hb => h b (List.mem_cons_of_mem _ hb)]
theorem fp_sumcg {α : Type} (l : List α) (f g : α → Nat) (h : ∀ a, a ∈ l → f a = g a) : (l.map f).sum = (l.map g).sum := by
  induction l with
  | nil => rfl
  | cons a l ih => rw [List.map_cons, List.sum_cons, List.map_cons, List.sum_cons, h a (List.mem_cons_self), ih fun b hb => h b (List.mem_cons_of_mem _ hb)]
/-! ## pu and ev -/
theorem fp_pu_self (π : fp_Pl) (root : Nat) (rt : Nat → List fp_Row) (k n : Nat) (x : fp_Row) : fp_pu π root rt k n x n = [x] := by
  cases k with
  | zero => unfold fp_pu; rw [if_pos rfl]
  | succ k => unfold fp_pu; rw [if_pos rfl]
theorem fp_pu_tp (π : fp_Pl) {root : Nat} (rt : Nat → List fp_Row) (k : Nat) {n m' : Nat} (x : fp_Row) (h : n ≠ m') (t : fp_tp π root n = true) : fp_pu π root rt k n x m' = [] := by
  cases k with
  | zero => unfold fp_pu; rw [if_neg h]
  | succ k => unfold fp_pu; rw [if_neg h, if_pos t]
theorem fp_pu_st (π : fp_Pl) {root : Nat} (rt : Nat → List fp_Row) (k : Nat) {n m' : Nat} (x : fp_Row) (h : n ≠ m') (t : ¬ fp_tp π root n = true) : fp_pu π root rt (k + 1) n x m' = (fp_phi π rt (fp_par π n) x).flatMap (fun y => fp_pu π root rt k (fp_par π n) y m') := by
  rw [fp_pu_s, if_neg h, if_neg t]
section
variable {π : fp_Pl} {m root : Nat}
theorem fp_tproot (π : fp_Pl) (root : Nat) : fp_tp π root root = true := (fp_tp_iff _ _ _).mpr (Or.inl rfl)
theorem fp_pu_low (C : fp_cx π m root) (rt : Nat → List fp_Row) : ∀ k n x m', n ≤ root → root ≤ n + k → fp_pl π root n = true → m' < n → fp_pu π root rt k n x m' = [] := by
  intro k
  induction k with
  | zero => intro n x m' _ _ _ h4; unfold fp_pu; rw [if_neg (by omega)]
  | succ k ih =>
    intro n x m' h1 h2 h3 h4
    by_cases t : fp_tp π root n = true
    · exact fp_pu_tp π rt _ x (by omega) t
    · rw [fp_pu_st π rt k x (by omega) t]
      obtain ⟨s1, s2, s3, _⟩ := fp_stepU C h1 h3 t
      exact fp_fm_nil _ _ fun y _ => ih _ y m' s2 (by omega) s3 (by omega)
theorem fp_sk_ev (C : fp_cx π m root) (rt : Nat → List fp_Row) : ∀ k n x, n ≤ root → root ≤ n + k → fp_pl π root n = true → fp_sk (fp_ev π root rt k n x) = fp_pu π root rt k n x (fp_top π root k n) := by
  intro k
  induction k with
  | zero => intro n x _ _ _; unfold fp_top; rw [fp_pu_self]; rfl
  | succ k ih =>
    intro n x h1 h2 h3
    by_cases t : fp_tp π root n = true
    · unfold fp_ev fp_top; rw [if_pos t, if_pos t, fp_pu_self]; rfl
    · obtain ⟨s1, s2, s3, _⟩ := fp_stepU C h1 h3 t
      obtain ⟨_, r2, _, _⟩ := fp_top_tp C k _ s2 (by omega) s3
      rw [fp_ev_s, fp_top_s, if_neg t, if_neg t, fp_pu_st π rt k x (by omega) t, fp_sk_fm]
      refine fp_fm_eq _ _ _ fun y _ => ?_
      rw [fp_sk_app, fp_sk_cn, List.nil_append]
      exact ih _ y s2 (by omega) s3
theorem fp_ct_low (C : fp_cx π m root) (rt : Nat → List fp_Row) : ∀ k n x m', n ≤ root → root ≤ n + k → fp_pl π root n = true → m' ≤ n → fp_ct m' (fp_ev π root rt k n x) = 0 := by
  intro k
  induction k with
  | zero => intro n x m' _ _ _ _; rfl
  | succ k ih =>
    intro n x m' h1 h2 h3 h4
    by_cases t : fp_tp π root n = true
    · rw [fp_ev_s, if_pos t]; rfl
    · obtain ⟨s1, s2, s3, _⟩ := fp_stepU C h1 h3 t
      rw [fp_ev_s, if_neg t, fp_ct_fm]
      refine fp_sum0 _ _ fun y _ => ?_
      rw [fp_ct_app, fp_ct_cn, if_neg (by omega), ih _ y m' s2 (by omega) s3 (by omega)]
theorem fp_ct_ev (C : fp_cx π m root) (rt : Nat → List fp_Row) : ∀ k n x m', n ≤ root → root ≤ n + k → fp_pl π root n = true → n ≠ m' → (fp_kd π m' = 4 ∨ fp_kd π m' = 9) → fp_ct m' (fp_ev π root rt k n x) = (fp_pu π root rt k n x m').length := by
  intro k
  induction k with
  | zero => intro n x m' _ _ _ h _; unfold fp_pu; rw [if_neg h]; rfl
  | succ k ih =>
    intro n x m' h1 h2 h3 h4 h5
    by_cases t : fp_tp π root n = true
    · rw [fp_ev_s, if_pos t, fp_pu_tp π rt _ x h4 t]; rfl
    · obtain ⟨s1, s2, s3, _⟩ := fp_stepU C h1 h3 t
      rw [fp_ev_s, if_neg t, fp_ct_fm, fp_pu_st π rt k x h4 t, ← fp_sumlen]
      refine fp_sumcg _ _ _ fun y _ => ?_
      rw [fp_ct_app, fp_ct_cn]
      by_cases e : fp_par π n = m'
      · subst e
        rw [if_pos ⟨rfl, h5⟩, fp_pu_self, fp_ct_low C rt k _ y _ s2 (by omega) s3 (Nat.le_refl _)]; rfl
      · rw [if_neg (fun z => e z.1), Nat.zero_add]
        exact ih _ y m' s2 (by omega) s3 e h5
theorem fp_ct_no (rt : Nat → List fp_Row) : ∀ k n x m', ¬ (fp_kd π m' = 4 ∨ fp_kd π m' = 9) → fp_ct m' (fp_ev π root rt k n x) = 0 := by
  intro k
  induction k with
  | zero => intro n x m' _; rfl
  | succ k ih =>
    intro n x m' h5
    by_cases t : fp_tp π root n = true
    · rw [fp_ev_s, if_pos t]; rfl
    · rw [fp_ev_s, if_neg t, fp_ct_fm]
      refine fp_sum0 _ _ fun y _ => ?_
      rw [fp_ct_app, fp_ct_cn, if_neg (fun z => h5 z.2), ih _ y m' h5]
/-- a first input that isn't gathered -/
theorem fp_fa_in (C : fp_cx π m root) {c : Nat} (hc : c ≤ root) (hp : fp_pl π root c = true) (h0 : fp_kd π c ≠ 0) (h7 : fp_kd π c ≠ 7) (h8 : fp_kd π c ≠ 8) : fp_fa π c < c ∧ fp_par π (fp_fa π c) = c ∧ fp_pl π root (fp_fa π c) = true ∧ ¬ fp_tp π root (fp_fa π c) = true ∧ fp_to π root (fp_fa π c) = fp_to π root c := by
  have hcm : c < m := by have := C.2; omega
  obtain ⟨_, hk9, _, _, _, _, h1, _, h2, _⟩ := C.1.2 c hcm
  have hch : fp_ch π c (fp_fa π c) := Or.inl ⟨h0, rfl⟩
  obtain ⟨d1, d2, d3, d4⟩ := fp_chdn C.1 hcm hch
  have hpl := fp_pl_ch C.1 hcm hp hch
  have ht : ¬ fp_tp π root (fp_fa π c) = true := by
    rw [fp_tp_iff, d3]
    rintro (e | e | e | ⟨e1, e2, e3⟩)
    · omega
    · exact h7 e
    · exact h8 e
    · have htwo : fp_two π c := by unfold fp_two; omega
      exact (h2 htwo).2.2.1 e3
  refine ⟨d1, d3, hpl, ht, ?_⟩
  rw [fp_to_up C (by omega) hpl ht, d3]
theorem fp_sb_in (C : fp_cx π m root) {c : Nat} (hc : c ≤ root) (hp : fp_pl π root c = true) (h9 : fp_kd π c = 9) : fp_sb π c < c ∧ fp_par π (fp_sb π c) = c ∧ fp_pl π root (fp_sb π c) = true ∧ ¬ fp_tp π root (fp_sb π c) = true ∧ fp_to π root (fp_sb π c) = fp_to π root c := by
  have hcm : c < m := by have := C.2; omega
  have htwo : fp_two π c := Or.inr (Or.inr (Or.inr h9))
  have hch : fp_ch π c (fp_sb π c) := Or.inr ⟨htwo, rfl⟩
  obtain ⟨d1, d2, d3, d4⟩ := fp_chdn C.1 hcm hch
  have hpl := fp_pl_ch C.1 hcm hp hch
  have ht : ¬ fp_tp π root (fp_sb π c) = true := by
    rw [fp_tp_iff, d3]
    rintro (e | e | e | ⟨e1, e2, e3⟩) <;> omega
  refine ⟨d1, d3, hpl, ht, ?_⟩
  rw [fp_to_up C (by omega) hpl ht, d3]
theorem fp_last1 (C : fp_cx π m root) (rt : Nat → List fp_Row) {c : Nat} (hc : c ≤ root) (hp : fp_pl π root c = true) (h0 : fp_kd π c ≠ 0) (h7 : fp_kd π c ≠ 7) (h8 : fp_kd π c ≠ 8) (h9 : fp_kd π c ≠ 9) : ∀ k s x, s ≤ root → root ≤ s + k → fp_pl π root s = true → s ≠ c → fp_pu π root rt k s x c = (fp_pu π root rt k s x (fp_fa π c)).flatMap (fp_phi π rt c) := by
  obtain ⟨a1, a2, a3, a4, _⟩ := fp_fa_in C hc hp h0 h7 h8
  intro k
  induction k with
  | zero =>
    intro s x h1 h2 h3 h4
    unfold fp_pu; rw [if_neg h4, if_neg (by omega)]; rfl
  | succ k ih =>
    intro s x h1 h2 h3 h4
    by_cases t : fp_tp π root s = true
    · have : s ≠ fp_fa π c := fun e => a4 (e ▸ t)
      rw [fp_pu_tp π rt _ x h4 t, fp_pu_tp π rt _ x this t]; rfl
    · obtain ⟨s1, s2, s3, s4, s5, s6, s7⟩ := fp_stepU C h1 h3 t
      rw [fp_pu_st π rt k x h4 t]
      by_cases e : fp_par π s = c
      · have es : fp_fa π c = s := by
          rw [e] at s7
          rcases s7 with s7 | s7
          · exact s7
          · exact absurd s7.1 h9
        rw [es, fp_pu_self, e]
        have : (fun y => fp_pu π root rt k c y c) = fun y => [y] := funext fun y => fp_pu_self π root rt k c y
        rw [this, fp_fm_one, List.flatMap_cons, List.flatMap_nil, List.append_nil]
      · have hs : s ≠ fp_fa π c := fun z => e (by rw [z]; exact a2)
        rw [fp_pu_st π rt k x hs t, fp_fm_as]
        exact fp_fm_eq _ _ _ fun y _ => ih _ y s2 (by omega) s3 e
theorem fp_last2 (C : fp_cx π m root) (rt : Nat → List fp_Row) {c : Nat} (hc : c ≤ root) (hp : fp_pl π root c = true) (h9 : fp_kd π c = 9) : ∀ k s x, s ≤ root → root ≤ s + k → fp_pl π root s = true → s ≠ c → (fp_pu π root rt k s x c).Perm (fp_pu π root rt k s x (fp_fa π c) ++ fp_pu π root rt k s x (fp_sb π c)) := by
  obtain ⟨a1, a2, a3, a4, _⟩ := fp_fa_in C hc hp (by omega) (by omega) (by omega)
  obtain ⟨b1, b2, b3, b4, _⟩ := fp_sb_in C hc hp h9
  have hab : fp_sb π c ≠ fp_fa π c := by
    have hcm : c < m := by have := C.2; omega
    obtain ⟨_, _, _, _, _, _, _, _, h2, _⟩ := C.1.2 c hcm
    exact (h2 (Or.inr (Or.inr (Or.inr h9)))).2.2.1
  have hphi : ∀ x, fp_phi π rt c x = [x] := by intro x; unfold fp_phi; simp [h9]
  intro k
  induction k with
  | zero =>
    intro s x h1 h2 h3 h4
    unfold fp_pu; rw [if_neg h4, if_neg (by omega), if_neg (by omega)]; exact List.Perm.refl _
  | succ k ih =>
    intro s x h1 h2 h3 h4
    by_cases t : fp_tp π root s = true
    · have e1 : s ≠ fp_fa π c := fun e => a4 (e ▸ t)
      have e2 : s ≠ fp_sb π c := fun e => b4 (e ▸ t)
      rw [fp_pu_tp π rt _ x h4 t, fp_pu_tp π rt _ x e1 t, fp_pu_tp π rt _ x e2 t]; exact List.Perm.refl _
    · obtain ⟨s1, s2, s3, s4, s5, s6, s7⟩ := fp_stepU C h1 h3 t
      rw [fp_pu_st π rt k x h4 t]
      by_cases e : fp_par π s = c
      · have hl : (fp_phi π rt (fp_par π s) x).flatMap (fun y => fp_pu π root rt k (fp_par π s) y c) = [x] := by
          rw [e, hphi, List.flatMap_cons, List.flatMap_nil, List.append_nil, fp_pu_self]
        rw [hl]
        rw [e] at s7
        rcases s7 with s7 | ⟨_, s7⟩
        · rw [s7, fp_pu_self]
          have hs : s ≠ fp_sb π c := by rw [← s7]; exact hab.symm
          rw [fp_pu_st π rt k x hs t, fp_fm_nil]
          · exact List.Perm.refl _
          · intro y _
            exact fp_pu_low C rt k _ y _ s2 (by omega) s3 (by omega)
        · rw [s7, fp_pu_self]
          have hs : s ≠ fp_fa π c := by rw [← s7]; exact hab
          rw [fp_pu_st π rt k x hs t, fp_fm_nil]
          · exact List.Perm.refl _
          · intro y _
            exact fp_pu_low C rt k _ y _ s2 (by omega) s3 (by omega)
      · have hs : s ≠ fp_fa π c := fun z => e (by rw [z]; exact a2)
        have hs' : s ≠ fp_sb π c := fun z => e (by rw [z]; exact b2)
        rw [fp_pu_st π rt k x hs t, fp_pu_st π rt k x hs' t]
        exact (fp_fm_cg _ _ _ fun y _ => ih _ y s2 (by omega) s3 e).trans (fp_fm_app _ _ _)
theorem fp_last0 (C : fp_cx π m root) (rt : Nat → List fp_Row) {c : Nat} (hc : c ≤ root) (h : fp_kd π c = 0 ∨ fp_kd π c = 7 ∨ fp_kd π c = 8) : ∀ k s x, s ≤ root → root ≤ s + k → fp_pl π root s = true → s ≠ c → fp_pu π root rt k s x c = [] := by
  intro k
  induction k with
  | zero =>
    intro s x h1 h2 h3 h4
    unfold fp_pu; rw [if_neg h4]
  | succ k ih =>
    intro s x h1 h2 h3 h4
    by_cases t : fp_tp π root s = true
    · exact fp_pu_tp π rt _ x h4 t
    · obtain ⟨s1, s2, s3, s4, s5, s6, s7⟩ := fp_stepU C h1 h3 t
      rw [fp_pu_st π rt k x h4 t]
      refine fp_fm_nil _ _ fun y _ => ih _ y s2 (by omega) s3 ?_
      intro e
      rw [e] at s4 s5 s6
      omega
/-! ## the rows of a node, from the sources of its pipelines -/
def fp_so (π : fp_Pl) (s : Nat) : Bool := decide (fp_kd π s = 0) || decide (fp_kd π s = 7) || decide (fp_kd π s = 8)
theorem fp_so_iff (π : fp_Pl) (s : Nat) : fp_so π s = true ↔ fp_kd π s = 0 ∨ fp_kd π s = 7 ∨ fp_kd π s = 8 := by
  unfold fp_so; simp only [Bool.or_eq_true, decide_eq_true_eq, or_assoc]
def fp_src (π : fp_Pl) (root t j : Nat) : List Nat := (List.range j).filter (fun s => fp_pl π root s && fp_so π s && decide (fp_to π root s = t))
theorem fp_src_mem {t j s : Nat} : s ∈ fp_src π root t j ↔ s < j ∧ fp_pl π root s = true ∧ fp_so π s = true ∧ fp_to π root s = t := by
  unfold fp_src
  rw [List.mem_filter, List.mem_range, Bool.and_eq_true, Bool.and_eq_true, decide_eq_true_eq, and_assoc]
theorem fp_src_nodup {t j : Nat} : (fp_src π root t j).Nodup := List.Pairwise.filter _ List.nodup_range
def fp_em (π : fp_Pl) (root : Nat) (rt D : Nat → List fp_Row) (S : List Nat) (c : Nat) : List fp_Row := S.flatMap (fun s => (D s).flatMap (fun x => fp_pu π root rt 12 s x c))
theorem fp_phi_perm (π : fp_Pl) (f g : Nat → List fp_Row) (n : Nat) (x : fp_Row) (h : 4 ≤ fp_kd π n → fp_kd π n ≤ 6 → (f (fp_sb π n)).Perm (g (fp_sb π n))) : (fp_phi π f n x).Perm (fp_phi π g n x) := by
  unfold fp_phi
  by_cases h4 : fp_kd π n = 4
  · have hp := h (by omega) (by omega)
    simp only [h4]
    exact (hp.filter _).map _
  · by_cases h5 : fp_kd π n = 5
    · have hp := h (by omega) (by omega)
      rw [hp.any_eq]
      simp only [h5]; exact List.Perm.refl _
    · by_cases h6 : fp_kd π n = 6
      · have hp := h (by omega) (by omega)
        rw [hp.any_eq]
        simp only [h6]; exact List.Perm.refl _
      · simp only [h4, h5, h6, if_false]; exact List.Perm.refl _
theorem fp_main (C : fp_cx π m root) (TB rt D : Nat → List fp_Row) (t : Nat) (ht : t ≤ root)
    (hD : ∀ s, s ≤ root → fp_pl π root s = true → fp_so π s = true → fp_to π root s = t → (D s).Perm (fp_L π TB s))
    (hrt : ∀ c, c ≤ root → fp_pl π root c = true → 4 ≤ fp_kd π c → fp_kd π c ≤ 6 → fp_to π root c = t → (rt (fp_sb π c)).Perm (fp_L π TB (fp_sb π c))) :
    ∀ d c, c < d → c ≤ root → fp_pl π root c = true → fp_to π root c = t → (fp_em π root rt D (fp_src π root t (t + 1)) c).Perm (fp_L π TB c) := by
  intro d
  induction d with
  | zero => intro c h; omega
  | succ d ih =>
    intro c hd hc hp hto
    have hcm : c < m := by have := C.2; omega
    have hm := C.1.1
    have hr := C.2
    have hsrc : ∀ s, s ∈ fp_src π root t (t + 1) → s ≤ root ∧ fp_pl π root s = true ∧ fp_so π s = true ∧ fp_to π root s = t := by
      intro s hs
      obtain ⟨q1, q2, q3, q4⟩ := fp_src_mem.mp hs
      exact ⟨by omega, q2, q3, q4⟩
    by_cases hs : fp_so π c = true
    · have hs' := (fp_so_iff π c).mp hs
      have hin : c ∈ fp_src π root t (t + 1) := by
        refine fp_src_mem.mpr ⟨?_, hp, hs, hto⟩
        have := (fp_to_all C hc hp).2.1
        omega
      unfold fp_em
      rw [fp_fm_only _ c _ fp_src_nodup hin]
      · have : (fun x => fp_pu π root rt 12 c x c) = fun x => [x] := funext fun x => fp_pu_self π root rt 12 c x
        rw [this, fp_fm_one]
        exact hD c hc hp hs hto
      · intro s hs1 hne
        obtain ⟨q1, q2, _⟩ := hsrc s hs1
        exact fp_fm_nil _ _ fun x _ => fp_last0 C rt hc hs' 12 s x q1 (by omega) q2 hne
    · have hs' : ¬ (fp_kd π c = 0 ∨ fp_kd π c = 7 ∨ fp_kd π c = 8) := fun e => hs ((fp_so_iff π c).mpr e)
      have hne : ∀ s, s ∈ fp_src π root t (t + 1) → s ≠ c := fun s h1 e => hs (e ▸ (hsrc s h1).2.2.1)
      obtain ⟨a1, a2, a3, a4, a5⟩ := fp_fa_in C hc hp (by omega) (by omega) (by omega)
      have iha := ih (fp_fa π c) (by omega) (by omega) a3 (a5.trans hto)
      rw [fp_L_eq TB C.1 hcm]
      by_cases h9 : fp_kd π c = 9
      · obtain ⟨b1, b2, b3, b4, b5⟩ := fp_sb_in C hc hp h9
        have ihb := ih (fp_sb π c) (by omega) (by omega) b3 (b5.trans hto)
        have e : fp_op π TB (fp_L π TB) c = fp_L π TB (fp_fa π c) ++ fp_L π TB (fp_sb π c) := by
          unfold fp_op; simp [h9]
        rw [e]
        refine List.Perm.trans ?_ (iha.append ihb)
        unfold fp_em
        refine List.Perm.trans ?_ (fp_fm_app _ _ _)
        refine fp_fm_cg _ _ _ fun s hs1 => ?_
        refine List.Perm.trans ?_ (fp_fm_app _ _ _)
        refine fp_fm_cg _ _ _ fun x _ => ?_
        obtain ⟨q1, q2, _⟩ := hsrc s hs1
        exact fp_last2 C rt hc hp h9 12 s x q1 (by omega) q2 (hne s hs1)
      · have e : fp_op π TB (fp_L π TB) c = (fp_L π TB (fp_fa π c)).flatMap (fp_phi π (fp_L π TB) c) := by
          unfold fp_op
          rw [if_neg (by omega), if_neg (by omega), if_neg (by omega), if_neg h9]
        have e2 : fp_em π root rt D (fp_src π root t (t + 1)) c = (fp_em π root rt D (fp_src π root t (t + 1)) (fp_fa π c)).flatMap (fp_phi π rt c) := by
          unfold fp_em
          rw [fp_fm_as]
          refine fp_fm_eq _ _ _ fun s hs1 => ?_
          rw [fp_fm_as]
          refine fp_fm_eq _ _ _ fun x _ => ?_
          obtain ⟨q1, q2, _⟩ := hsrc s hs1
          exact fp_last1 C rt hc hp (by omega) (by omega) (by omega) h9 12 s x q1 (by omega) q2 (hne s hs1)
        rw [e, e2]
        refine (iha.flatMap_right _).trans ?_
        exact fp_fm_cg _ _ _ fun x _ => fp_phi_perm π rt _ c x fun h4 h6 => hrt c hc hp h4 h6 hto
/-! ## which nodes can be too large -/
theorem fp_phi_len (π : fp_Pl) (f : Nat → List fp_Row) (n : Nat) (x : fp_Row) (h : fp_kd π n ≠ 4) : (fp_phi π f n x).length ≤ 1 := by
  unfold fp_phi
  rw [if_neg h]
  split
  · split <;> simp
  · split
    · simp
    · split
      · simp
      · split
        · split <;> simp
        · split
          · split <;> simp
          · simp
theorem fp_len (C : fp_cx π m root) (TB : Nat → List fp_Row) (hT : ∀ t, t < 3 → (TB t).length ≤ 6)
    (h : ∀ c, c ≤ root → fp_pl π root c = true → (fp_kd π c = 4 ∨ fp_kd π c = 9) → (fp_L π TB c).length ≤ 20) :
    ∀ d c, c < d → c ≤ root → fp_pl π root c = true → (fp_L π TB c).length ≤ 20 := by
  intro d
  induction d with
  | zero => intro c h; omega
  | succ d ih =>
    intro c hd hc hp
    have hcm : c < m := by have := C.2; omega
    obtain ⟨_, hk9, _, _, _, _, h1, _, _, _, hprm⟩ := C.1.2 c hcm
    by_cases h49 : fp_kd π c = 4 ∨ fp_kd π c = 9
    · exact h c hc hp h49
    · rw [fp_L_eq TB C.1 hcm]
      unfold fp_op
      by_cases h0 : fp_kd π c = 0
      · rw [if_pos h0]
        have := hT _ (hprm.1 h0).1.2
        omega
      · rw [if_neg h0]
        have hch : fp_ch π c (fp_fa π c) := Or.inl ⟨h0, rfl⟩
        have hpl := fp_pl_ch C.1 hcm hp hch
        have hlt := (h1 h0).2.1
        have hi := ih (fp_fa π c) (by omega) (by omega) hpl
        by_cases h7 : fp_kd π c = 7
        · rw [if_pos h7]
          exact Nat.le_trans (fp_grp_len _ _ _ _) hi
        · rw [if_neg h7]
          by_cases h8 : fp_kd π c = 8
          · rw [if_pos h8]
            exact Nat.le_trans (fp_dd_len _) hi
          · rw [if_neg h8, if_neg (fun e => h49 (Or.inr e))]
            exact Nat.le_trans (fp_fm_len _ _ fun x _ => fp_phi_len π _ c x (fun e => h49 (Or.inl e))) hi
end
end
section
/-! ## the states' components -/
abbrev xx_nodes (u : SX) : Int32 := u.1
abbrev xx_root (u : SX) : Int32 := u.2.1
abbrev xx_codeLength (u : SX) : Int32 := u.2.2.1
abbrev xx_mapWidth (u : SX) : Int32 := u.2.2.2.1
abbrev xx_registersUsed (u : SX) : Int32 := u.2.2.2.2.1
abbrev xx_depth (u : SX) : Int32 := u.2.2.2.2.2.1
abbrev xx_overflow (u : SX) : Int32 := u.2.2.2.2.2.2.1
abbrev xx_resultWidth (u : SX) : Int32 := u.2.2.2.2.2.2.2.1
abbrev xx_resultRows (u : SX) : Int32 := u.2.2.2.2.2.2.2.2.1
abbrev xx_tableCells (u : SX) : Nat → Int32 := u.2.2.2.2.2.2.2.2.2.1
abbrev xx_tableRows (u : SX) : Nat → Int32 := u.2.2.2.2.2.2.2.2.2.2.1
abbrev xx_kindOf (u : SX) : Nat → Int32 := u.2.2.2.2.2.2.2.2.2.2.2.1
abbrev xx_first (u : SX) : Nat → Int32 := u.2.2.2.2.2.2.2.2.2.2.2.2.1
abbrev xx_second (u : SX) : Nat → Int32 := u.2.2.2.2.2.2.2.2.2.2.2.2.2.1
abbrev xx_p (u : SX) : Nat → Int32 := u.2.2.2.2.2.2.2.2.2.2.2.2.2.2.1
abbrev xx_q (u : SX) : Nat → Int32 := u.2.2.2.2.2.2.2.2.2.2.2.2.2.2.2.1
abbrev xx_r (u : SX) : Nat → Int32 := u.2.2.2.2.2.2.2.2.2.2.2.2.2.2.2.2.1
abbrev xx_widthOf (u : SX) : Nat → Int32 := u.2.2.2.2.2.2.2.2.2.2.2.2.2.2.2.2.2.1
abbrev xx_parent (u : SX) : Nat → Int32 := u.2.2.2.2.2.2.2.2.2.2.2.2.2.2.2.2.2.2.1
abbrev xx_inPlan (u : SX) : Nat → Int32 := u.2.2.2.2.2.2.2.2.2.2.2.2.2.2.2.2.2.2.2.1
abbrev xx_given (u : SX) : Nat → Int32 := u.2.2.2.2.2.2.2.2.2.2.2.2.2.2.2.2.2.2.2.2.1
abbrev xx_store (u : SX) : Nat → Int32 := u.2.2.2.2.2.2.2.2.2.2.2.2.2.2.2.2.2.2.2.2.2.1
abbrev xx_storeRows (u : SX) : Nat → Int32 := u.2.2.2.2.2.2.2.2.2.2.2.2.2.2.2.2.2.2.2.2.2.2.1
abbrev xx_heads (u : SX) : Nat → Int32 := u.2.2.2.2.2.2.2.2.2.2.2.2.2.2.2.2.2.2.2.2.2.2.2.1
abbrev xx_chain (u : SX) : Nat → Int32 := u.2.2.2.2.2.2.2.2.2.2.2.2.2.2.2.2.2.2.2.2.2.2.2.2.1
abbrev xx_op (u : SX) : Nat → Int32 := u.2.2.2.2.2.2.2.2.2.2.2.2.2.2.2.2.2.2.2.2.2.2.2.2.2.1
abbrev xx_opA (u : SX) : Nat → Int32 := u.2.2.2.2.2.2.2.2.2.2.2.2.2.2.2.2.2.2.2.2.2.2.2.2.2.2.1
abbrev xx_opB (u : SX) : Nat → Int32 := u.2.2.2.2.2.2.2.2.2.2.2.2.2.2.2.2.2.2.2.2.2.2.2.2.2.2.2.1
abbrev xx_opC (u : SX) : Nat → Int32 := u.2.2.2.2.2.2.2.2.2.2.2.2.2.2.2.2.2.2.2.2.2.2.2.2.2.2.2.2.1
abbrev xx_opD (u : SX) : Nat → Int32 := u.2.2.2.2.2.2.2.2.2.2.2.2.2.2.2.2.2.2.2.2.2.2.2.2.2.2.2.2.2.1
abbrev xx_opE (u : SX) : Nat → Int32 := u.2.2.2.2.2.2.2.2.2.2.2.2.2.2.2.2.2.2.2.2.2.2.2.2.2.2.2.2.2.2.1
abbrev xx_map (u : SX) : Nat → Int32 := u.2.2.2.2.2.2.2.2.2.2.2.2.2.2.2.2.2.2.2.2.2.2.2.2.2.2.2.2.2.2.2.1
abbrev xx_picked (u : SX) : Nat → Int32 := u.2.2.2.2.2.2.2.2.2.2.2.2.2.2.2.2.2.2.2.2.2.2.2.2.2.2.2.2.2.2.2.2.1
abbrev xx_register (u : SX) : Nat → Int32 := u.2.2.2.2.2.2.2.2.2.2.2.2.2.2.2.2.2.2.2.2.2.2.2.2.2.2.2.2.2.2.2.2.2.1
abbrev xx_loopAt (u : SX) : Nat → Int32 := u.2.2.2.2.2.2.2.2.2.2.2.2.2.2.2.2.2.2.2.2.2.2.2.2.2.2.2.2.2.2.2.2.2.2.1
abbrev xx_loopCode (u : SX) : Nat → Int32 := u.2.2.2.2.2.2.2.2.2.2.2.2.2.2.2.2.2.2.2.2.2.2.2.2.2.2.2.2.2.2.2.2.2.2.2.1
abbrev xx_result (u : SX) : Nat → Int32 := u.2.2.2.2.2.2.2.2.2.2.2.2.2.2.2.2.2.2.2.2.2.2.2.2.2.2.2.2.2.2.2.2.2.2.2.2.1
abbrev xx_order (u : SX) : Nat → Int32 := u.2.2.2.2.2.2.2.2.2.2.2.2.2.2.2.2.2.2.2.2.2.2.2.2.2.2.2.2.2.2.2.2.2.2.2.2.2
abbrev yy_nodes (u : SY) : Int32 := u.1
abbrev yy_over (u : SY) : Int32 := u.2.1
abbrev yy_resultRows (u : SY) : Int32 := u.2.2.1
abbrev yy_resultWidth (u : SY) : Int32 := u.2.2.2.1
abbrev yy_tables (u : SY) : Nat → Int32 := u.2.2.2.2.1
abbrev yy_held (u : SY) : Nat → Int32 := u.2.2.2.2.2.1
abbrev yy_kind (u : SY) : Nat → Int32 := u.2.2.2.2.2.2.1
abbrev yy_left (u : SY) : Nat → Int32 := u.2.2.2.2.2.2.2.1
abbrev yy_right (u : SY) : Nat → Int32 := u.2.2.2.2.2.2.2.2.1
abbrev yy_p (u : SY) : Nat → Int32 := u.2.2.2.2.2.2.2.2.2.1
abbrev yy_q (u : SY) : Nat → Int32 := u.2.2.2.2.2.2.2.2.2.2.1
abbrev yy_r (u : SY) : Nat → Int32 := u.2.2.2.2.2.2.2.2.2.2.2.1
abbrev yy_widths (u : SY) : Nat → Int32 := u.2.2.2.2.2.2.2.2.2.2.2.2.1
abbrev yy_used (u : SY) : Nat → Int32 := u.2.2.2.2.2.2.2.2.2.2.2.2.2.1
abbrev yy_rows (u : SY) : Nat → Int32 := u.2.2.2.2.2.2.2.2.2.2.2.2.2.2.1
abbrev yy_given (u : SY) : Nat → Int32 := u.2.2.2.2.2.2.2.2.2.2.2.2.2.2.2.1
abbrev yy_needed (u : SY) : Nat → Int32 := u.2.2.2.2.2.2.2.2.2.2.2.2.2.2.2.2.1
abbrev yy_row (u : SY) : Nat → Int32 := u.2.2.2.2.2.2.2.2.2.2.2.2.2.2.2.2.2.1
abbrev yy_result (u : SY) : Nat → Int32 := u.2.2.2.2.2.2.2.2.2.2.2.2.2.2.2.2.2.2
theorem xx_eta (u : SX) : u = ((xx_nodes u), (xx_root u), (xx_codeLength u), (xx_mapWidth u), (xx_registersUsed u), (xx_depth u), (xx_overflow u), (xx_resultWidth u), (xx_resultRows u), (xx_tableCells u), (xx_tableRows u), (xx_kindOf u), (xx_first u), (xx_second u), (xx_p u), (xx_q u), (xx_r u), (xx_widthOf u), (xx_parent u), (xx_inPlan u), (xx_given u), (xx_store u), (xx_storeRows u), (xx_heads u), (xx_chain u), (xx_op u), (xx_opA u), (xx_opB u), (xx_opC u), (xx_opD u), (xx_opE u), (xx_map u), (xx_picked u), (xx_register u), (xx_loopAt u), (xx_loopCode u), (xx_result u), (xx_order u)) := rfl
theorem yy_eta (u : SY) : u = ((yy_nodes u), (yy_over u), (yy_resultRows u), (yy_resultWidth u), (yy_tables u), (yy_held u), (yy_kind u), (yy_left u), (yy_right u), (yy_p u), (yy_q u), (yy_r u), (yy_widths u), (yy_used u), (yy_rows u), (yy_given u), (yy_needed u), (yy_row u), (yy_result u)) := rfl
end
section
/-! ## index arithmetic -/
theorem fi_y (k i c : Nat) : (6 : Int32) * ((20 : Int32) * nI k + nI i) + nI c = nI (6 * (20 * k + i) + c) := by
  rw [show (6 : Int32) = nI 6 from rfl, show (20 : Int32) = nI 20 from rfl, pk_mul, nI_add, pk_mul, nI_add]
theorem fi_s0 (a i : Nat) : (120 : Int32) * nI a + (6 : Int32) * nI i = nI (120 * a + 6 * i) := by
  rw [show (6 : Int32) = nI 6 from rfl, show (120 : Int32) = nI 120 from rfl, pk_mul, pk_mul, nI_add]
theorem fi_s (a i c : Nat) : (120 : Int32) * nI a + (6 : Int32) * nI i + nI c = nI (120 * a + 6 * i + c) := by
  rw [fi_s0, nI_add]
theorem fi_t0 (t i : Nat) : (18 : Int32) * nI t + (3 : Int32) * nI i = nI (18 * t + 3 * i) := by
  rw [show (18 : Int32) = nI 18 from rfl, show (3 : Int32) = nI 3 from rfl, pk_mul, pk_mul, nI_add]
theorem fi_t (t i c : Nat) : (18 : Int32) * nI t + (3 : Int32) * nI i + nI c = nI (18 * t + 3 * i + c) := by
  rw [fi_t0, nI_add]
theorem fi_u0 (t i : Nat) : (3 : Int32) * ((6 : Int32) * nI t + nI i) = nI (18 * t + 3 * i) := by
  rw [show (6 : Int32) = nI 6 from rfl, show (3 : Int32) = nI 3 from rfl, pk_mul, nI_add, pk_mul]
  exact congrArg nI (by omega)
theorem fi_u (t i c : Nat) : (3 : Int32) * ((6 : Int32) * nI t + nI i) + nI c = nI (18 * t + 3 * i + c) := by
  rw [fi_u0, nI_add]
theorem fi_h (a b : Nat) : (8 : Int32) * nI a + nI b = nI (8 * a + b) := by
  rw [show (8 : Int32) = nI 8 from rfl, pk_mul, nI_add]
theorem fi_c (a i : Nat) : (20 : Int32) * nI a + nI i = nI (20 * a + i) := by
  rw [show (20 : Int32) = nI 20 from rfl, pk_mul, nI_add]
theorem fi_r (i c : Nat) : (6 : Int32) * nI i + nI c = nI (6 * i + c) := by
  rw [show (6 : Int32) = nI 6 from rfl, pk_mul, nI_add]
theorem fi_o (i c : Nat) : (1440 : Int32) + (6 : Int32) * nI i + nI c = nI (1440 + 6 * i + c) := by
  rw [show (6 : Int32) = nI 6 from rfl, show (1440 : Int32) = nI 1440 from rfl, pk_mul, nI_add, nI_add]
theorem fi_us {f : Nat → Int32} {k : Nat} {x : Int32} : upd f k x k = x := by unfold upd; rw [if_pos rfl]
theorem fi_un {f : Nat → Int32} {k j : Nat} {x : Int32} (h : j ≠ k) : upd f k x j = f j := by unfold upd; rw [if_neg h]
theorem fi_lt {a : Nat} (h : a < 4096) : a < 2 ^ 31 := by omega
theorem fi_cl {a : Nat} (h : a < 4096) : (nI a).toNatClampNeg = a := nI_clamp (by omega)
end
section
/-! ## what a sink does, and the state of one run -/
def fp_snk (π : fp_Pl) (root t : Nat) (T : List fp_Row) (x : fp_Row) : List fp_Row :=
  if t = root then T ++ [x]
  else if fp_kd π (fp_par π t) = 7 then fp_gst (fp_q π (fp_par π t)) T (fp_at x (fp_p π (fp_par π t))) (fp_at x (fp_r π (fp_par π t)))
  else if fp_kd π (fp_par π t) = 8 then (if x ∈ T then T else T ++ [x])
  else T ++ [x]
def fp_skf (π : fp_Pl) (root t : Nat) (l : List fp_Row) : List fp_Row := l.foldl (fp_snk π root t) []
def fp_sks (π : fp_Pl) (root t : Nat) (l : List fp_Row) : List fp_Row :=
  if t = root then l
  else if fp_kd π (fp_par π t) = 7 then fp_grp (fp_p π (fp_par π t)) (fp_q π (fp_par π t)) (fp_r π (fp_par π t)) l
  else if fp_kd π (fp_par π t) = 8 then fp_dd l
  else l
theorem fp_skf_eq (π : fp_Pl) (root t : Nat) (l : List fp_Row) : fp_skf π root t l = fp_sks π root t l := by
  have hsn : ∀ l x, fp_skf π root t (l ++ [x]) = fp_snk π root t (fp_skf π root t l) x := by
    intro l x; unfold fp_skf; rw [List.foldl_append]; rfl
  refine fp_rev (P := fun l => fp_skf π root t l = fp_sks π root t l) ?_ ?_ l
  · unfold fp_sks
    have : fp_skf π root t [] = [] := rfl
    rw [this]
    split
    · rfl
    · split
      · rfl
      · split <;> rfl
  · intro l x ih
    rw [hsn, ih]
    unfold fp_sks fp_snk
    by_cases h1 : t = root
    · simp only [h1, if_true]
    · simp only [h1, if_false]
      by_cases h7 : fp_kd π (fp_par π t) = 7
      · simp only [h7, if_true]; exact fp_grp_snoc _ _ _ _ _
      · simp only [h7, if_false]
        by_cases h8 : fp_kd π (fp_par π t) = 8
        · simp only [h8, if_true]
          rw [fp_dd_snoc]
          by_cases hx : x ∈ fp_dd l
          · rw [if_pos hx, if_pos hx]
          · rw [if_neg hx, if_neg hx]
        · simp only [h8, if_false]
theorem fp_sks_len (π : fp_Pl) (root t : Nat) (l : List fp_Row) : (fp_sks π root t l).length ≤ l.length := by
  unfold fp_sks
  split
  · exact Nat.le_refl _
  · split
    · exact fp_grp_len _ _ _ _
    · split
      · exact fp_dd_len _
      · exact Nat.le_refl _
theorem fp_gst_len (fn : Int32) (T : List fp_Row) (key v : Int32) : T.length ≤ (fp_gst fn T key v).length := by
  unfold fp_gst
  split
  · rw [List.length_append]; omega
  · rw [List.length_set]; exact Nat.le_refl _
theorem fp_snk_len (π : fp_Pl) (root t : Nat) (T : List fp_Row) (x : fp_Row) : T.length ≤ (fp_snk π root t T x).length := by
  unfold fp_snk
  split
  · rw [List.length_append]; omega
  · split
    · exact fp_gst_len _ _ _ _
    · split
      · split
        · exact Nat.le_refl _
        · rw [List.length_append]; omega
      · rw [List.length_append]; omega
def fp_ar (root t : Nat) : Nat := if t = root then 12 else t
abbrev fp_St : Type := (Nat → Nat) × (Nat → List fp_Row)
def fp_app1 (π : fp_Pl) (root t : Nat) (s : fp_St) (e : fp_Ev) : fp_St := match e with
  | Sum.inl c => (fun j => if j = c then s.1 j + 1 else s.1 j, s.2)
  | Sum.inr x => (s.1, fun a => if a = fp_ar root t then fp_snk π root t (s.2 a) x else s.2 a)
def fp_app (π : fp_Pl) (root t : Nat) (s : fp_St) (l : List fp_Ev) : fp_St := l.foldl (fp_app1 π root t) s
def fp_ok (root t : Nat) (s : fp_St) : Prop := (∀ c, c < 12 → s.1 c ≤ 20) ∧ (s.2 (fp_ar root t)).length ≤ 20
theorem fp_app_app (π : fp_Pl) (root t : Nat) (s : fp_St) (l r : List fp_Ev) : fp_app π root t s (l ++ r) = fp_app π root t (fp_app π root t s l) r := by
  unfold fp_app; rw [List.foldl_append]
theorem fp_app_nil (π : fp_Pl) (root t : Nat) (s : fp_St) : fp_app π root t s [] = s := rfl
theorem fp_app_cons (π : fp_Pl) (root t : Nat) (s : fp_St) (e : fp_Ev) (l : List fp_Ev) : fp_app π root t s (e :: l) = fp_app π root t (fp_app1 π root t s e) l := rfl
theorem fp_app_G (π : fp_Pl) (root t : Nat) (c : Nat) : ∀ (l : List fp_Ev) (s : fp_St), (fp_app π root t s l).1 c = s.1 c + fp_ct c l := by
  intro l
  induction l with
  | nil => intro s; rfl
  | cons e l ih =>
    intro s
    rw [fp_app_cons, ih]
    cases e with
    | inl d =>
      by_cases h : c = d
      · subst h; simp [fp_app1, fp_ct]; omega
      · have h' : ¬ d = c := fun z => h z.symm
        simp [fp_app1, fp_ct, h, h']
    | inr x => simp [fp_app1, fp_ct]
theorem fp_app_X (π : fp_Pl) (root t : Nat) : ∀ (l : List fp_Ev) (s : fp_St), (fp_app π root t s l).2 (fp_ar root t) = (fp_sk l).foldl (fp_snk π root t) (s.2 (fp_ar root t)) := by
  intro l
  induction l with
  | nil => intro s; rfl
  | cons e l ih =>
    intro s
    rw [fp_app_cons, ih]
    cases e with
    | inl d => simp [fp_app1, fp_sk]
    | inr x => simp [fp_app1, fp_sk]
theorem fp_app_N (π : fp_Pl) (root t : Nat) {a : Nat} (ha : a ≠ fp_ar root t) : ∀ (l : List fp_Ev) (s : fp_St), (fp_app π root t s l).2 a = s.2 a := by
  intro l
  induction l with
  | nil => intro s; rfl
  | cons e l ih =>
    intro s
    rw [fp_app_cons, ih]
    cases e with
    | inl d => rfl
    | inr x => simp [fp_app1, ha]
theorem fp_fold_len (π : fp_Pl) (root t : Nat) : ∀ (l : List fp_Row) (T : List fp_Row), T.length ≤ (l.foldl (fp_snk π root t) T).length := by
  intro l
  induction l with
  | nil => intro T; exact Nat.le_refl _
  | cons x l ih =>
    intro T
    rw [List.foldl_cons]
    exact Nat.le_trans (fp_snk_len π root t T x) (ih _)
theorem fp_ok_mono (π : fp_Pl) (root t : Nat) (s : fp_St) (l : List fp_Ev) (h : fp_ok root t (fp_app π root t s l)) : fp_ok root t s := by
  obtain ⟨h1, h2⟩ := h
  refine ⟨fun c hc => ?_, ?_⟩
  · have := h1 c hc
    rw [fp_app_G] at this; omega
  · rw [fp_app_X] at h2
    exact Nat.le_trans (fp_fold_len π root t _ _) h2
/-! ## the pipelines of one top -/
def fp_D (π : fp_Pl) (TB XS : Nat → List fp_Row) (s : Nat) : List fp_Row := if fp_kd π s = 0 then TB (fp_p π s).toNatClampNeg else XS (fp_fa π s)
def fp_rt (XS : Nat → List fp_Row) (b : Nat) : List fp_Row := (XS b).reverse
def fp_evs (π : fp_Pl) (root : Nat) (TB XS : Nat → List fp_Row) (s : Nat) : List fp_Ev := (fp_D π TB XS s).flatMap (fun x => fp_ev π root (fp_rt XS) 12 s x)
def fp_emX (π : fp_Pl) (root : Nat) (TB XS : Nat → List fp_Row) (t j c : Nat) : List fp_Row := fp_em π root (fp_rt XS) (fp_D π TB XS) (fp_src π root t j) c
/-- what stands when the tops below t are done -/
def fp_done (π : fp_Pl) (root : Nat) (TB : Nat → List fp_Row) (t : Nat) (s : fp_St) : Prop :=
  (∀ c, c ≤ root → fp_pl π root c = true → (fp_kd π c = 4 ∨ fp_kd π c = 9) → (fp_to π root c < t → s.1 c = (fp_L π TB c).length) ∧ (t ≤ fp_to π root c → s.1 c = 0)) ∧
  (∀ c, c ≤ root → fp_pl π root c = true → fp_tp π root c = true → (c < t → (s.2 (fp_ar root c)).Perm (fp_sks π root c (fp_L π TB c))) ∧ (t ≤ c → s.2 (fp_ar root c) = [])) ∧
  (∀ c, c < 12 → s.1 c ≤ 20)
/-- what stands while the pipelines of top t run, those of sources below j done -/
def fp_mid (π : fp_Pl) (root : Nat) (TB : Nat → List fp_Row) (t j : Nat) (s0 s : fp_St) : Prop :=
  (∀ c, c ≤ root → fp_pl π root c = true → (fp_kd π c = 4 ∨ fp_kd π c = 9) → fp_to π root c = t → s.1 c = (fp_emX π root TB s0.2 t j c).length) ∧
  (∀ c, ¬ (c ≤ root ∧ fp_pl π root c = true ∧ (fp_kd π c = 4 ∨ fp_kd π c = 9) ∧ fp_to π root c = t) → s.1 c = s0.1 c) ∧
  s.2 (fp_ar root t) = fp_sks π root t (fp_emX π root TB s0.2 t j t) ∧
  (∀ a, a ≠ fp_ar root t → s.2 a = s0.2 a) ∧ fp_ok root t s
/-- some needed node is too large -/
def fp_bad (π : fp_Pl) (root : Nat) (TB : Nat → List fp_Row) : Prop := ∃ c, c ≤ root ∧ fp_pl π root c = true ∧ 20 < (fp_L π TB c).length
theorem fp_src_s (π : fp_Pl) (root t j : Nat) : fp_src π root t (j + 1) = fp_src π root t j ++ (if fp_pl π root j && fp_so π j && decide (fp_to π root j = t) then [j] else []) := by
  unfold fp_src
  rw [List.range_succ, List.filter_append, List.filter_cons, List.filter_nil]
theorem fp_emX_s (π : fp_Pl) (root : Nat) (TB XS : Nat → List fp_Row) (t j c : Nat) : fp_emX π root TB XS t (j + 1) c = fp_emX π root TB XS t j c ++ (if fp_pl π root j && fp_so π j && decide (fp_to π root j = t) then (fp_D π TB XS j).flatMap (fun x => fp_pu π root (fp_rt XS) 12 j x c) else []) := by
  unfold fp_emX fp_em
  rw [fp_src_s, List.flatMap_append]
  split
  · rw [List.flatMap_cons, List.flatMap_nil, List.append_nil]
  · rfl
section
variable {π : fp_Pl} {m root : Nat}
theorem fp_ct_pos (C : fp_cx π m root) (rt : Nat → List fp_Row) : ∀ k n x c, n ≤ root → root ≤ n + k → k ≤ 12 → fp_pl π root n = true → 0 < fp_ct c (fp_ev π root rt k n x) → c ≤ root ∧ fp_pl π root c = true ∧ (fp_kd π c = 4 ∨ fp_kd π c = 9) ∧ fp_to π root c = fp_to π root n := by
  intro k
  induction k with
  | zero => intro n x c _ _ _ _ h; exact absurd h (by simp [fp_ev, fp_ct])
  | succ k ih =>
    intro n x c h1 h2 hk h3 h
    by_cases t : fp_tp π root n = true
    · rw [fp_ev_s, if_pos t] at h; exact absurd h (by simp [fp_ct])
    · obtain ⟨s1, s2, s3, _⟩ := fp_stepU C h1 h3 t
      rw [fp_ev_s, if_neg t, fp_ct_fm] at h
      have hex : ∃ y, 0 < fp_ct c (fp_cn π (fp_par π n) ++ fp_ev π root rt k (fp_par π n) y) := by
        refine Classical.byContradiction fun hno => ?_
        have h0 := fp_sum0 (fp_phi π rt (fp_par π n) x) (fun y => fp_ct c (fp_cn π (fp_par π n) ++ fp_ev π root rt k (fp_par π n) y)) (fun y _ => by
          have : ¬ 0 < fp_ct c (fp_cn π (fp_par π n) ++ fp_ev π root rt k (fp_par π n) y) := fun z => hno ⟨y, z⟩
          omega)
        omega
      obtain ⟨y, hy⟩ := hex
      rw [fp_ct_app, fp_ct_cn] at hy
      have hto := fp_to_up C h1 h3 t
      by_cases e : fp_par π n = c ∧ (fp_kd π c = 4 ∨ fp_kd π c = 9)
      · obtain ⟨e1, e2⟩ := e
        rw [e1] at s2 s3 hto
        exact ⟨s2, s3, e2, hto.symm⟩
      · rw [if_neg e, Nat.zero_add] at hy
        obtain ⟨r1, r2, r3, r4⟩ := ih _ y c s2 (by omega) (by omega) s3 hy
        exact ⟨r1, r2, r3, r4.trans hto.symm⟩
theorem fp_sks_perm (C : fp_cx π m root) {t : Nat} (ht : t ≤ root) (hp : fp_pl π root t = true) {l l' : List fp_Row} (h : l.Perm l') : (fp_sks π root t l).Perm (fp_sks π root t l') := by
  unfold fp_sks
  by_cases e : t = root
  · simp only [e, if_true]; exact h
  · simp only [e, if_false]
    by_cases h7 : fp_kd π (fp_par π t) = 7
    · simp only [h7, if_true]
      have htm : t < m := by have := C.2; omega
      obtain ⟨a1, a2⟩ := fp_pl_up C.1 htm hp e
      obtain ⟨b1, b2, _⟩ := fp_chup C.1 htm a1
      obtain ⟨_, _, _, _, _, _, _, _, _, _, hprm⟩ := C.1.2 _ b2
      obtain ⟨_, _, _, _, _, _, h7', _⟩ := hprm
      exact fp_grp_perm (h7' h7).2.1 h
    · simp only [h7, if_false]
      by_cases h8 : fp_kd π (fp_par π t) = 8
      · simp only [h8, if_true]; exact fp_dd_perm h
      · simp only [h8, if_false]; exact h
/-- a second input of a join, semi or anti is gathered -/
theorem fp_sb_tp (C : fp_cx π m root) {c : Nat} (hc : c ≤ root) (hp : fp_pl π root c = true) (h4 : 4 ≤ fp_kd π c) (h6 : fp_kd π c ≤ 6) : fp_sb π c < c ∧ fp_par π (fp_sb π c) = c ∧ fp_pl π root (fp_sb π c) = true ∧ fp_tp π root (fp_sb π c) = true := by
  have hcm : c < m := by have := C.2; omega
  have htwo : fp_two π c := by unfold fp_two; omega
  have hch : fp_ch π c (fp_sb π c) := Or.inr ⟨htwo, rfl⟩
  obtain ⟨d1, d2, d3, d4⟩ := fp_chdn C.1 hcm hch
  refine ⟨d1, d3, fp_pl_ch C.1 hcm hp hch, ?_⟩
  rw [fp_tp_iff, d3]
  exact Or.inr (Or.inr (Or.inr ⟨h4, h6, rfl⟩))
theorem fp_fa_tp (C : fp_cx π m root) {c : Nat} (hc : c ≤ root) (hp : fp_pl π root c = true) (h : fp_kd π c = 7 ∨ fp_kd π c = 8) : fp_fa π c < c ∧ fp_par π (fp_fa π c) = c ∧ fp_pl π root (fp_fa π c) = true ∧ fp_tp π root (fp_fa π c) = true := by
  have hcm : c < m := by have := C.2; omega
  have hch : fp_ch π c (fp_fa π c) := Or.inl ⟨by omega, rfl⟩
  obtain ⟨d1, d2, d3, d4⟩ := fp_chdn C.1 hcm hch
  refine ⟨d1, d3, fp_pl_ch C.1 hcm hp hch, ?_⟩
  rw [fp_tp_iff, d3]
  rcases h with h | h
  · exact Or.inr (Or.inl h)
  · exact Or.inr (Or.inr (Or.inl h))
theorem fp_ar_ne {t : Nat} (h : t ≠ root) : fp_ar root t = t := by unfold fp_ar; rw [if_neg h]
theorem fp_ar_inj (C : fp_cx π m root) {a b : Nat} (ha : a ≤ root) (hb : b ≤ root) (h : a ≠ b) : fp_ar root a ≠ fp_ar root b := by
  have hm := C.1.1
  have hr := C.2
  unfold fp_ar
  by_cases e1 : a = root
  · by_cases e2 : b = root
    · omega
    · rw [if_pos e1, if_neg e2]; omega
  · by_cases e2 : b = root
    · rw [if_neg e1, if_pos e2]; omega
    · rw [if_neg e1, if_neg e2]; exact h
theorem fp_full (C : fp_cx π m root) (TB : Nat → List fp_Row) {t : Nat} {s0 : fp_St} (ht : t ≤ root) (hd : fp_done π root TB t s0) : ∀ c, c ≤ root → fp_pl π root c = true → fp_to π root c = t → (fp_emX π root TB s0.2 t (t + 1) c).Perm (fp_L π TB c) := by
  intro c hc hp hto
  refine fp_main C TB (fp_rt s0.2) (fp_D π TB s0.2) t ht ?_ ?_ (c + 1) c (Nat.lt_succ_self _) hc hp hto
  · intro s hs hps hso hts
    have hsm : s < m := by have := C.2; omega
    have hle := (fp_to_all C hs hps).2.1
    unfold fp_D
    rw [fp_L_eq TB C.1 hsm]
    unfold fp_op
    rcases (fp_so_iff π s).mp hso with h | h | h
    · rw [if_pos h, if_pos h]
    · obtain ⟨f1, f2, f3, f4⟩ := fp_fa_tp C hs hps (Or.inl h)
      have := (hd.2.1 _ (by omega) f3 f4).1 (by omega)
      rw [fp_ar_ne (by omega)] at this
      rw [if_neg (by omega), if_neg (by omega), if_pos h]
      unfold fp_sks at this
      rw [if_neg (by omega), f2, if_pos h] at this
      exact this
    · obtain ⟨f1, f2, f3, f4⟩ := fp_fa_tp C hs hps (Or.inr h)
      have := (hd.2.1 _ (by omega) f3 f4).1 (by omega)
      rw [fp_ar_ne (by omega)] at this
      rw [if_neg (by omega), if_neg (by omega), if_neg (by omega), if_pos h]
      unfold fp_sks at this
      rw [if_neg (by omega), f2, if_neg (by omega), if_pos h] at this
      exact this
  · intro d hd1 hd2 h4 h6 hdt
    have hle := (fp_to_all C hd1 hd2).2.1
    obtain ⟨f1, f2, f3, f4⟩ := fp_sb_tp C hd1 hd2 h4 h6
    have := (hd.2.1 _ (by omega) f3 f4).1 (by omega)
    rw [fp_ar_ne (by omega)] at this
    unfold fp_sks at this
    rw [if_neg (by omega), f2, if_neg (by omega), if_neg (by omega)] at this
    unfold fp_rt
    exact (List.reverse_perm _).trans this
theorem fp_em_grow (π : fp_Pl) (root : Nat) (TB XS : Nat → List fp_Row) (t c : Nat) : ∀ d j, (fp_emX π root TB XS t j c).length ≤ (fp_emX π root TB XS t (j + d) c).length := by
  intro d
  induction d with
  | zero => intro j; exact Nat.le_refl _
  | succ d ih =>
    intro j
    refine Nat.le_trans (ih j) ?_
    rw [← Nat.add_assoc, fp_emX_s, List.length_append]; omega
theorem fp_sk_evs (C : fp_cx π m root) (TB XS : Nat → List fp_Row) {s : Nat} (hs : s ≤ root) (hp : fp_pl π root s = true) : fp_sk (fp_evs π root TB XS s) = (fp_D π TB XS s).flatMap (fun x => fp_pu π root (fp_rt XS) 12 s x (fp_to π root s)) := by
  have hm := C.1.1
  have hr := C.2
  unfold fp_evs
  rw [fp_sk_fm]
  exact fp_fm_eq _ _ _ fun x _ => fp_sk_ev C _ 12 s x hs (by omega) hp
theorem fp_ct_evs (C : fp_cx π m root) (TB XS : Nat → List fp_Row) {s c : Nat} (hs : s ≤ root) (hp : fp_pl π root s = true) (hso : fp_so π s = true) (hc : fp_kd π c = 4 ∨ fp_kd π c = 9) : fp_ct c (fp_evs π root TB XS s) = ((fp_D π TB XS s).flatMap (fun x => fp_pu π root (fp_rt XS) 12 s x c)).length := by
  have hm := C.1.1
  have hr := C.2
  unfold fp_evs
  rw [fp_ct_fm, ← fp_sumlen]
  refine fp_sumcg _ _ _ fun x _ => fp_ct_ev C _ 12 s x c hs (by omega) hp ?_ hc
  intro e
  subst e
  have := (fp_so_iff π s).mp hso
  omega
theorem fp_ct_evs0 (C : fp_cx π m root) (TB XS : Nat → List fp_Row) {s c : Nat} (hs : s ≤ root) (hp : fp_pl π root s = true) (h : ¬ (c ≤ root ∧ fp_pl π root c = true ∧ (fp_kd π c = 4 ∨ fp_kd π c = 9) ∧ fp_to π root c = fp_to π root s)) : fp_ct c (fp_evs π root TB XS s) = 0 := by
  have hm := C.1.1
  have hr := C.2
  unfold fp_evs
  rw [fp_ct_fm]
  refine fp_sum0 _ _ fun x _ => ?_
  refine Classical.byContradiction fun hne => h ?_
  exact fp_ct_pos C (fp_rt XS) 12 s x c hs (by omega) (Nat.le_refl _) hp (Nat.pos_of_ne_zero hne)
/-- the start of a top -/
theorem fp_mid0 (C : fp_cx π m root) (TB : Nat → List fp_Row) {t : Nat} {s0 : fp_St} (ht : t ≤ root) (hp : fp_pl π root t = true) (htp : fp_tp π root t = true) (hd : fp_done π root TB t s0) : fp_mid π root TB t 0 s0 s0 := by
  refine ⟨?_, fun c _ => rfl, ?_, fun a _ => rfl, hd.2.2, ?_⟩
  · intro c hc hpc h49 hto
    rw [(hd.1 c hc hpc h49).2 (by omega)]; rfl
  · rw [(hd.2.1 t ht hp htp).2 (Nat.le_refl _), ← fp_skf_eq]; rfl
  · rw [(hd.2.1 t ht hp htp).2 (Nat.le_refl _)]; exact Nat.zero_le _
/-- one pipeline of a top -/
theorem fp_midS (C : fp_cx π m root) (TB : Nat → List fp_Row) {t j : Nat} {s0 s : fp_St} (hj : j ≤ root) (hpj : fp_pl π root j = true) (hso : fp_so π j = true) (hto : fp_to π root j = t) (hM : fp_mid π root TB t j s0 s) (hok : fp_ok root t (fp_app π root t s (fp_evs π root TB s0.2 j))) : fp_mid π root TB t (j + 1) s0 (fp_app π root t s (fp_evs π root TB s0.2 j)) := by
  obtain ⟨h1, h2, h3, h4, h5⟩ := hM
  have hcond : (fp_pl π root j && fp_so π j && decide (fp_to π root j = t)) = true := by
    rw [hpj, hso, decide_eq_true hto]; rfl
  refine ⟨?_, ?_, ?_, ?_, hok⟩
  · intro c hc hpc h49 htc
    rw [fp_app_G, h1 c hc hpc h49 htc, fp_emX_s, if_pos hcond, List.length_append, fp_ct_evs C TB s0.2 hj hpj hso h49]
  · intro c hc
    rw [fp_app_G, h2 c hc, fp_ct_evs0 C TB s0.2 hj hpj, Nat.add_zero]
    rw [hto]; exact hc
  · rw [fp_app_X, h3, ← fp_skf_eq, ← fp_skf_eq, fp_emX_s, if_pos hcond, fp_sk_evs C TB s0.2 hj hpj, hto]
    unfold fp_skf
    rw [List.foldl_append]
  · intro a ha
    rw [fp_app_N π root t ha, h4 a ha]
theorem fp_midN (TB : Nat → List fp_Row) {t j : Nat} {s0 s : fp_St} (hno : ¬ (fp_pl π root j = true ∧ fp_so π j = true ∧ fp_to π root j = t)) (hM : fp_mid π root TB t j s0 s) : fp_mid π root TB t (j + 1) s0 s := by
  have hcond : ¬ (fp_pl π root j && fp_so π j && decide (fp_to π root j = t)) = true := by
    rw [Bool.and_eq_true, Bool.and_eq_true, decide_eq_true_eq, and_assoc]; exact hno
  have e : ∀ c, fp_emX π root TB s0.2 t (j + 1) c = fp_emX π root TB s0.2 t j c := by
    intro c; rw [fp_emX_s, if_neg hcond, List.append_nil]
  obtain ⟨h1, h2, h3, h4, h5⟩ := hM
  exact ⟨fun c hc hpc h49 htc => by rw [e]; exact h1 c hc hpc h49 htc, h2, by rw [e]; exact h3, h4, h5⟩
/-- a pipeline that runs over shows a node that is too large -/
theorem fp_midB (C : fp_cx π m root) (TB : Nat → List fp_Row) {t j : Nat} {s0 s : fp_St} (ht : t ≤ root) (hpt : fp_pl π root t = true) (htp : fp_tp π root t = true) (hd : fp_done π root TB t s0) (hj : j ≤ root) (hpj : fp_pl π root j = true) (hso : fp_so π j = true) (hto : fp_to π root j = t) (hM : fp_mid π root TB t j s0 s) (hno : ¬ fp_ok root t (fp_app π root t s (fp_evs π root TB s0.2 j))) : fp_bad π root TB := by
  obtain ⟨h1, h2, h3, h4, h5⟩ := hM
  have hle := (fp_to_all C hj hpj).2.1
  have hcond : (fp_pl π root j && fp_so π j && decide (fp_to π root j = t)) = true := by
    rw [hpj, hso, decide_eq_true hto]; rfl
  have hgrow : ∀ c, c ≤ root → fp_pl π root c = true → fp_to π root c = t → (fp_emX π root TB s0.2 t (j + 1) c).length ≤ (fp_L π TB c).length := by
    intro c hc hpc htc
    rw [← (fp_full C TB ht hd c hc hpc htc).length_eq]
    have := fp_em_grow π root TB s0.2 t c (t - j) (j + 1)
    rw [show j + 1 + (t - j) = t + 1 by omega] at this
    exact this
  refine Classical.byContradiction fun hgood => hno ⟨fun c hc => ?_, ?_⟩
  · rw [fp_app_G]
    by_cases hcc : c ≤ root ∧ fp_pl π root c = true ∧ (fp_kd π c = 4 ∨ fp_kd π c = 9) ∧ fp_to π root c = t
    · obtain ⟨c1, c2, c3, c4⟩ := hcc
      rw [h1 c c1 c2 c3 c4, fp_ct_evs C TB s0.2 hj hpj hso c3, ← List.length_append]
      have := hgrow c c1 c2 c4
      rw [fp_emX_s, if_pos hcond] at this
      refine Nat.le_trans this ?_
      refine Classical.byContradiction fun hh => hgood ⟨c, c1, c2, by omega⟩
    · rw [fp_ct_evs0 C TB s0.2 hj hpj (by rw [hto]; exact hcc), Nat.add_zero]
      exact h5.1 c hc
  · rw [fp_app_X, h3, ← fp_skf_eq, fp_sk_evs C TB s0.2 hj hpj, hto]
    have := hgrow t ht hpt (fp_to_tp htp)
    rw [fp_emX_s, if_pos hcond] at this
    unfold fp_skf
    rw [← List.foldl_append]
    have h6 := fp_skf_eq π root t (fp_emX π root TB s0.2 t j t ++ (fp_D π TB s0.2 j).flatMap (fun x => fp_pu π root (fp_rt s0.2) 12 j x t))
    unfold fp_skf at h6
    rw [h6]
    refine Nat.le_trans (fp_sks_len _ _ _ _) (Nat.le_trans this ?_)
    refine Classical.byContradiction fun hh => hgood ⟨t, ht, hpt, by omega⟩
/-- the end of a top -/
theorem fp_midE (C : fp_cx π m root) (TB : Nat → List fp_Row) {t : Nat} {s0 s : fp_St} (ht : t ≤ root) (hpt : fp_pl π root t = true) (htp : fp_tp π root t = true) (hd : fp_done π root TB t s0) (hM : fp_mid π root TB t (t + 1) s0 s) : fp_done π root TB (t + 1) s := by
  obtain ⟨h1, h2, h3, h4, h5⟩ := hM
  refine ⟨?_, ?_, h5.1⟩
  · intro c hc hpc h49
    by_cases e : fp_to π root c = t
    · refine ⟨fun _ => ?_, fun h => by omega⟩
      rw [h1 c hc hpc h49 e]
      exact (fp_full C TB ht hd c hc hpc e).length_eq
    · rw [h2 c (fun z => e z.2.2.2)]
      exact ⟨fun h => (hd.1 c hc hpc h49).1 (by omega), fun h => (hd.1 c hc hpc h49).2 (by omega)⟩
  · intro c hc hpc htc
    by_cases e : c = t
    · subst e
      refine ⟨fun _ => ?_, fun h => by omega⟩
      rw [h3]
      exact fp_sks_perm C hc hpc (fp_full C TB ht hd c hc hpc (fp_to_tp htc))
    · rw [h4 _ (fp_ar_inj C hc ht e)]
      exact ⟨fun h => (hd.2.1 c hc hpc htc).1 (by omega), fun h => (hd.2.1 c hc hpc htc).2 (by omega)⟩
/-- a node that is no top of a pipeline is passed over -/
theorem fp_doneN (C : fp_cx π m root) (TB : Nat → List fp_Row) {t : Nat} {s : fp_St} (hno : ¬ (fp_pl π root t = true ∧ fp_tp π root t = true)) (hd : fp_done π root TB t s) : fp_done π root TB (t + 1) s := by
  refine ⟨fun c hc hpc h49 => ?_, fun c hc hpc htc => ?_, hd.2.2⟩
  · obtain ⟨a1, _, _, a4⟩ := fp_to_all C hc hpc
    have hne : fp_to π root c ≠ t := by
      intro e; rw [e] at a1 a4; exact hno ⟨a4, a1⟩
    exact ⟨fun h => (hd.1 c hc hpc h49).1 (by omega), fun h => (hd.1 c hc hpc h49).2 (by omega)⟩
  · have hne : c ≠ t := by
      intro e; subst e; exact hno ⟨hpc, htc⟩
    exact ⟨fun h => (hd.2.1 c hc hpc htc).1 (by omega), fun h => (hd.2.1 c hc hpc htc).2 (by omega)⟩
theorem fp_done_end (C : fp_cx π m root) (TB : Nat → List fp_Row) (hT : ∀ t, t < 3 → (TB t).length ≤ 6) {s : fp_St} (hd : fp_done π root TB (root + 1) s) : ¬ fp_bad π root TB ∧ (s.2 12).Perm (fp_L π TB root) := by
  constructor
  · rintro ⟨c, c1, c2, c3⟩
    have hc49 : ∀ c, c ≤ root → fp_pl π root c = true → (fp_kd π c = 4 ∨ fp_kd π c = 9) → (fp_L π TB c).length ≤ 20 := by
      intro c h1 h2 h3
      have hto := (fp_to_all C h1 h2).2.2.1
      rw [← (hd.1 c h1 h2 h3).1 (by omega)]
      have := C.1.1
      have := C.2
      exact hd.2.2 c (by omega)
    have := fp_len C TB hT hc49 (c + 1) c (Nat.lt_succ_self _) c1 c2
    omega
  · have := (hd.2.1 root (Nat.le_refl _) (fp_pl_root π root) (fp_tproot π root)).1 (Nat.lt_succ_self _)
    unfold fp_ar fp_sks at this
    rw [if_pos rfl, if_pos rfl] at this
    exact this
end
end
section
/-! ## the order of rows, sorted lists, ranks -/
def fp_lt : fp_Row → fp_Row → Bool
  | a :: x, b :: y => if a = b then fp_lt x y else decide (a < b)
  | [], _ => false
  | _ :: _, [] => false
theorem fp_lt_irr : ∀ x : fp_Row, fp_lt x x = false := by
  intro x
  induction x with
  | nil => rfl
  | cons a x ih => rw [fp_lt, if_pos rfl]; exact ih
theorem fp_lt_trans : ∀ x y z : fp_Row, fp_lt x y = true → fp_lt y z = true → fp_lt x z = true := by
  intro x
  induction x with
  | nil => intro y z h; rw [fp_lt] at h; exact absurd h (by decide)
  | cons a x ih =>
    intro y z h1 h2
    cases y with
    | nil => rw [fp_lt] at h1; exact absurd h1 (by decide)
    | cons b y =>
      cases z with
      | nil => rw [fp_lt] at h2; exact absurd h2 (by decide)
      | cons c z =>
        rw [fp_lt] at h1 h2 ⊢
        by_cases e1 : a = b
        · rw [if_pos e1] at h1
          by_cases e2 : b = c
          · rw [if_pos e2] at h2
            rw [if_pos (e1.trans e2)]; exact ih y z h1 h2
          · rw [if_neg e2] at h2
            rw [e1, if_neg e2]; exact h2
        · rw [if_neg e1, decide_eq_true_eq] at h1
          by_cases e2 : b = c
          · rw [← e2, if_neg e1]; exact decide_eq_true h1
          · rw [if_neg e2, decide_eq_true_eq] at h2
            have h3 := Int32.lt_trans h1 h2
            have e3 : a ≠ c := fun e => Int32.lt_irrefl (e ▸ h3 : c < c)
            rw [if_neg e3]; exact decide_eq_true h3
theorem fp_lt_tri : ∀ x y : fp_Row, x.length = y.length → fp_lt x y = true ∨ x = y ∨ fp_lt y x = true := by
  intro x
  induction x with
  | nil =>
    intro y h
    cases y with
    | nil => exact Or.inr (Or.inl rfl)
    | cons b y => rw [List.length_nil, List.length_cons] at h; omega
  | cons a x ih =>
    intro y h
    cases y with
    | nil => rw [List.length_nil, List.length_cons] at h; omega
    | cons b y =>
      rw [List.length_cons, List.length_cons] at h
      by_cases e : a = b
      · subst e
        rw [fp_lt, fp_lt, if_pos rfl, if_pos rfl]
        rcases ih y (by omega) with h1 | h1 | h1
        · exact Or.inl h1
        · exact Or.inr (Or.inl (by rw [h1]))
        · exact Or.inr (Or.inr h1)
      · rw [fp_lt, fp_lt, if_neg e, if_neg (fun z => e z.symm)]
        by_cases c : a < b
        · exact Or.inl (decide_eq_true c)
        · refine Or.inr (Or.inr (decide_eq_true ?_))
          have hle : b ≤ a := Int32.not_lt.mp c
          rw [Int32.lt_iff_toInt_lt]
          rw [Int32.le_iff_toInt_le] at hle
          have hne : a.toInt ≠ b.toInt := fun z => e (Int32.toInt_inj.mp z)
          omega
def fp_sorted (Z : List fp_Row) : Prop := Z.Pairwise (fun a b => fp_lt b a = false)
theorem fp_cp_lt {α : Type} {p q : α → Bool} : ∀ {l : List α}, (∀ a, a ∈ l → p a = true → q a = true) → (∃ a, a ∈ l ∧ p a = false ∧ q a = true) → l.countP p < l.countP q := by
  intro l
  induction l with
  | nil => intro _ h; obtain ⟨a, h, _⟩ := h; exact absurd h (by simp)
  | cons b l ih =>
    intro hm he
    have hm' : ∀ a, a ∈ l → p a = true → q a = true := fun a ha => hm a (List.mem_cons_of_mem _ ha)
    have hle : l.countP p ≤ l.countP q := List.countP_mono_left (fun x hx => hm' x hx)
    obtain ⟨a, ha, h1, h2⟩ := he
    rw [List.countP_cons, List.countP_cons]
    rcases List.mem_cons.mp ha with e | e
    · subst e
      rw [h1, h2]; simp; omega
    · have hlt := ih hm' ⟨a, e, h1, h2⟩
      by_cases c : p b = true
      · rw [if_pos c, if_pos (hm b (List.mem_cons_self) c)]; omega
      · rw [if_neg c]; omega
theorem fp_at_rank {W : Nat} (x : fp_Row) (hx : x.length = W) : ∀ (Z : List fp_Row), (∀ z, z ∈ Z → z.length = W) → fp_sorted Z → ∀ p, Z.countP (fun z => fp_lt z x) ≤ p → p < Z.countP (fun z => !fp_lt x z) → Z.getD p [] = x := by
  intro Z
  induction Z with
  | nil => intro _ _ p _ h; rw [List.countP_nil] at h; omega
  | cons z Z ih =>
    intro hW hs p h1 h2
    have hW' : ∀ y, y ∈ Z → y.length = W := fun y hy => hW y (List.mem_cons_of_mem _ hy)
    have hzl := hW z (List.mem_cons_self)
    unfold fp_sorted at hs
    rw [List.pairwise_cons] at hs
    rw [List.countP_cons] at h1 h2
    rcases fp_lt_tri z x (hzl.trans hx.symm) with c | c | c
    · have c' : fp_lt x z = false := by
        cases hh : fp_lt x z with
        | false => rfl
        | true => have := fp_lt_trans _ _ _ c hh; rw [fp_lt_irr] at this; exact absurd this (by decide)
      rw [c] at h1; rw [c'] at h2
      simp only [Bool.not_false, if_true] at h1 h2
      cases p with
      | zero => omega
      | succ p => rw [List.getD_cons_succ]; exact ih hW' hs.2 p (by omega) (by omega)
    · subst c
      rw [fp_lt_irr] at h1 h2
      simp only [Bool.not_false, if_true, Bool.false_eq_true, if_false] at h1 h2
      cases p with
      | zero => rfl
      | succ p =>
        rw [List.getD_cons_succ]
        refine ih hW' hs.2 p ?_ (by omega)
        have h0 : Z.countP (fun y => fp_lt y z) = 0 := by
          rw [List.countP_eq_zero]
          intro y hy
          rw [hs.1 y hy]; decide
        omega
    · have h0 : Z.countP (fun y => !fp_lt x y) = 0 := by
        rw [List.countP_eq_zero]
        intro y hy
        have hyz := hs.1 y hy
        have : fp_lt x y = true := by
          rcases fp_lt_tri z y (hzl.trans (hW' y hy).symm) with d | d | d
          · exact fp_lt_trans _ _ _ c d
          · rw [← d]; exact c
          · rw [hyz] at d; exact absurd d (by decide)
        rw [this]; decide
      rw [h0, c] at h2
      simp at h2
theorem fp_range_map (L : List fp_Row) : (List.range L.length).map (fun i => L.getD i []) = L := by
  refine fp_gd_ext [] (by rw [List.length_map, List.length_range]) fun i hi => ?_
  rw [List.length_map, List.length_range] at hi
  rw [fp_gd_map _ _ _ 0 (by rw [List.length_range]; exact hi), fp_gd (List.range L.length) 0 (by rw [List.length_range]; exact hi), List.getElem_range]
/-- row j comes before row i -/
def fp_less (L : List fp_Row) (i j : Nat) : Bool := fp_lt (L.getD j []) (L.getD i []) || (decide (L.getD j [] = L.getD i []) && decide (j < i))
def fp_place (L : List fp_Row) (i : Nat) : Nat := (List.range L.length).countP (fp_less L i)
theorem fp_less_iff (L : List fp_Row) (i j : Nat) : fp_less L i j = true ↔ fp_lt (L.getD j []) (L.getD i []) = true ∨ (L.getD j [] = L.getD i [] ∧ j < i) := by
  unfold fp_less; rw [Bool.or_eq_true, Bool.and_eq_true, decide_eq_true_eq, decide_eq_true_eq]
theorem fp_less_irr (L : List fp_Row) (i : Nat) : fp_less L i i = false := by
  cases h : fp_less L i i with
  | false => rfl
  | true =>
    rw [fp_less_iff] at h
    rcases h with h | ⟨_, h⟩
    · rw [fp_lt_irr] at h; exact absurd h (by decide)
    · omega
theorem fp_less_trans (L : List fp_Row) (i j k : Nat) (h1 : fp_less L j i = true) (h2 : fp_less L k j = true) : fp_less L k i = true := by
  rw [fp_less_iff] at h1 h2 ⊢
  rcases h1 with h1 | ⟨h1, h1'⟩
  · rcases h2 with h2 | ⟨h2, h2'⟩
    · exact Or.inl (fp_lt_trans _ _ _ h1 h2)
    · exact Or.inl (h2 ▸ h1)
  · rcases h2 with h2 | ⟨h2, h2'⟩
    · exact Or.inl (h1.symm ▸ h2)
    · exact Or.inr ⟨h1.trans h2, by omega⟩
theorem fp_place_lt (L : List fp_Row) {i k : Nat} (hi : i < L.length) (h : fp_less L k i = true) : fp_place L i < fp_place L k := by
  unfold fp_place
  refine fp_cp_lt (fun j _ hj => ?_) ⟨i, List.mem_range.mpr hi, fp_less_irr L i, h⟩
  exact fp_less_trans L j i k hj h
theorem fp_place_in (L : List fp_Row) {i : Nat} (hi : i < L.length) : fp_place L i < L.length := by
  have h1 : fp_place L i < (List.range L.length).countP (fun _ => true) := by
    unfold fp_place
    exact fp_cp_lt (fun _ _ _ => rfl) ⟨i, List.mem_range.mpr hi, fp_less_irr L i, rfl⟩
  have h2 : (List.range L.length).countP (fun _ => true) ≤ (List.range L.length).length := List.countP_le_length
  rw [List.length_range] at h2
  omega
theorem fp_place_inj {W : Nat} (L : List fp_Row) (hW : ∀ z, z ∈ L → z.length = W) {i k : Nat} (hi : i < L.length) (hk : k < L.length) (h : fp_place L i = fp_place L k) : i = k := by
  refine Classical.byContradiction fun hne => ?_
  have h1 := hW _ (fp_gd_mem L [] hi)
  have h2 := hW _ (fp_gd_mem L [] hk)
  rcases fp_lt_tri (L.getD i []) (L.getD k []) (h1.trans h2.symm) with c | c | c
  · have := fp_place_lt L hi ((fp_less_iff L k i).mpr (Or.inl c)); omega
  · rcases Nat.lt_or_ge i k with d | d
    · have := fp_place_lt L hi ((fp_less_iff L k i).mpr (Or.inr ⟨c, d⟩)); omega
    · have := fp_place_lt L hk ((fp_less_iff L i k).mpr (Or.inr ⟨c.symm, by omega⟩)); omega
  · have := fp_place_lt L hk ((fp_less_iff L i k).mpr (Or.inl c)); omega
theorem fp_place_sur {W : Nat} (L : List fp_Row) (hW : ∀ z, z ∈ L → z.length = W) {p : Nat} (hp : p < L.length) : ∃ i, i < L.length ∧ fp_place L i = p := by
  have hnd : ((List.range L.length).map (fp_place L)).Nodup := by
    unfold List.Nodup
    rw [List.pairwise_map]
    refine List.Pairwise.imp_of_mem ?_ (List.nodup_range (n := L.length))
    intro a b ha hb hab e
    exact hab (fp_place_inj L hW (List.mem_range.mp ha) (List.mem_range.mp hb) e)
  refine Classical.byContradiction fun hno => ?_
  have hsub : (List.range L.length).map (fp_place L) ⊆ (List.range L.length).erase p := by
    intro y hy
    obtain ⟨i, hi, e⟩ := List.mem_map.mp hy
    rw [List.mem_range] at hi
    rw [List.mem_erase_of_ne]
    · rw [← e]; exact List.mem_range.mpr (fp_place_in L hi)
    · intro z; exact hno ⟨i, hi, e.trans z⟩
  have hlen := hnd.length_le_of_subset hsub
  rw [List.length_map, List.length_range, List.length_erase_of_mem (List.mem_range.mpr hp), List.length_range] at hlen
  omega
theorem fp_place_at {W : Nat} (L Z : List fp_Row) (hW : ∀ z, z ∈ L → z.length = W) (hp : Z.Perm L) (hs : fp_sorted Z) {i : Nat} (hi : i < L.length) : Z.getD (fp_place L i) [] = L.getD i [] := by
  have hx := hW _ (fp_gd_mem L [] hi)
  refine fp_at_rank (W := W) _ hx Z (fun z hz => hW z (hp.mem_iff.mp hz)) hs _ ?_ ?_
  · rw [hp.countP_eq, ← congrArg (List.countP _) (fp_range_map L), List.countP_map]
    refine List.countP_mono_left fun j _ hj => ?_
    rw [fp_less_iff]; exact Or.inl hj
  · rw [hp.countP_eq, ← congrArg (List.countP (fun z => !fp_lt (L.getD i []) z)) (fp_range_map L), List.countP_map]
    refine fp_cp_lt (fun j _ hj => ?_) ⟨i, List.mem_range.mpr hi, fp_less_irr L i, ?_⟩
    · show (!fp_lt (L.getD i []) (L.getD j [])) = true
      rw [fp_less_iff] at hj
      cases h : fp_lt (L.getD i []) (L.getD j []) with
      | false => rfl
      | true =>
        rcases hj with hj | ⟨hj, _⟩
        · have := fp_lt_trans _ _ _ h hj; rw [fp_lt_irr] at this; exact absurd this (by decide)
        · rw [hj, fp_lt_irr] at h; exact absurd h (by decide)
    · show (!fp_lt (L.getD i []) (L.getD i [])) = true
      rw [fp_lt_irr]; rfl
/-! ## insertion -/
theorem fp_insert {W : Nat} (S : List fp_Row) (O : List Nat) (r k : Nat) (hW : ∀ z, z ∈ S → z.length = W) (hO : ∀ i, i ∈ O → i < S.length) (hr : r < S.length) (hk : k ≤ O.length)
    (hs : O.Pairwise (fun a b => fp_lt (S.getD b []) (S.getD a []) = false))
    (h1 : ∀ j, k ≤ j → j < O.length → fp_lt (S.getD r []) (S.getD (O.getD j 0) []) = true)
    (h2 : 0 < k → fp_lt (S.getD r []) (S.getD (O.getD (k - 1) 0) []) = false) :
    (O.take k ++ r :: O.drop k).Pairwise (fun a b => fp_lt (S.getD b []) (S.getD a []) = false) := by
  have hl : ∀ i, i < S.length → (S.getD i []).length = W := fun i hi => hW _ (fp_gd_mem S [] hi)
  have hs' := hs
  rw [← List.take_append_drop k O, List.pairwise_append] at hs'
  rw [List.pairwise_append, List.pairwise_cons]
  refine ⟨hs'.1, ⟨?_, hs'.2.1⟩, ?_⟩
  · intro b hb
    obtain ⟨j, hj, e⟩ := fp_gd_of_mem 0 hb
    rw [List.length_drop] at hj
    have e2 : O.getD (k + j) 0 = b := by rw [← e]; simp [List.getD]
    have := h1 (k + j) (by omega) (by omega)
    rw [e2] at this
    cases hh : fp_lt (S.getD b []) (S.getD r []) with
    | false => rfl
    | true => have h3 := fp_lt_trans _ _ _ this hh; rw [fp_lt_irr] at h3; exact absurd h3 (by decide)
  · intro a ha b hb
    rcases List.mem_cons.mp hb with e | hb
    · subst e
      obtain ⟨j, hj, e⟩ := fp_gd_of_mem 0 ha
      rw [List.length_take] at hj
      have e2 : O.getD j 0 = a := by
        rw [← e, fp_gd (O.take k) 0 (by rw [List.length_take]; exact hj), List.getElem_take, fp_gd O 0 (by omega)]
      have hk0 : 0 < k := by omega
      have h3 := h2 hk0
      by_cases ej : j = k - 1
      · rw [← ej, e2] at h3; exact h3
      · have h4 : fp_lt (S.getD (O.getD (k - 1) 0) []) (S.getD (O.getD j 0) []) = false := by
          rw [fp_gd O 0 (by omega), fp_gd O 0 (by omega)]
          exact List.pairwise_iff_getElem.mp hs j (k - 1) (by omega) (by omega) (by omega)
        rw [e2] at h4
        cases hh : fp_lt (S.getD b []) (S.getD a []) with
        | false => rfl
        | true =>
          have hb1 := hl b hr
          have hkm : O.getD (k - 1) 0 < S.length := hO _ (fp_gd_mem O 0 (by omega))
          rcases fp_lt_tri (S.getD (O.getD (k - 1) 0) []) (S.getD b []) ((hl _ hkm).trans hb1.symm) with c | c | c
          · have := fp_lt_trans _ _ _ c hh; rw [h4] at this; exact absurd this (by decide)
          · rw [← c, h4] at hh; exact absurd hh (by decide)
          · rw [h3] at c; exact absurd c (by decide)
    · exact hs'.2.2 a ha b hb
end
section
/-! ## Y: at, lay, give -/
abbrev fy_e (v : SY) : Int32 × Int32 × Int32 × (Nat → Int32) × (Nat → Int32) × (Nat → Int32) × (Nat → Int32) × (Nat → Int32) × (Nat → Int32) × (Nat → Int32) × (Nat → Int32) × (Nat → Int32) × (Nat → Int32) × (Nat → Int32) × (Nat → Int32) := (yy_nodes v, yy_resultRows v, yy_resultWidth v, yy_tables v, yy_held v, yy_kind v, yy_left v, yy_right v, yy_p v, yy_q v, yy_r v, yy_widths v, yy_used v, yy_needed v, yy_result v)
theorem fy_e_nodes {v v' : SY} (h : fy_e v' = fy_e v) : yy_nodes v' = yy_nodes v := congrArg (fun e => e.1) h
theorem fy_e_resultRows {v v' : SY} (h : fy_e v' = fy_e v) : yy_resultRows v' = yy_resultRows v := congrArg (fun e => e.2.1) h
theorem fy_e_resultWidth {v v' : SY} (h : fy_e v' = fy_e v) : yy_resultWidth v' = yy_resultWidth v := congrArg (fun e => e.2.2.1) h
theorem fy_e_tables {v v' : SY} (h : fy_e v' = fy_e v) : yy_tables v' = yy_tables v := congrArg (fun e => e.2.2.2.1) h
theorem fy_e_held {v v' : SY} (h : fy_e v' = fy_e v) : yy_held v' = yy_held v := congrArg (fun e => e.2.2.2.2.1) h
theorem fy_e_kind {v v' : SY} (h : fy_e v' = fy_e v) : yy_kind v' = yy_kind v := congrArg (fun e => e.2.2.2.2.2.1) h
theorem fy_e_left {v v' : SY} (h : fy_e v' = fy_e v) : yy_left v' = yy_left v := congrArg (fun e => e.2.2.2.2.2.2.1) h
theorem fy_e_right {v v' : SY} (h : fy_e v' = fy_e v) : yy_right v' = yy_right v := congrArg (fun e => e.2.2.2.2.2.2.2.1) h
theorem fy_e_p {v v' : SY} (h : fy_e v' = fy_e v) : yy_p v' = yy_p v := congrArg (fun e => e.2.2.2.2.2.2.2.2.1) h
theorem fy_e_q {v v' : SY} (h : fy_e v' = fy_e v) : yy_q v' = yy_q v := congrArg (fun e => e.2.2.2.2.2.2.2.2.2.1) h
theorem fy_e_r {v v' : SY} (h : fy_e v' = fy_e v) : yy_r v' = yy_r v := congrArg (fun e => e.2.2.2.2.2.2.2.2.2.2.1) h
theorem fy_e_widths {v v' : SY} (h : fy_e v' = fy_e v) : yy_widths v' = yy_widths v := congrArg (fun e => e.2.2.2.2.2.2.2.2.2.2.2.1) h
theorem fy_e_used {v v' : SY} (h : fy_e v' = fy_e v) : yy_used v' = yy_used v := congrArg (fun e => e.2.2.2.2.2.2.2.2.2.2.2.2.1) h
theorem fy_e_needed {v v' : SY} (h : fy_e v' = fy_e v) : yy_needed v' = yy_needed v := congrArg (fun e => e.2.2.2.2.2.2.2.2.2.2.2.2.2.1) h
theorem fy_e_result {v v' : SY} (h : fy_e v' = fy_e v) : yy_result v' = yy_result v := congrArg (fun e => e.2.2.2.2.2.2.2.2.2.2.2.2.2.2) h
theorem fy_at (v : SY) (post : Int32 → Prop) {k i c : Nat} (hk : k < 12) (hi : i < 20) (hc : c < 6) (h : post (yy_rows v (6 * (20 * k + i) + c))) : wpY_at post v (nI k) (nI i) (nI c) := by
  show wpY_at post ((yy_nodes v), (yy_over v), (yy_resultRows v), (yy_resultWidth v), (yy_tables v), (yy_held v), (yy_kind v), (yy_left v), (yy_right v), (yy_p v), (yy_q v), (yy_r v), (yy_widths v), (yy_used v), (yy_rows v), (yy_given v), (yy_needed v), (yy_row v), (yy_result v)) (nI k) (nI i) (nI c)
  unfold wpY_at
  dsimp only
  rw [fi_y, fi_cl (by omega)]
  exact ⟨vp_in_nI (by omega) (by decide), h⟩
theorem fy_lay3 (v : SY) (post : SY → Prop) {k i w to : Nat} (hk : k < 12) (hi : i < 20) (hw : yy_widths v k = nI w) (hw6 : to + w ≤ 6) : ∀ d c row, c + d = w → (∀ row', (∀ j, (j < to + c ∨ to + w ≤ j) → row' j = row j) → (∀ j, c ≤ j → j < w → row' (to + j) = yy_rows v (6 * (20 * k + i) + j)) → post ((yy_nodes v), (yy_over v), (yy_resultRows v), (yy_resultWidth v), (yy_tables v), (yy_held v), (yy_kind v), (yy_left v), (yy_right v), (yy_p v), (yy_q v), (yy_r v), (yy_widths v), (yy_used v), (yy_rows v), (yy_given v), (yy_needed v), row', (yy_result v))) → wY_lay_3 post (nI k) (nI i) (nI to) (yy_nodes v) (yy_over v) (yy_resultRows v) (yy_resultWidth v) (d + 1) (nI c) (yy_tables v) (yy_held v) (yy_kind v) (yy_left v) (yy_right v) (yy_p v) (yy_q v) (yy_r v) (yy_widths v) (yy_used v) (yy_rows v) (yy_given v) (yy_needed v) row (yy_result v) := by
  intro d
  induction d with
  | zero =>
    intro c row hc h
    have e : c = w := by omega
    subst e
    refine And.intro (vp_in_nI hk (by decide)) ?_
    rw [fi_cl (by omega), hw]
    exact br_t (nI_le (Nat.le_refl _) (by omega)) (h row (fun j _ => rfl) (fun j h1 h2 => by omega))
  | succ d ih =>
    intro c row hc h
    refine And.intro (vp_in_nI hk (by decide)) ?_
    rw [fi_cl (by omega), hw]
    refine br_f (nI_ge (by omega) (by omega)) ?_
    rw [nI_add]
    refine br_f (nI_ge (b := 6) (by omega) (by decide)) ?_
    refine fy_at _ _ hk hi (by omega) ?_
    refine And.intro (vp_in_nI (by omega) (by decide)) ?_
    rw [fi_cl (by omega), nI_1]
    intro row2 e2 c2 ec2
    subst e2 ec2
    refine ih (c + 1) _ (by omega) fun row' h1 h2 => h row' (fun j hj => ?_) (fun j hj1 hj2 => ?_)
    · rw [h1 j (by omega), fi_un (by omega)]
    · by_cases e : j = c
      · subst e
        rw [h1 (to + j) (by omega), fi_us]
      · exact h2 j (by omega) hj2
/-- only the row that is put together changes -/
def fy_rw (v v' : SY) : Prop := fy_e v' = fy_e v ∧ yy_over v' = yy_over v ∧ yy_given v' = yy_given v ∧ yy_rows v' = yy_rows v
/-- rows and count of node k alone change -/
def fy_fr (k : Nat) (v v' : SY) : Prop := fy_e v' = fy_e v ∧ (∀ j, j ≠ k → yy_given v' j = yy_given v j) ∧ (∀ i, (i < 120 * k ∨ 120 * k + 120 ≤ i) → yy_rows v' i = yy_rows v i)
theorem fy_fr_rfl (k : Nat) (v : SY) : fy_fr k v v := ⟨rfl, fun _ _ => rfl, fun _ _ => rfl⟩
theorem fy_fr_trans {k : Nat} {v v' v'' : SY} (h1 : fy_fr k v v') (h2 : fy_fr k v' v'') : fy_fr k v v'' :=
  ⟨h2.1.trans h1.1, fun j hj => (h2.2.1 j hj).trans (h1.2.1 j hj), fun i hi => (h2.2.2 i hi).trans (h1.2.2 i hi)⟩
theorem fy_fr_rw (k : Nat) {v v' : SY} (h : fy_rw v v') : fy_fr k v v' := ⟨h.1, fun _ _ => by rw [h.2.2.1], fun _ _ => by rw [h.2.2.2]⟩
def fy_RO (v : SY) (c w : Nat) (E : List fp_Row) : Prop := yy_given v c = nI E.length ∧ E.length ≤ 20 ∧ ∀ i, i < E.length → (E.getD i []).length = w ∧ ∀ j, j < w → yy_rows v (6 * (20 * c + i) + j) = (E.getD i []).getD j 0
def fy_GV (v : SY) (k w : Nat) (E : List fp_Row) : Prop := yy_given v k = nI (min E.length 20) ∧ yy_over v = (if E.length ≤ 20 then 0 else 1) ∧ ∀ i, i < min E.length 20 → (E.getD i []).length = w ∧ ∀ j, j < w → yy_rows v (6 * (20 * k + i) + j) = (E.getD i []).getD j 0
theorem fy_RO_fr {v v' : SY} {k c w : Nat} {E : List fp_Row} (hw : w ≤ 6) (hc : c ≠ k) (h : fy_fr k v v') (hR : fy_RO v c w E) : fy_RO v' c w E := by
  obtain ⟨h1, h2, h3⟩ := hR
  refine ⟨by rw [h.2.1 c hc]; exact h1, h2, fun i hi => ⟨(h3 i hi).1, fun j hj => ?_⟩⟩
  rw [h.2.2 _ (by omega)]
  exact (h3 i hi).2 j hj
theorem fy_GV_rw {v v' : SY} {k w : Nat} {E : List fp_Row} (h : fy_rw v v') (hG : fy_GV v k w E) : fy_GV v' k w E := by
  obtain ⟨_, h1, h2, h3⟩ := h
  unfold fy_GV
  rw [h1, h2, h3]; exact hG
theorem fy_lay (v : SY) (post : SY → Prop) {k i w to : Nat} {E : List fp_Row} (hk : k < 12) (hi : i < E.length) (hw : yy_widths v k = nI w) (hw6 : to + w ≤ 6) (hR : fy_RO v k w E) (h : ∀ v', fy_rw v v' → (∀ j, (j < to ∨ to + w ≤ j) → yy_row v' j = yy_row v j) → (∀ j, j < w → yy_row v' (to + j) = (E.getD i []).getD j 0) → post v') : wpY_lay post v (nI k) (nI i) (nI to) := by
  refine ⟨w + 1, ?_⟩
  have hi20 : i < 20 := by have := hR.2.1; omega
  refine fy_lay3 v post hk hi20 hw hw6 w 0 (yy_row v) (by omega) fun row' h1 h2 => ?_
  refine h _ ⟨rfl, rfl, rfl, rfl⟩ (fun j hj => h1 j (by omega)) (fun j hj => ?_)
  exact (h2 j (by omega) hj).trans ((hR.2.2 i hi).2 j hj)
theorem fy_give19 (v : SY) (post : SY → Prop) {k g : Nat} (hk : k < 12) (hg : yy_given v k = nI g) (hg20 : g < 20) : ∀ d c rw', c + d = 6 → (∀ rw2, (∀ j, (j < 6 * (20 * k + g) + c ∨ 6 * (20 * k + g) + 6 ≤ j) → rw2 j = rw' j) → (∀ j, c ≤ j → j < 6 → rw2 (6 * (20 * k + g) + j) = yy_row v j) → post ((yy_nodes v), (yy_over v), (yy_resultRows v), (yy_resultWidth v), (yy_tables v), (yy_held v), (yy_kind v), (yy_left v), (yy_right v), (yy_p v), (yy_q v), (yy_r v), (yy_widths v), (yy_used v), rw2, (upd (yy_given v) k (nI (g + 1))), (yy_needed v), (yy_row v), (yy_result v))) → wY_give_19 post (nI k) (yy_nodes v) (yy_over v) (yy_resultRows v) (yy_resultWidth v) (d + 1) (nI c) (yy_tables v) (yy_held v) (yy_kind v) (yy_left v) (yy_right v) (yy_p v) (yy_q v) (yy_r v) (yy_widths v) (yy_used v) rw' (yy_given v) (yy_needed v) (yy_row v) (yy_result v) := by
  intro d
  induction d with
  | zero =>
    intro c rw' hc h
    have e : c = 6 := by omega
    subst e
    refine br_t (nI_le (a := 6) (b := 6) (Nat.le_refl _) (by decide)) ?_
    refine And.intro (vp_in_nI hk (by decide)) (And.intro (vp_in_nI hk (by decide)) ?_)
    rw [fi_cl (by omega), hg, nI_1]
    intro gv egv
    subst egv
    exact h rw' (fun j _ => rfl) (fun j h1 h2 => by omega)
  | succ d ih =>
    intro c rw' hc h
    refine br_f (nI_ge (b := 6) (by omega) (by decide)) ?_
    refine And.intro (vp_in_nI hk (by decide)) (And.intro (vp_in_nI (by omega) (by decide)) ?_)
    rw [fi_cl (by omega : k < 4096), hg, fi_y, fi_cl (by omega), fi_cl (by omega), nI_1]
    refine And.intro (vp_in_nI (by omega) (by decide)) ?_
    intro rw2 e2 c2 ec2
    subst e2 ec2
    refine ih (c + 1) _ (by omega) fun rw3 h1 h2 => h rw3 (fun j hj => ?_) (fun j hj1 hj2 => ?_)
    · rw [h1 j (by omega), fi_un (by omega)]
    · by_cases e : j = c
      · subst e
        rw [h1 _ (by omega), fi_us]
      · exact h2 j (by omega) hj2
theorem fy_give (v : SY) (post : SY → Prop) {k w : Nat} {E : List fp_Row} {x : fp_Row} (hk : k < 12) (hw6 : w ≤ 6) (hG : fy_GV v k w E) (hx : x.length = w) (hr : ∀ j, j < w → yy_row v j = x.getD j 0) (h : ∀ v', fy_fr k v v' → yy_row v' = yy_row v → fy_GV v' k w (E ++ [x]) → post v') : wpY_give post v (nI k) := by
  obtain ⟨h1, h2, h3⟩ := hG
  show wpY_give post ((yy_nodes v), (yy_over v), (yy_resultRows v), (yy_resultWidth v), (yy_tables v), (yy_held v), (yy_kind v), (yy_left v), (yy_right v), (yy_p v), (yy_q v), (yy_r v), (yy_widths v), (yy_used v), (yy_rows v), (yy_given v), (yy_needed v), (yy_row v), (yy_result v)) (nI k)
  refine And.intro (vp_in_nI hk (by decide)) ?_
  rw [fi_cl (by omega : k < 4096), h1]
  have hl : (E ++ [x]).length = E.length + 1 := by rw [List.length_append]; rfl
  by_cases c : E.length < 20
  · refine br_f (fun e => ?_) ⟨7, ?_⟩
    · have := (nI_eq (a := min E.length 20) (b := 20) (by omega) (by omega)).mp e
      omega
    · have hm : min E.length 20 = E.length := by omega
      rw [hm] at h1 h3
      refine fy_give19 v post hk h1 c 6 0 (yy_rows v) (by omega) fun rw2 q1 q2 => ?_
      refine h _ ⟨rfl, fun j hj => fi_un hj, fun i hi => q1 i (by omega)⟩ rfl ⟨?_, ?_, ?_⟩
      · show upd (yy_given v) k (nI (E.length + 1)) k = _
        rw [fi_us, hl, Nat.min_eq_left (by omega)]
      · show yy_over v = _
        rw [h2, if_pos (by omega), hl, if_pos (by omega)]
      · intro i hi
        rw [hl] at hi
        by_cases e : i = E.length
        · subst e
          rw [fp_gd_last]
          refine ⟨hx, fun j hj => ?_⟩
          show rw2 _ = _
          rw [q2 j (by omega) (by omega), hr j hj]
        · have hi' : i < E.length := by omega
          rw [fp_gd_app _ _ _ hi']
          refine ⟨(h3 i hi').1, fun j hj => ?_⟩
          show rw2 _ = _
          rw [q1 _ (by omega)]
          exact (h3 i hi').2 j hj
  · have hm : min E.length 20 = 20 := by omega
    refine br_t (by rw [hm]; rfl) ?_
    refine h _ ⟨rfl, fun _ _ => rfl, fun _ _ => rfl⟩ rfl ⟨?_, ?_, ?_⟩
    · show yy_given v k = _
      rw [h1, hm, hl, Nat.min_eq_right (by omega)]
    · show (1 : Int32) = _
      rw [hl, if_neg (by omega)]
    · intro i hi
      have hi' : i < E.length := by omega
      rw [fp_gd_app _ _ _ hi']
      exact h3 i (by omega)
end
section
/-! ## tables; the plan as Y holds it -/
def fp_TB (tb hd : Nat → Int32) (t : Nat) : List fp_Row := (List.range (hd t).toNatClampNeg).map (fun i => [tb (18 * t + 3 * i), tb (18 * t + 3 * i + 1), tb (18 * t + 3 * i + 2)])
def fp_TOK (hd : Nat → Int32) : Prop := ∀ t, t < 3 → ∃ h, h ≤ 6 ∧ hd t = nI h
theorem fp_TB_len {tb hd : Nat → Int32} (T : fp_TOK hd) {t : Nat} (ht : t < 3) : (fp_TB tb hd t).length ≤ 6 ∧ hd t = nI (fp_TB tb hd t).length := by
  obtain ⟨h, h1, h2⟩ := T t ht
  unfold fp_TB
  rw [List.length_map, List.length_range, h2, fi_cl (by omega)]
  exact ⟨h1, rfl⟩
theorem fp_TB_get {tb hd : Nat → Int32} {t i : Nat} (hi : i < (fp_TB tb hd t).length) : (fp_TB tb hd t).getD i [] = [tb (18 * t + 3 * i), tb (18 * t + 3 * i + 1), tb (18 * t + 3 * i + 2)] := by
  unfold fp_TB at hi ⊢
  rw [List.length_map] at hi
  rw [fp_gd_map _ _ _ 0 hi, fp_gd _ _ hi, List.getElem_range]
theorem fp_take_s {α : Type} (l : List α) (d : α) {i : Nat} (h : i < l.length) : l.take (i + 1) = l.take i ++ [l.getD i d] := by
  rw [fp_gd l d h, List.take_append_getElem]
theorem fp_take_all {α : Type} {l : List α} {i : Nat} (h : i = l.length) : l.take i = l := by subst h; exact List.take_length
def fy_P (π : fp_Pl) (m : Nat) (v : SY) : Prop :=
  yy_nodes v = nI m ∧ yy_kind v = π.1 ∧ yy_left v = π.2.1 ∧ yy_right v = π.2.2.1 ∧ yy_widths v = π.2.2.2.2.2.2.1 ∧
  ∀ n, n < m → fp_kd π n ≠ 8 → fp_kd π n ≠ 9 → yy_p v n = fp_p π n ∧ yy_q v n = fp_q π n ∧ yy_r v n = fp_r π n
theorem fy_P_e {π : fp_Pl} {m : Nat} {v v' : SY} (h : fy_e v' = fy_e v) (P : fy_P π m v) : fy_P π m v' := by
  obtain ⟨p1, p2, p3, p4, p5, p6⟩ := P
  exact ⟨(fy_e_nodes h).trans p1, (fy_e_kind h).trans p2, (fy_e_left h).trans p3, (fy_e_right h).trans p4, (fy_e_widths h).trans p5, by rw [fy_e_p h, fy_e_q h, fy_e_r h]; exact p6⟩
/-- the facts on node k that Y's methods read -/
theorem fy_nd {π : fp_Pl} {m k : Nat} {v : SY} (W : fp_WF π m) (P : fy_P π m v) (hk : k < m) : k < 12 ∧ yy_kind v k = nI (fp_kd π k) ∧ fp_kd π k ≤ 9 ∧ yy_widths v k = nI (fp_wd π k) ∧ 1 ≤ fp_wd π k ∧ fp_wd π k ≤ 6 ∧ fp_prm π k := by
  obtain ⟨n1, n2, n3, n4, n5, _, _, _, _, _, n6⟩ := W.2 k hk
  have := W.1
  exact ⟨by omega, by rw [P.2.1]; exact n1, n2, by rw [P.2.2.2.2.1]; exact n3, n4, n5, n6⟩
theorem fy_ndL {π : fp_Pl} {m k : Nat} {v : SY} (W : fp_WF π m) (P : fy_P π m v) (hk : k < m) (h0 : fp_kd π k ≠ 0) : yy_left v k = nI (fp_fa π k) ∧ fp_fa π k < k := by
  obtain ⟨_, _, _, _, _, _, n1, _⟩ := W.2 k hk
  exact ⟨by rw [P.2.2.1]; exact (n1 h0).1, (n1 h0).2.1⟩
theorem fy_ndR {π : fp_Pl} {m k : Nat} {v : SY} (W : fp_WF π m) (P : fy_P π m v) (hk : k < m) (h2 : fp_two π k) : yy_right v k = nI (fp_sb π k) ∧ fp_sb π k < k := by
  obtain ⟨_, _, _, _, _, _, _, _, n1, _⟩ := W.2 k hk
  exact ⟨by rw [P.2.2.2.1]; exact (n1 h2).1, (n1 h2).2.1⟩
/-! ## Y: comparing, reckoning -/
theorem fy_holds (post : Int32 → Prop) (x k y : Int32) (h : post (if fp_cmp x k y then 1 else 0)) : wpY_holds post x k y := by
  unfold wpY_holds
  unfold fp_cmp at h
  refine br_c (fun e => ?_) (fun e => ?_)
  · rw [if_pos e] at h
    refine br_c (fun c => ?_) (fun c => ?_)
    · rw [decide_eq_true c] at h; exact h
    · rw [decide_eq_false c] at h; exact h
  rw [if_neg e] at h
  refine br_c (fun e => ?_) (fun e => ?_)
  · rw [if_pos e] at h
    refine br_c (fun c => ?_) (fun c => ?_)
    · rw [decide_eq_true c] at h; exact h
    · rw [decide_eq_false c] at h; exact h
  rw [if_neg e] at h
  refine br_c (fun e => ?_) (fun e => ?_)
  · rw [if_pos e] at h
    refine br_c (fun c => ?_) (fun c => ?_)
    · rw [decide_eq_false (Int32.not_lt.mpr c)] at h; exact h
    · rw [decide_eq_true (Int32.not_le.mp c)] at h; exact h
  rw [if_neg e] at h
  refine br_c (fun e => ?_) (fun e => ?_)
  · rw [if_pos e] at h
    refine br_c (fun c => ?_) (fun c => ?_)
    · rw [decide_eq_false (Int32.not_le.mpr c)] at h; exact h
    · rw [decide_eq_true (Int32.not_lt.mp c)] at h; exact h
  rw [if_neg e] at h
  refine br_c (fun e => ?_) (fun e => ?_)
  · rw [if_pos e] at h
    refine br_c (fun c => ?_) (fun c => ?_)
    · rw [decide_eq_false (Int32.not_lt.mpr c)] at h; exact h
    · rw [decide_eq_true (Int32.not_le.mp c)] at h; exact h
  rw [if_neg e] at h
  refine br_c (fun c => ?_) (fun c => ?_)
  · rw [decide_eq_false (Int32.not_le.mpr c)] at h; exact h
  · rw [decide_eq_true (Int32.not_lt.mp c)] at h; exact h
theorem fy_worked (post : Int32 → Prop) (x o y : Int32) (h : post (fp_calc o x y)) : wpY_worked post x o y := by
  unfold wpY_worked
  unfold fp_calc at h
  refine br_c (fun e => ?_) (fun e => ?_)
  · rw [if_pos e] at h; exact h
  rw [if_neg e] at h
  refine br_c (fun e => ?_) (fun e => ?_)
  · rw [if_pos e] at h; exact h
  rw [if_neg e] at h
  refine br_c (fun e => ?_) (fun e => ?_)
  · rw [if_pos e] at h; exact h
  rw [if_neg e] at h
  refine br_c (fun e => ?_) (fun e => ?_)
  · rw [if_pos e] at h
    refine br_c (fun c => ?_) (fun c => ?_)
    · rw [if_neg (Int32.not_lt.mpr c)] at h; exact h
    · rw [if_pos (Int32.not_le.mp c)] at h; exact h
  rw [if_neg e] at h
  refine br_c (fun c => ?_) (fun c => ?_)
  · by_cases d : x < y
    · rw [if_pos d] at h; exact h
    · rw [if_neg d] at h
      rw [← Int32.le_antisymm c (Int32.not_lt.mp d)]; exact h
  · have d : ¬ x < y := fun z => c (Int32.le_of_lt z)
    rw [if_neg d] at h; exact h
/-! ## Y: tables -/
theorem fy_gt19 (v : SY) (post : SY → Prop) (J2 : Int32 → Int32 → Int32 → Int32 → Int32 → (Nat → Int32) → (Nat → Int32) → (Nat → Int32) → (Nat → Int32) → (Nat → Int32) → (Nat → Int32) → (Nat → Int32) → (Nat → Int32) → (Nat → Int32) → (Nat → Int32) → (Nat → Int32) → (Nat → Int32) → (Nat → Int32) → (Nat → Int32) → (Nat → Int32) → Prop) {k t i : Nat} (hk : k < 12) (ht : t < 3) (hi : i < 6) (hp : yy_p v k = nI t) : ∀ d c row, c + d = 3 → (∀ row', (∀ j, j < c → row' j = row j) → (∀ j, c ≤ j → j < 3 → row' j = yy_tables v (18 * t + 3 * i + j)) → wpY_give (fun u => ∀ y, y = nI i + 1 → J2 y (yy_nodes u) (yy_over u) (yy_resultRows u) (yy_resultWidth u) (yy_tables u) (yy_held u) (yy_kind u) (yy_left u) (yy_right u) (yy_p u) (yy_q u) (yy_r u) (yy_widths u) (yy_used u) (yy_rows u) (yy_given u) (yy_needed u) (yy_row u) (yy_result u)) ((yy_nodes v), (yy_over v), (yy_resultRows v), (yy_resultWidth v), (yy_tables v), (yy_held v), (yy_kind v), (yy_left v), (yy_right v), (yy_p v), (yy_q v), (yy_r v), (yy_widths v), (yy_used v), (yy_rows v), (yy_given v), (yy_needed v), row', (yy_result v)) (nI k)) → wY_giveTable_19 post J2 (nI k) (nI i) (yy_nodes v) (yy_over v) (yy_resultRows v) (yy_resultWidth v) (d + 1) (nI c) (yy_tables v) (yy_held v) (yy_kind v) (yy_left v) (yy_right v) (yy_p v) (yy_q v) (yy_r v) (yy_widths v) (yy_used v) (yy_rows v) (yy_given v) (yy_needed v) row (yy_result v) := by
  intro d
  induction d with
  | zero =>
    intro c row hc h
    have e : c = 3 := by omega
    subst e
    refine br_t (nI_le (a := 3) (b := 3) (Nat.le_refl _) (by decide)) ?_
    exact h row (fun j _ => rfl) (fun j h1 h2 => by omega)
  | succ d ih =>
    intro c row hc h
    refine br_f (nI_ge (b := 3) (by omega) (by decide)) ?_
    refine And.intro (vp_in_nI hk (by decide)) ?_
    rw [fi_cl (by omega : k < 4096), hp, fi_u, fi_cl (by omega), fi_cl (by omega), nI_1]
    refine And.intro (vp_in_nI (by omega) (by decide)) (And.intro (vp_in_nI (by omega) (by decide)) ?_)
    intro row2 e2 c2 ec2
    subst e2 ec2
    refine ih (c + 1) _ (by omega) fun row' h1 h2 => h row' (fun j hj => ?_) (fun j hj1 hj2 => ?_)
    · rw [h1 j (by omega), fi_un (by omega)]
    · by_cases e : j = c
      · subst e
        rw [h1 j (by omega), fi_us]
      · exact h2 j (by omega) hj2
theorem fy_gt2 {π : fp_Pl} {m k t : Nat} (post : SY → Prop) (hk : k < 12) (ht : t < 3) (T : List fp_Row) : ∀ d i v, i + d = T.length → yy_p v k = nI t → yy_held v t = nI T.length → T.length ≤ 6 → (∀ i, i < T.length → T.getD i [] = [yy_tables v (18 * t + 3 * i), yy_tables v (18 * t + 3 * i + 1), yy_tables v (18 * t + 3 * i + 2)]) → fy_GV v k 3 (T.take i) → (∀ v', fy_fr k v v' → fy_GV v' k 3 T → post v') → wY_giveTable_2 post (nI k) (d + 1) (nI i) (yy_nodes v) (yy_over v) (yy_resultRows v) (yy_resultWidth v) (yy_tables v) (yy_held v) (yy_kind v) (yy_left v) (yy_right v) (yy_p v) (yy_q v) (yy_r v) (yy_widths v) (yy_used v) (yy_rows v) (yy_given v) (yy_needed v) (yy_row v) (yy_result v) := by
  intro d
  induction d with
  | zero =>
    intro i v hi hp hh h6 hT hG h
    refine And.intro (vp_in_nI hk (by decide)) ?_
    rw [fi_cl (by omega : k < 4096), hp]
    refine And.intro (vp_in_nI ht (by decide)) ?_
    rw [fi_cl (by omega : t < 4096), hh]
    refine br_t (nI_le (by omega) (by omega)) ?_
    rw [fp_take_all (by omega)] at hG
    exact h v (fy_fr_rfl k v) hG
  | succ d ih =>
    intro i v hi hp hh h6 hT hG h
    refine And.intro (vp_in_nI hk (by decide)) ?_
    rw [fi_cl (by omega : k < 4096), hp]
    refine And.intro (vp_in_nI ht (by decide)) ?_
    rw [fi_cl (by omega : t < 4096), hh]
    refine br_f (nI_ge (by omega) (by omega)) ⟨4, ?_⟩
    refine fy_gt19 v post _ hk ht (by omega) hp 3 0 (yy_row v) (by omega) fun row' _ h2 => ?_
    have hG' : fy_GV ((yy_nodes v), (yy_over v), (yy_resultRows v), (yy_resultWidth v), (yy_tables v), (yy_held v), (yy_kind v), (yy_left v), (yy_right v), (yy_p v), (yy_q v), (yy_r v), (yy_widths v), (yy_used v), (yy_rows v), (yy_given v), (yy_needed v), row', (yy_result v)) k 3 (T.take i) := hG
    refine fy_give _ _ (x := T.getD i []) hk (by decide) hG' (by rw [hT i (by omega)]; rfl) ?_ ?_
    · intro j hj
      show row' j = _
      rw [h2 j (by omega) hj, hT i (by omega)]
      match j, hj with
      | 0, _ => rfl
      | 1, _ => rfl
      | 2, _ => rfl
    · intro v' f1 f2 f3 y ey
      rw [nI_1] at ey
      subst ey
      have he : fy_e v' = fy_e v := f1.1
      have f1' : fy_fr k v v' := ⟨f1.1, f1.2.1, f1.2.2⟩
      rw [← fp_take_s T [] (by omega)] at f3
      refine ih (i + 1) v' (by omega) (by rw [fy_e_p he]; exact hp) (by rw [fy_e_held he]; exact hh) h6 (by rw [fy_e_tables he]; exact hT) f3 fun v2 g1 g2 => h v2 (fy_fr_trans f1' g1) g2
theorem fy_giveTable {k t : Nat} (v : SY) (post : SY → Prop) (hk : k < 12) (ht : t < 3) (hp : yy_p v k = nI t) (T : fp_TOK (yy_held v)) (hG : fy_GV v k 3 []) (h : ∀ v', fy_fr k v v' → fy_GV v' k 3 (fp_TB (yy_tables v) (yy_held v) t) → post v') : wpY_giveTable post v (nI k) := by
  obtain ⟨t1, t2⟩ := fp_TB_len (tb := yy_tables v) T ht
  refine ⟨(fp_TB (yy_tables v) (yy_held v) t).length + 1, ?_⟩
  exact fy_gt2 (π := (fun _ => 0, fun _ => 0, fun _ => 0, fun _ => 0, fun _ => 0, fun _ => 0, fun _ => 0, fun _ => 0)) (m := 0) post hk ht _ _ 0 v (by omega) hp t2 t1 (fun i hi => fp_TB_get hi) hG h
end
section
/-! ## Y: matches -/
theorem fy_rat {v : SY} {c w i j : Nat} {E : List fp_Row} (hR : fy_RO v c w E) (hi : i < E.length) (hj : j < w) : yy_rows v (6 * (20 * c + i) + j) = (E.getD i []).getD j 0 := (hR.2.2 i hi).2 j hj
theorem fy_colat {c : Int32} {w : Nat} (h : fp_col c w) (x : fp_Row) : fp_at x c = x.getD c.toNatClampNeg 0 := rfl
/-- node k reads the rows La of its left and Lb of its right input -/
def fy_in2 (π : fp_Pl) (m k : Nat) (v : SY) (La Lb : List fp_Row) : Prop :=
  fp_WF π m ∧ fy_P π m v ∧ k < m ∧ fy_RO v (fp_fa π k) (fp_wd π (fp_fa π k)) La ∧ fy_RO v (fp_sb π k) (fp_wd π (fp_sb π k)) Lb
theorem fy_wd {π : fp_Pl} {m n : Nat} (W : fp_WF π m) (hn : n < m) : 1 ≤ fp_wd π n ∧ fp_wd π n ≤ 6 := by
  obtain ⟨_, _, _, n4, n5, _⟩ := W.2 n hn
  exact ⟨n4, n5⟩
theorem fy_in2_fr {π : fp_Pl} {m k : Nat} {v v' : SY} {La Lb : List fp_Row} (h2 : fp_two π k) (I : fy_in2 π m k v La Lb) (h : fy_fr k v v') : fy_in2 π m k v' La Lb := by
  obtain ⟨W, P, hk, hA, hB⟩ := I
  have h0 : fp_kd π k ≠ 0 := by unfold fp_two at h2; omega
  have a := (fy_ndL W P hk h0).2
  have b := (fy_ndR W P hk h2).2
  exact ⟨W, fy_P_e h.1 P, hk, fy_RO_fr (fy_wd W (by omega)).2 (by omega) h hA, fy_RO_fr (fy_wd W (by omega)).2 (by omega) h hB⟩
theorem fy_mt {π : fp_Pl} {m k i j : Nat} {v : SY} {La Lb : List fp_Row} {A B : Prop} (I : fy_in2 π m k v La Lb) (h2 : fp_kd π k = 4 ∨ fp_kd π k = 5 ∨ fp_kd π k = 6) (hi : i < La.length) (hj : j < Lb.length)
    (hA : fp_mt π k (La.getD i []) (Lb.getD j []) = true → A) (hB : fp_mt π k (La.getD i []) (Lb.getD j []) = false → B) :
    vp_in (nI k) 12 ∧ (vp_in (nI k) 12 ∧ (wpY_at (fun r_6 => (vp_in (nI k) 12 ∧ (vp_in (nI k) 12 ∧ (wpY_at (fun r_28 => (r_6 = r_28 → A) ∧ (¬ r_6 = r_28 → B)) v (yy_right v k) (nI j) (yy_q v k))))) v (yy_left v k) (nI i) (yy_p v k))) := by
  obtain ⟨W, P, hk, hRA, hRB⟩ := I
  obtain ⟨k1, k2, k3, k4, k5, k6, k7⟩ := fy_nd W P hk
  have htwo : fp_two π k := by unfold fp_two; omega
  obtain ⟨l1, l2⟩ := fy_ndL W P hk (by omega)
  obtain ⟨r1, r2⟩ := fy_ndR W P hk htwo
  obtain ⟨p1, p2, p3⟩ := P.2.2.2.2.2 k hk (by omega) (by omega)
  have hcol : fp_col (fp_p π k) (fp_wd π (fp_fa π k)) ∧ fp_col (fp_q π k) (fp_wd π (fp_sb π k)) := by
    obtain ⟨_, _, _, _, q4, q5, _⟩ := k7
    rcases h2 with h | h | h
    · exact ⟨(q4 h).1, (q4 h).2.1⟩
    · exact ⟨(q5 (Or.inl h)).1, (q5 (Or.inl h)).2.1⟩
    · exact ⟨(q5 (Or.inr h)).1, (q5 (Or.inr h)).2.1⟩
  have hv := vp_in_nI (n := k) k1 (by decide)
  have wa := (fy_wd W (by omega : fp_fa π k < m)).2
  have wb := (fy_wd W (by omega : fp_sb π k < m)).2
  have ia := hRA.2.1
  have ib := hRB.2.1
  refine ⟨hv, hv, ?_⟩
  rw [l1, r1, p1, p2, hcol.1.1, hcol.2.1]
  have c1 := hcol.1.2
  have c2 := hcol.2.2
  refine fy_at _ _ (by omega) (by omega) (by omega) ⟨hv, hv, ?_⟩
  refine fy_at _ _ (by omega) (by omega) (by omega) ?_
  rw [fy_rat hRA hi c1, fy_rat hRB hj c2]
  unfold fp_mt fp_at at hA hB
  exact br_c (fun e => hA (decide_eq_true e.symm)) (fun e => hB (decide_eq_false (fun z => e z.symm)))
theorem fy_hm2 {π : fp_Pl} {m k i : Nat} {v : SY} {La Lb : List fp_Row} (post : Int32 → Prop) (I : fy_in2 π m k v La Lb) (h2 : fp_kd π k = 5 ∨ fp_kd π k = 6) (hi : i < La.length) : ∀ d j, j + d = Lb.length → post (if (Lb.drop j).any (fp_mt π k (La.getD i [])) then 1 else 0) → wY_hasMatch_2 post (nI k) (nI i) (yy_nodes v) (yy_over v) (yy_resultRows v) (yy_resultWidth v) (yy_tables v) (yy_held v) (yy_kind v) (yy_left v) (yy_right v) (yy_p v) (yy_q v) (yy_r v) (yy_widths v) (yy_used v) (yy_rows v) (yy_given v) (yy_needed v) (yy_row v) (yy_result v) (d + 1) (nI j) := by
  obtain ⟨W, P, hk, hRA, hRB⟩ := I
  obtain ⟨k1, k2, k3, k4, k5, k6, k7⟩ := fy_nd W P hk
  have htwo : fp_two π k := by unfold fp_two; omega
  obtain ⟨r1, r2⟩ := fy_ndR W P hk htwo
  have hv := vp_in_nI (n := k) k1 (by decide)
  have ib := hRB.2.1
  intro d
  induction d with
  | zero =>
    intro j hj h
    refine And.intro hv ?_
    rw [fi_cl (by omega : k < 4096), r1]
    refine And.intro (vp_in_nI (by omega) (by decide)) ?_
    rw [fi_cl (by omega : fp_sb π k < 4096), hRB.1]
    refine br_t (nI_le (by omega) (by omega)) ?_
    rw [List.drop_eq_nil_of_le (by omega)] at h
    exact h
  | succ d ih =>
    intro j hj h
    refine And.intro hv ?_
    rw [fi_cl (by omega : k < 4096), r1]
    refine And.intro (vp_in_nI (by omega) (by decide)) ?_
    rw [fi_cl (by omega : fp_sb π k < 4096), hRB.1]
    refine br_f (nI_ge (by omega) (by omega)) ?_
    rw [← r1]
    have hjb : j < Lb.length := by omega
    rw [List.drop_eq_getElem_cons hjb, List.any_cons, ← fp_gd Lb [] hjb] at h
    refine fy_mt (La := La) (Lb := Lb) ⟨W, P, hk, hRA, hRB⟩ (by omega) hi hjb (fun e => ?_) (fun e => ?_)
    · rw [e, Bool.true_or] at h; exact h
    · rw [e, Bool.false_or] at h
      intro y ey
      rw [nI_1] at ey
      subst ey
      exact ih (j + 1) (by omega) h
theorem fy_hasMatch {π : fp_Pl} {m k i : Nat} {v : SY} {La Lb : List fp_Row} (post : Int32 → Prop) (I : fy_in2 π m k v La Lb) (h2 : fp_kd π k = 5 ∨ fp_kd π k = 6) (hi : i < La.length) (h : post (if Lb.any (fp_mt π k (La.getD i [])) then 1 else 0)) : wpY_hasMatch post v (nI k) (nI i) :=
  ⟨Lb.length + 1, fy_hm2 post I h2 hi Lb.length 0 (by omega) h⟩
/-! ## Y: join -/
theorem fy_gj19 {π : fp_Pl} {m k i : Nat} {La Lb E : List fp_Row} (post : SY → Prop) (J2 : Int32 → Int32 → Int32 → Int32 → Int32 → (Nat → Int32) → (Nat → Int32) → (Nat → Int32) → (Nat → Int32) → (Nat → Int32) → (Nat → Int32) → (Nat → Int32) → (Nat → Int32) → (Nat → Int32) → (Nat → Int32) → (Nat → Int32) → (Nat → Int32) → (Nat → Int32) → (Nat → Int32) → (Nat → Int32) → Prop) (h4 : fp_kd π k = 4) (hi : i < La.length) : ∀ d j v, j + d = Lb.length → fy_in2 π m k v La Lb → fy_GV v k (fp_wd π k) (E ++ ((Lb.take j).filter (fp_mt π k (La.getD i []))).map (fun y => La.getD i [] ++ y)) → (∀ v', fy_fr k v v' → fy_GV v' k (fp_wd π k) (E ++ (Lb.filter (fp_mt π k (La.getD i []))).map (fun y => La.getD i [] ++ y)) → J2 (nI (i + 1)) (yy_nodes v') (yy_over v') (yy_resultRows v') (yy_resultWidth v') (yy_tables v') (yy_held v') (yy_kind v') (yy_left v') (yy_right v') (yy_p v') (yy_q v') (yy_r v') (yy_widths v') (yy_used v') (yy_rows v') (yy_given v') (yy_needed v') (yy_row v') (yy_result v')) → wY_giveJoin_19 post J2 (nI k) (nI i) (d + 1) (nI j) (yy_nodes v) (yy_over v) (yy_resultRows v) (yy_resultWidth v) (yy_tables v) (yy_held v) (yy_kind v) (yy_left v) (yy_right v) (yy_p v) (yy_q v) (yy_r v) (yy_widths v) (yy_used v) (yy_rows v) (yy_given v) (yy_needed v) (yy_row v) (yy_result v) := by
  intro d
  induction d with
  | zero =>
    intro j v hj I hG h
    obtain ⟨W, P, hk, hRA, hRB⟩ := I
    obtain ⟨k1, k2, k3, k4, k5, k6, k7⟩ := fy_nd W P hk
    have htwo : fp_two π k := Or.inl h4
    obtain ⟨r1, r2⟩ := fy_ndR W P hk htwo
    have ib := hRB.2.1
    refine And.intro (vp_in_nI k1 (by decide)) ?_
    rw [fi_cl (by omega : k < 4096), r1]
    refine And.intro (vp_in_nI (by omega) (by decide)) ?_
    rw [fi_cl (by omega : fp_sb π k < 4096), hRB.1]
    refine br_t (nI_le (by omega) (by omega)) ?_
    rw [nI_1]
    intro y ey
    subst ey
    rw [fp_take_all (by omega)] at hG
    exact h v (fy_fr_rfl k v) hG
  | succ d ih =>
    intro j v hj I hG h
    obtain ⟨W, P, hk, hRA, hRB⟩ := id I
    obtain ⟨k1, k2, k3, k4, k5, k6, k7⟩ := fy_nd W P hk
    have htwo : fp_two π k := Or.inl h4
    obtain ⟨l1, l2⟩ := fy_ndL W P hk (by omega)
    obtain ⟨r1, r2⟩ := fy_ndR W P hk htwo
    have ia := hRA.2.1
    have ib := hRB.2.1
    have hjb : j < Lb.length := by omega
    obtain ⟨_, _, _, _, q4, _⟩ := k7
    have hww := (q4 h4).2.2
    have hv := vp_in_nI (n := k) k1 (by decide)
    obtain ⟨_, wka, _, wla, _⟩ := fy_nd W P (by omega : fp_fa π k < m)
    obtain ⟨_, wkb, _, wlb, _⟩ := fy_nd W P (by omega : fp_sb π k < m)
    have hts : (Lb.take (j + 1)).filter (fp_mt π k (La.getD i [])) = (Lb.take j).filter (fp_mt π k (La.getD i [])) ++ (if fp_mt π k (La.getD i []) (Lb.getD j []) then [Lb.getD j []] else []) := by
      rw [fp_take_s Lb [] hjb, List.filter_append, List.filter_cons, List.filter_nil]
    refine And.intro hv ?_
    rw [fi_cl (by omega : k < 4096), r1]
    refine And.intro (vp_in_nI (by omega) (by decide)) ?_
    rw [fi_cl (by omega : fp_sb π k < 4096), hRB.1]
    refine br_f (nI_ge (by omega) (by omega)) ?_
    rw [← r1]
    refine fy_mt (La := La) (Lb := Lb) I (by omega) hi hjb (fun e => ?_) (fun e => ?_)
    · refine And.intro hv ?_
      rw [l1]
      refine fy_lay v _ (to := 0) (by omega) hi wla (by omega) hRA fun v1 f1 f2 f3 => ?_
      show vp_in (nI k) 12 ∧ (vp_in (nI k) 12 ∧ (vp_in (yy_left v1 k) 12 ∧ wpY_lay (fun u => wpY_give (fun u => ∀ y, y = nI j + 1 → wY_giveJoin_19 post J2 (nI k) (nI i) (d + 1) y (yy_nodes u) (yy_over u) (yy_resultRows u) (yy_resultWidth u) (yy_tables u) (yy_held u) (yy_kind u) (yy_left u) (yy_right u) (yy_p u) (yy_q u) (yy_r u) (yy_widths u) (yy_used u) (yy_rows u) (yy_given u) (yy_needed u) (yy_row u) (yy_result u)) u (nI k)) v1 (yy_right v1 k) (nI j) (yy_widths v1 (yy_left v1 k).toNatClampNeg)))
      have I1 := fy_in2_fr htwo I (fy_fr_rw k f1)
      have hG1 := fy_GV_rw f1 hG
      obtain ⟨W1, P1, hk1, hRA1, hRB1⟩ := id I1
      obtain ⟨l1', _⟩ := fy_ndL W1 P1 hk1 (by omega)
      obtain ⟨r1', _⟩ := fy_ndR W1 P1 hk1 htwo
      obtain ⟨_, _, _, wla', _⟩ := fy_nd W1 P1 (by omega : fp_fa π k < m)
      obtain ⟨_, _, _, wlb', _⟩ := fy_nd W1 P1 (by omega : fp_sb π k < m)
      rw [l1', r1', fi_cl (by omega : fp_fa π k < 4096), wla']
      refine ⟨hv, hv, vp_in_nI (by omega) (by decide), ?_⟩
      refine fy_lay v1 _ (to := fp_wd π (fp_fa π k)) (by omega) hjb wlb' (by omega) hRB1 fun v2 g1 g2 g3 => ?_
      have I2 := fy_in2_fr htwo I1 (fy_fr_rw k g1)
      have hG2 := fy_GV_rw g1 hG1
      have hxl : (La.getD i [] ++ Lb.getD j []).length = fp_wd π k := by
        rw [List.length_append, (hRA.2.2 i hi).1, (hRB.2.2 j hjb).1, hww]
      refine fy_give v2 _ (x := La.getD i [] ++ Lb.getD j []) k1 k6 hG2 hxl ?_ ?_
      · intro c hc
        by_cases hc1 : c < fp_wd π (fp_fa π k)
        · rw [g2 c (by omega), fp_gd_app _ _ _ (by rw [(hRA.2.2 i hi).1]; exact hc1)]
          have := f3 c hc1
          rw [Nat.zero_add] at this
          exact this
        · have e1 : c = (La.getD i []).length + (c - fp_wd π (fp_fa π k)) := by rw [(hRA.2.2 i hi).1]; omega
          have e2 : c = fp_wd π (fp_fa π k) + (c - fp_wd π (fp_fa π k)) := by omega
          rw [e1, fp_gd_app2, ← e1]
          have := g3 (c - fp_wd π (fp_fa π k)) (by omega)
          rw [← e2] at this
          exact this
      · intro v3 p1 p2 p3 y ey
        rw [nI_1] at ey
        subst ey
        have hfr : fy_fr k v v3 := fy_fr_trans (fy_fr_trans (fy_fr_rw k f1) (fy_fr_rw k g1)) p1
        refine ih (j + 1) v3 (by omega) (fy_in2_fr htwo I2 p1) ?_ fun v4 z1 z2 => h v4 (fy_fr_trans hfr z1) z2
        rw [hts, if_pos e, List.map_append, ← List.append_assoc]
        exact p3
    · intro y ey
      rw [nI_1] at ey
      subst ey
      refine ih (j + 1) v (by omega) I ?_ h
      rw [hts, e]
      simp only [Bool.false_eq_true, if_false, List.append_nil]
      exact hG
theorem fy_gj2 {π : fp_Pl} {m k : Nat} {La Lb : List fp_Row} (post : SY → Prop) (h4 : fp_kd π k = 4) (f : Nat → List fp_Row) (hf : f (fp_sb π k) = Lb) : ∀ d i v, i + d = La.length → fy_in2 π m k v La Lb → fy_GV v k (fp_wd π k) ((La.take i).flatMap (fp_phi π f k)) → (∀ v', fy_fr k v v' → fy_GV v' k (fp_wd π k) (La.flatMap (fp_phi π f k)) → post v') → wY_giveJoin_2 post (nI k) (d + 1) (nI i) (yy_nodes v) (yy_over v) (yy_resultRows v) (yy_resultWidth v) (yy_tables v) (yy_held v) (yy_kind v) (yy_left v) (yy_right v) (yy_p v) (yy_q v) (yy_r v) (yy_widths v) (yy_used v) (yy_rows v) (yy_given v) (yy_needed v) (yy_row v) (yy_result v) := by
  intro d
  induction d with
  | zero =>
    intro i v hi I hG h
    obtain ⟨W, P, hk, hRA, hRB⟩ := I
    obtain ⟨k1, k2, k3, k4, k5, k6, k7⟩ := fy_nd W P hk
    obtain ⟨l1, l2⟩ := fy_ndL W P hk (by omega)
    have ia := hRA.2.1
    refine And.intro (vp_in_nI k1 (by decide)) ?_
    rw [fi_cl (by omega : k < 4096), l1]
    refine And.intro (vp_in_nI (by omega) (by decide)) ?_
    rw [fi_cl (by omega : fp_fa π k < 4096), hRA.1]
    refine br_t (nI_le (by omega) (by omega)) ?_
    rw [fp_take_all (by omega)] at hG
    exact h v (fy_fr_rfl k v) hG
  | succ d ih =>
    intro i v hi I hG h
    obtain ⟨W, P, hk, hRA, hRB⟩ := id I
    obtain ⟨k1, k2, k3, k4, k5, k6, k7⟩ := fy_nd W P hk
    obtain ⟨l1, l2⟩ := fy_ndL W P hk (by omega)
    have ia := hRA.2.1
    refine And.intro (vp_in_nI k1 (by decide)) ?_
    rw [fi_cl (by omega : k < 4096), l1]
    refine And.intro (vp_in_nI (by omega) (by decide)) ?_
    rw [fi_cl (by omega : fp_fa π k < 4096), hRA.1]
    refine br_f (nI_ge (by omega) (by omega)) ⟨Lb.length + 1, ?_⟩
    have hphi : fp_phi π f k (La.getD i []) = (Lb.filter (fp_mt π k (La.getD i []))).map (fun y => La.getD i [] ++ y) := by
      unfold fp_phi; rw [if_neg (by omega), if_neg (by omega), if_neg (by omega), if_pos h4, hf]
    refine fy_gj19 (E := (La.take i).flatMap (fp_phi π f k)) post _ h4 (by omega) Lb.length 0 v (by omega) I ?_ fun v1 f1 f2 => ?_
    · rw [List.take_zero, List.filter_nil, List.map_nil, List.append_nil]; exact hG
    · refine ih (i + 1) v1 (by omega) (fy_in2_fr (Or.inl h4) I f1) ?_ fun v2 g1 g2 => h v2 (fy_fr_trans f1 g1) g2
      rw [fp_take_s La [] (by omega), List.flatMap_append, List.flatMap_cons, List.flatMap_nil, List.append_nil, hphi]
      exact f2
theorem fy_giveJoin {π : fp_Pl} {m k : Nat} {La Lb : List fp_Row} (v : SY) (post : SY → Prop) (h4 : fp_kd π k = 4) (f : Nat → List fp_Row) (hf : f (fp_sb π k) = Lb) (I : fy_in2 π m k v La Lb) (hG : fy_GV v k (fp_wd π k) []) (h : ∀ v', fy_fr k v v' → fy_GV v' k (fp_wd π k) (La.flatMap (fp_phi π f k)) → post v') : wpY_giveJoin post v (nI k) :=
  ⟨La.length + 1, fy_gj2 post h4 f hf La.length 0 v (by omega) I hG h⟩
end
section
/-! ## Y: equal rows -/
theorem fy_same3 {v : SY} {n i j w : Nat} {E : List fp_Row} (post : Int32 → Prop) (hn : n < 12) (hw : yy_widths v n = nI w) (hw6 : w ≤ 6) (hR : fy_RO v n w E) (hi : i < E.length) (hj : j < E.length) : ∀ d c, c + d = w → (∀ c', c' < c → (E.getD i []).getD c' 0 = (E.getD j []).getD c' 0) → post (if E.getD i [] = E.getD j [] then 1 else 0) → wY_same_3 post (nI n) (nI i) (nI j) (yy_nodes v) (yy_over v) (yy_resultRows v) (yy_resultWidth v) (yy_tables v) (yy_held v) (yy_kind v) (yy_left v) (yy_right v) (yy_p v) (yy_q v) (yy_r v) (yy_widths v) (yy_used v) (yy_rows v) (yy_given v) (yy_needed v) (yy_row v) (yy_result v) (d + 1) (nI c) := by
  have h20 := hR.2.1
  have li := (hR.2.2 i hi).1
  have lj := (hR.2.2 j hj).1
  intro d
  induction d with
  | zero =>
    intro c hc heq h
    refine And.intro (vp_in_nI hn (by decide)) ?_
    rw [fi_cl (by omega : n < 4096), hw]
    refine br_t (nI_le (by omega) (by omega)) ?_
    rw [if_pos] at h
    · exact h
    · exact fp_gd_ext 0 (li.trans lj.symm) fun c' hc' => heq c' (by omega)
  | succ d ih =>
    intro c hc heq h
    refine And.intro (vp_in_nI hn (by decide)) ?_
    rw [fi_cl (by omega : n < 4096), hw]
    refine br_f (nI_ge (by omega) (by omega)) ?_
    refine fy_at _ _ hn (by omega) (by omega) (fy_at _ _ hn (by omega) (by omega) ?_)
    rw [fy_rat hR hi (by omega), fy_rat hR hj (by omega)]
    refine br_c (fun e => ?_) (fun e => ?_)
    · intro y ey
      rw [nI_1] at ey
      subst ey
      refine ih (c + 1) (by omega) (fun c' hc' => ?_) h
      by_cases z : c' = c
      · subst z; exact e
      · exact heq c' (by omega)
    · rw [if_neg (fun z => e (by rw [z]))] at h
      exact h
theorem fy_same {v : SY} {n i j w : Nat} {E : List fp_Row} (post : Int32 → Prop) (hn : n < 12) (hw : yy_widths v n = nI w) (hw6 : w ≤ 6) (hR : fy_RO v n w E) (hi : i < E.length) (hj : j < E.length) (h : post (if E.getD i [] = E.getD j [] then 1 else 0)) : wpY_same post v (nI n) (nI i) (nI j) :=
  ⟨w + 1, fy_same3 post hn hw hw6 hR hi hj w 0 (by omega) (fun c' hc' => by omega) h⟩
theorem fy_rep2 {v : SY} {n i w : Nat} {E : List fp_Row} (post : Int32 → Prop) (hn : n < 12) (hw : yy_widths v n = nI w) (hw6 : w ≤ 6) (hR : fy_RO v n w E) (hi : i < E.length) : ∀ d j, j + d = i → (∀ j', j' < j → E.getD i [] ≠ E.getD j' []) → post (if E.getD i [] ∈ E.take i then 1 else 0) → wY_repeated_2 post (nI n) (nI i) (yy_nodes v) (yy_over v) (yy_resultRows v) (yy_resultWidth v) (yy_tables v) (yy_held v) (yy_kind v) (yy_left v) (yy_right v) (yy_p v) (yy_q v) (yy_r v) (yy_widths v) (yy_used v) (yy_rows v) (yy_given v) (yy_needed v) (yy_row v) (yy_result v) (d + 1) (nI j) := by
  have h20 := hR.2.1
  intro d
  induction d with
  | zero =>
    intro j hj hne h
    refine br_t (nI_le (by omega) (by omega)) ?_
    rw [if_neg] at h
    · exact h
    · intro z
      obtain ⟨j', hj', e⟩ := fp_gd_of_mem [] z
      rw [List.length_take] at hj'
      rw [fp_gd _ _ (by rw [List.length_take]; exact hj'), List.getElem_take, ← fp_gd E [] (by omega)] at e
      exact hne j' (by omega) e.symm
  | succ d ih =>
    intro j hj hne h
    refine br_f (nI_ge (by omega) (by omega)) ?_
    refine fy_same _ hn hw hw6 hR hi (by omega) ?_
    by_cases e : E.getD i [] = E.getD j []
    · rw [if_pos e]
      refine br_f (by decide) ?_
      rw [if_pos] at h
      · exact h
      · rw [e, fp_gd E [] (by omega)]
        rw [List.mem_take_iff_getElem]
        exact ⟨j, by omega, rfl⟩
    · rw [if_neg e]
      refine br_t rfl ?_
      intro y ey
      rw [nI_1] at ey
      subst ey
      refine ih (j + 1) (by omega) (fun j' hj' => ?_) h
      by_cases z : j' = j
      · subst z; exact e
      · exact hne j' (by omega)
theorem fy_repeated {v : SY} {n i w : Nat} {E : List fp_Row} (post : Int32 → Prop) (hn : n < 12) (hw : yy_widths v n = nI w) (hw6 : w ≤ 6) (hR : fy_RO v n w E) (hi : i < E.length) (h : post (if E.getD i [] ∈ E.take i then 1 else 0)) : wpY_repeated post v (nI n) (nI i) :=
  ⟨i + 1, fy_rep2 post hn hw hw6 hR hi i 0 (by omega) (fun c' hc' => by omega) h⟩
/-! ## Y: groups -/
def fy_st (fn acc v : Int32) : Int32 := if fn = 0 then acc + v else if fn = 1 then acc + 1 else if fn = 2 then (if v < acc then v else acc) else (if acc < v then v else acc)
def fy_i0 (fn v : Int32) : Int32 := if fn = 0 then 0 else if fn = 1 then 0 else v
theorem fy_st2 (a v : Int32) : fy_st 2 a v = fp_comb 2 a v := by
  rw [fp_comb2]
  show (if v < a then v else a) = _
  by_cases c : v < a
  · rw [if_pos c, if_neg (fun z => Int32.lt_irrefl (Int32.lt_trans c z))]
  · rw [if_neg c]
    by_cases d : a < v
    · rw [if_pos d]
    · rw [if_neg d]; exact Int32.le_antisymm (Int32.not_lt.mp c) (Int32.not_lt.mp d)
theorem fy_st3 (a v : Int32) : fy_st 3 a v = fp_comb 3 a v := rfl
theorem fy_agg {fn : Int32} (hf : fp_col fn 4) (v : Int32) (vs : List Int32) : (v :: vs).foldl (fy_st fn) (fy_i0 fn v) = fp_agg fn (v :: vs) := by
  rcases fp_fn4 hf with e | e | e | e
  · subst e
    rw [fp_agg0]; rfl
  · subst e
    rw [fp_agg1]; rfl
  · subst e
    have e1 : fy_st 2 = fp_comb 2 := funext fun a => funext fun v => fy_st2 a v
    rw [e1]
    show List.foldl (fp_comb 2) (fp_comb 2 v v) vs = List.foldl (fp_comb 2) v vs
    rw [fp_comb2, if_neg (Int32.lt_irrefl)]
  · subst e
    show List.foldl (fp_comb 3) (fp_comb 3 v v) vs = List.foldl (fp_comb 3) v vs
    rw [fp_comb3, if_neg (Int32.lt_irrefl)]
theorem fy_ggS (post : SY → Prop) (J64 : Int32 → Int32 → Prop) (v : SY) {k : Nat} {q x2 x3 x4 x5 x6 x7 : Int32} (hk : k < 12) (hq : yy_q v k = q) (hf : fp_col q 4) (h : J64 (fy_st q x5 x7) (x6 + 1)) : (q = 0 → ∀ y, y = x5 + x7 → wY_giveGroup_131 post J64 (nI k) x2 x3 x4 y x6 x7 (yy_nodes v) (yy_over v) (yy_resultRows v) (yy_resultWidth v) (yy_tables v) (yy_held v) (yy_kind v) (yy_left v) (yy_right v) (yy_p v) (yy_q v) (yy_r v) (yy_widths v) (yy_used v) (yy_rows v) (yy_given v) (yy_needed v) (yy_row v) (yy_result v)) ∧ (¬ q = 0 → wY_giveGroup_131 post J64 (nI k) x2 x3 x4 x5 x6 x7 (yy_nodes v) (yy_over v) (yy_resultRows v) (yy_resultWidth v) (yy_tables v) (yy_held v) (yy_kind v) (yy_left v) (yy_right v) (yy_p v) (yy_q v) (yy_r v) (yy_widths v) (yy_used v) (yy_rows v) (yy_given v) (yy_needed v) (yy_row v) (yy_result v)) := by
  have hv := vp_in_nI (n := k) hk (by decide)
  have hq' : yy_q v (nI k).toNatClampNeg = q := by rw [fi_cl (by omega)]; exact hq
  rcases fp_fn4 hf with e | e | e | e
  · subst e
    refine br_t rfl ?_
    intro y ey
    subst ey
    refine And.intro hv (br_f (by rw [hq']; decide) (And.intro hv (br_f (by rw [hq']; decide) (And.intro hv (br_f (by rw [hq']; decide) ?_)))))
    intro z ez
    subst ez
    exact h
  · subst e
    refine br_f (by decide) (And.intro hv (br_t hq' ?_))
    intro y ey
    subst ey
    refine And.intro hv (br_f (by rw [hq']; decide) (And.intro hv (br_f (by rw [hq']; decide) ?_)))
    intro z ez
    subst ez
    exact h
  · subst e
    refine br_f (by decide) (And.intro hv (br_f (by rw [hq']; decide) (And.intro hv (br_t hq' ?_))))
    have hs : fy_st 2 x5 x7 = if x7 < x5 then x7 else x5 := rfl
    rw [hs] at h
    refine br_c (fun c => ?_) (fun c => ?_)
    · intro z ez
      subst ez
      rw [if_pos c] at h; exact h
    · rw [if_neg c] at h
      refine And.intro hv (br_f (by rw [hq']; decide) ?_)
      intro z ez
      subst ez
      exact h
  · subst e
    refine br_f (by decide) (And.intro hv (br_f (by rw [hq']; decide) (And.intro hv (br_f (by rw [hq']; decide) (And.intro hv (br_t hq' ?_))))))
    have hs : fy_st 3 x5 x7 = if x5 < x7 then x7 else x5 := rfl
    rw [hs] at h
    refine br_c (fun c => ?_) (fun c => ?_)
    · intro z ez
      subst ez
      rw [if_neg (Int32.not_lt.mpr c)] at h; exact h
    · intro z ez
      subst ez
      rw [if_pos (Int32.not_le.mp c)] at h; exact h
/-- node k reads the rows La of its left input -/
def fy_in1 (π : fp_Pl) (m k : Nat) (v : SY) (La : List fp_Row) : Prop :=
  fp_WF π m ∧ fy_P π m v ∧ k < m ∧ fp_kd π k ≠ 0 ∧ fy_RO v (fp_fa π k) (fp_wd π (fp_fa π k)) La
theorem fy_in1_fr {π : fp_Pl} {m k : Nat} {v v' : SY} {La : List fp_Row} (I : fy_in1 π m k v La) (h : fy_fr k v v') : fy_in1 π m k v' La := by
  obtain ⟨W, P, hk, h0, hA⟩ := I
  have a := (fy_ndL W P hk h0).2
  exact ⟨W, fy_P_e h.1 P, hk, h0, fy_RO_fr (fy_wd W (by omega)).2 (by omega) h hA⟩
theorem fy_gg64 {π : fp_Pl} {m k i : Nat} {v : SY} {La : List fp_Row} (post : SY → Prop) (I : fy_in1 π m k v La) (h7 : fp_kd π k = 7) (hi : i < La.length) (z0 : Int32)
    (hA : (∃ j, j < i ∧ fp_at (La.getD j []) (fp_p π k) = fp_at (La.getD i []) (fp_p π k)) → post v)
    (hB : (∀ j, j < i → ¬ fp_at (La.getD j []) (fp_p π k) = fp_at (La.getD i []) (fp_p π k)) → wpY_give post ((yy_nodes v), (yy_over v), (yy_resultRows v), (yy_resultWidth v), (yy_tables v), (yy_held v), (yy_kind v), (yy_left v), (yy_right v), (yy_p v), (yy_q v), (yy_r v), (yy_widths v), (yy_used v), (yy_rows v), (yy_given v), (yy_needed v), (upd (upd (yy_row v) 0 (fp_at (La.getD i []) (fp_p π k))) 1 ((fp_vals (fp_p π k) (fp_r π k) (fp_at (La.getD i []) (fp_p π k)) La).foldl (fy_st (fp_q π k)) z0)), (yy_result v)) (nI k)) :
    ∀ d j acc, j + d = La.length → (∀ j', j' < j → j' < i → ¬ fp_at (La.getD j' []) (fp_p π k) = fp_at (La.getD i []) (fp_p π k)) → acc = (fp_vals (fp_p π k) (fp_r π k) (fp_at (La.getD i []) (fp_p π k)) (La.take j)).foldl (fy_st (fp_q π k)) z0 → wY_giveGroup_64 post (nI k) (nI i) (nI (fp_fa π k)) (fp_at (La.getD i []) (fp_p π k)) (yy_nodes v) (yy_over v) (yy_resultRows v) (yy_resultWidth v) (yy_tables v) (yy_held v) (yy_kind v) (yy_left v) (yy_right v) (yy_p v) (yy_q v) (yy_r v) (yy_widths v) (yy_used v) (yy_rows v) (yy_given v) (yy_needed v) (yy_row v) (yy_result v) (d + 1) acc (nI j) := by
  obtain ⟨W, P, hk, h0, hR⟩ := I
  obtain ⟨k1, k2, k3, k4, k5, k6, k7⟩ := fy_nd W P hk
  obtain ⟨l1, l2⟩ := fy_ndL W P hk h0
  obtain ⟨p1, p2, p3⟩ := P.2.2.2.2.2 k hk (by omega) (by omega)
  obtain ⟨_, _, _, _, _, _, q7, _⟩ := k7
  obtain ⟨c1, c2, c3, _⟩ := q7 h7
  have hv := vp_in_nI (n := k) k1 (by decide)
  have ia := hR.2.1
  have wa := (fy_wd W (by omega : fp_fa π k < m)).2
  have c1' := c1.2
  have c3' := c3.2
  intro d
  induction d with
  | zero =>
    intro j acc hj hno hacc
    refine And.intro (vp_in_nI (by omega) (by decide)) ?_
    rw [fi_cl (by omega : fp_fa π k < 4096), hR.1]
    refine br_t (nI_le (by omega) (by omega)) ?_
    intro r1 e1 r2 e2
    subst e1
    subst e2
    rw [fp_take_all (by omega)] at hacc
    rw [hacc]
    exact hB fun j' hj' => hno j' (by omega) hj'
  | succ d ih =>
    intro j acc hj hno hacc
    have hjl : j < La.length := by omega
    have hvs := fp_vals_snoc (fp_p π k) (fp_r π k) (fp_at (La.getD i []) (fp_p π k)) (La.take j) (La.getD j [])
    rw [← fp_take_s La [] hjl] at hvs
    refine And.intro (vp_in_nI (by omega) (by decide)) ?_
    rw [fi_cl (by omega : fp_fa π k < 4096), hR.1]
    refine br_f (nI_ge (by omega) (by omega)) ?_
    refine And.intro hv ?_
    rw [fi_cl (by omega : k < 4096), p1, c1.1]
    refine fy_at _ _ (by omega) (by omega) (by omega) ?_
    rw [fy_rat hR hjl c1', ← c1.1]
    refine br_c (fun e => ?_) (fun e => ?_)
    · by_cases hij : i ≤ j
      · refine br_t (nI_le hij (by omega)) (And.intro hv ?_)
        rw [p3, c3.1]
        refine fy_at _ _ (by omega) (by omega) (by omega) (And.intro hv ?_)
        rw [fy_rat hR hjl c3', p2]
        refine fy_ggS post _ v k1 p2 c2 ?_
        rw [nI_1]
        refine ih (j + 1) _ (by omega) (fun j' h1 h2 => ?_) ?_
        · by_cases z : j' = j
          · omega
          · exact hno j' (by omega) h2
        · have e' : fp_at (La.getD j []) (fp_p π k) = fp_at (La.getD i []) (fp_p π k) := e
          rw [hvs, if_pos e', List.foldl_append, ← hacc]
          rfl
      · refine br_f (nI_ge (by omega) (by omega)) ?_
        exact hA ⟨j, by omega, e⟩
    · intro y ey
      rw [nI_1] at ey
      subst ey
      refine ih (j + 1) _ (by omega) (fun j' h1 h2 => ?_) ?_
      · by_cases z : j' = j
        · subst z; exact e
        · exact hno j' (by omega) h2
      · have e' : ¬ fp_at (La.getD j []) (fp_p π k) = fp_at (La.getD i []) (fp_p π k) := e
        rw [hvs, if_neg e', List.append_nil]; exact hacc
theorem fy_giveGroup {π : fp_Pl} {m k i : Nat} {v : SY} {La E : List fp_Row} (post : SY → Prop) (I : fy_in1 π m k v La) (h7 : fp_kd π k = 7) (hi : i < La.length) (hG : fy_GV v k 2 E)
    (h : ∀ v', fy_fr k v v' → fy_GV v' k 2 (E ++ (if fp_at (La.getD i []) (fp_p π k) ∈ (La.take i).map (fun x => fp_at x (fp_p π k)) then [] else [[fp_at (La.getD i []) (fp_p π k), fp_agg (fp_q π k) (fp_vals (fp_p π k) (fp_r π k) (fp_at (La.getD i []) (fp_p π k)) La)]])) → post v') : wpY_giveGroup post v (nI k) (nI i) := by
  obtain ⟨W, P, hk, h0, hR⟩ := id I
  obtain ⟨k1, k2, k3, k4, k5, k6, k7⟩ := fy_nd W P hk
  obtain ⟨l1, l2⟩ := fy_ndL W P hk h0
  obtain ⟨p1, p2, p3⟩ := P.2.2.2.2.2 k hk (by omega) (by omega)
  obtain ⟨_, _, _, _, _, _, q7, _⟩ := k7
  obtain ⟨c1, c2, c3, _⟩ := q7 h7
  have hv := vp_in_nI (n := k) k1 (by decide)
  have ia := hR.2.1
  have wa := (fy_wd W (by omega : fp_fa π k < m)).2
  have c1' := c1.2
  have c3' := c3.2
  have hmem : (fp_at (La.getD i []) (fp_p π k) ∈ (La.take i).map (fun x => fp_at x (fp_p π k))) ↔ ∃ j, j < i ∧ fp_at (La.getD j []) (fp_p π k) = fp_at (La.getD i []) (fp_p π k) := by
    rw [List.mem_map]
    constructor
    · rintro ⟨x, hx, e⟩
      obtain ⟨j, hj, ej⟩ := List.mem_take_iff_getElem.mp hx
      refine ⟨j, by omega, ?_⟩
      rw [fp_gd La [] (by omega), ej]; exact e
    · rintro ⟨j, hj, e⟩
      refine ⟨La.getD j [], ?_, e⟩
      rw [fp_gd La [] (by omega), List.mem_take_iff_getElem]
      exact ⟨j, by omega, rfl⟩
  have hvals : (∀ j, j < i → ¬ fp_at (La.getD j []) (fp_p π k) = fp_at (La.getD i []) (fp_p π k)) → ∃ vs, fp_vals (fp_p π k) (fp_r π k) (fp_at (La.getD i []) (fp_p π k)) La = fp_at (La.getD i []) (fp_r π k) :: vs := by
    intro hno
    have e1 : La = La.take i ++ La.getD i [] :: La.drop (i + 1) := by
      rw [fp_gd La [] hi, ← List.drop_eq_getElem_cons hi, List.take_append_drop]
    have e2 : fp_vals (fp_p π k) (fp_r π k) (fp_at (La.getD i []) (fp_p π k)) La = fp_vals (fp_p π k) (fp_r π k) (fp_at (La.getD i []) (fp_p π k)) (La.take i) ++ fp_vals (fp_p π k) (fp_r π k) (fp_at (La.getD i []) (fp_p π k)) (La.getD i [] :: La.drop (i + 1)) := by
      unfold fp_vals
      rw [← List.map_append, ← List.filter_append, ← e1]
    rw [e2, fp_vals_nil (fun z => ?_), List.nil_append]
    · unfold fp_vals
      rw [List.filter_cons_of_pos (by simp), List.map_cons]
      exact ⟨_, rfl⟩
    · obtain ⟨j, hj, e⟩ := hmem.mp z
      exact hno j hj e
  have main : ∀ z0, z0 = fy_i0 (fp_q π k) (fp_at (La.getD i []) (fp_r π k)) → wY_giveGroup_64 post (nI k) (nI i) (nI (fp_fa π k)) (fp_at (La.getD i []) (fp_p π k)) (yy_nodes v) (yy_over v) (yy_resultRows v) (yy_resultWidth v) (yy_tables v) (yy_held v) (yy_kind v) (yy_left v) (yy_right v) (yy_p v) (yy_q v) (yy_r v) (yy_widths v) (yy_used v) (yy_rows v) (yy_given v) (yy_needed v) (yy_row v) (yy_result v) (La.length + 1) z0 (nI 0) := by
    intro z0 hz0
    refine fy_gg64 post I h7 hi z0 (fun hex => ?_) (fun hno => ?_) La.length 0 z0 (by omega) (fun j' h1 => by omega) rfl
    · have := h v (fy_fr_rfl k v)
      rw [if_pos (hmem.mpr hex), List.append_nil] at this
      exact this hG
    · obtain ⟨vs, evs⟩ := hvals hno
      have hG' : fy_GV ((yy_nodes v), (yy_over v), (yy_resultRows v), (yy_resultWidth v), (yy_tables v), (yy_held v), (yy_kind v), (yy_left v), (yy_right v), (yy_p v), (yy_q v), (yy_r v), (yy_widths v), (yy_used v), (yy_rows v), (yy_given v), (yy_needed v), (upd (upd (yy_row v) 0 (fp_at (La.getD i []) (fp_p π k))) 1 ((fp_vals (fp_p π k) (fp_r π k) (fp_at (La.getD i []) (fp_p π k)) La).foldl (fy_st (fp_q π k)) z0)), (yy_result v)) k 2 E := hG
      refine fy_give _ post (x := [fp_at (La.getD i []) (fp_p π k), fp_agg (fp_q π k) (fp_vals (fp_p π k) (fp_r π k) (fp_at (La.getD i []) (fp_p π k)) La)]) k1 (by decide) hG' rfl ?_ ?_
      · intro j hj
        show upd (upd (yy_row v) 0 _) 1 _ j = _
        match j, hj with
        | 0, _ => rw [fi_un (by decide), fi_us]; rfl
        | 1, _ =>
          rw [fi_us, hz0, evs, fy_agg c2]; rfl
      · intro v' f1 f2 f3
        have := h v' ⟨f1.1, f1.2.1, f1.2.2⟩
        rw [if_neg (fun z => by
          obtain ⟨j, hj, e⟩ := hmem.mp z
          exact hno j hj e)] at this
        exact this f3
  show wpY_giveGroup post ((yy_nodes v), (yy_over v), (yy_resultRows v), (yy_resultWidth v), (yy_tables v), (yy_held v), (yy_kind v), (yy_left v), (yy_right v), (yy_p v), (yy_q v), (yy_r v), (yy_widths v), (yy_used v), (yy_rows v), (yy_given v), (yy_needed v), (yy_row v), (yy_result v)) (nI k) (nI i)
  unfold wpY_giveGroup
  dsimp only
  rw [fi_cl (by omega : k < 4096), l1, p1, p2, p3]
  refine ⟨hv, ?_⟩
  intro x3 e3
  subst e3
  refine ⟨hv, ?_⟩
  rw [c1.1]
  refine fy_at _ _ (by omega) (by omega) (by omega) ⟨hv, ?_⟩
  have hkey : yy_rows v (6 * (20 * fp_fa π k + i) + (fp_p π k).toNatClampNeg) = fp_at (La.getD i []) (fp_p π k) := fy_rat hR hi c1'
  have hq' : yy_q v (nI k).toNatClampNeg = fp_q π k := by rw [fi_cl (by omega)]; exact p2
  show (fp_q π k = 1 → wY_giveGroup_47 post (nI k) (nI i) (nI (fp_fa π k)) (yy_rows v (6 * (20 * fp_fa π k + i) + (fp_p π k).toNatClampNeg)) 0 (yy_nodes v) (yy_over v) (yy_resultRows v) (yy_resultWidth v) (yy_tables v) (yy_held v) (yy_kind v) (yy_left v) (yy_right v) (yy_p v) (yy_q v) (yy_r v) (yy_widths v) (yy_used v) (yy_rows v) (yy_given v) (yy_needed v) (yy_row v) (yy_result v)) ∧ (¬ fp_q π k = 1 → _)
  rw [hkey]
  refine br_c (fun e => ?_) (fun e => ?_)
  · refine And.intro hv (br_f (by rw [hq', e]; decide) ⟨La.length + 1, ?_⟩)
    exact main 0 (by unfold fy_i0; rw [e]; rfl)
  · refine ⟨hv, ?_⟩
    rw [c3.1]
    refine fy_at _ _ (by omega) (by omega) (by omega) ?_
    rw [fy_rat hR hi c3']
    refine And.intro hv ?_
    refine br_c (fun e0 => ?_) (fun e0 => ?_)
    · exact ⟨La.length + 1, main 0 (by rw [hq'] at e0; unfold fy_i0; rw [e0]; rfl)⟩
    · refine ⟨La.length + 1, main _ ?_⟩
      rw [hq'] at e0
      unfold fy_i0
      rw [if_neg e0, if_neg e]; rfl
end
section
/-! ## Y: what a node gives for a row -/
theorem fy_pass63 (v : SY) (post : SY → Prop) (x1 x2 x3 x4 : Int32) (h2 : ¬ x4 = 2) (h3 : ¬ x4 = 3) (h5 : ¬ x4 = 5) (h6 : ¬ x4 = 6) (h7 : ¬ x4 = 7) (h8 : ¬ x4 = 8) (h9 : ¬ x4 = 9) (h : post v) : wY_giveFor_63 post x1 x2 x3 x4 (yy_nodes v) (yy_over v) (yy_resultRows v) (yy_resultWidth v) (yy_tables v) (yy_held v) (yy_kind v) (yy_left v) (yy_right v) (yy_p v) (yy_q v) (yy_r v) (yy_widths v) (yy_used v) (yy_rows v) (yy_given v) (yy_needed v) (yy_row v) (yy_result v) :=
  br_f h2 (br_f h3 (br_f h5 (br_f h6 (br_f h7 (br_f h8 (br_f h9 h))))))
theorem fy_pass120 (v : SY) (post : SY → Prop) (x1 x2 x3 x4 : Int32) (h3 : ¬ x4 = 3) (h5 : ¬ x4 = 5) (h6 : ¬ x4 = 6) (h7 : ¬ x4 = 7) (h8 : ¬ x4 = 8) (h9 : ¬ x4 = 9) (h : post v) : wY_giveFor_120 post x1 x2 x3 x4 (yy_nodes v) (yy_over v) (yy_resultRows v) (yy_resultWidth v) (yy_tables v) (yy_held v) (yy_kind v) (yy_left v) (yy_right v) (yy_p v) (yy_q v) (yy_r v) (yy_widths v) (yy_used v) (yy_rows v) (yy_given v) (yy_needed v) (yy_row v) (yy_result v) :=
  br_f h3 (br_f h5 (br_f h6 (br_f h7 (br_f h8 (br_f h9 h)))))
theorem fy_pass211 (v : SY) (post : SY → Prop) (x1 x2 x3 x4 : Int32) (h5 : ¬ x4 = 5) (h6 : ¬ x4 = 6) (h7 : ¬ x4 = 7) (h8 : ¬ x4 = 8) (h9 : ¬ x4 = 9) (h : post v) : wY_giveFor_211 post x1 x2 x3 x4 (yy_nodes v) (yy_over v) (yy_resultRows v) (yy_resultWidth v) (yy_tables v) (yy_held v) (yy_kind v) (yy_left v) (yy_right v) (yy_p v) (yy_q v) (yy_r v) (yy_widths v) (yy_used v) (yy_rows v) (yy_given v) (yy_needed v) (yy_row v) (yy_result v) :=
  br_f h5 (br_f h6 (br_f h7 (br_f h8 (br_f h9 h))))
theorem fy_pass226 (v : SY) (post : SY → Prop) (x1 x2 x3 x4 : Int32) (h6 : ¬ x4 = 6) (h7 : ¬ x4 = 7) (h8 : ¬ x4 = 8) (h9 : ¬ x4 = 9) (h : post v) : wY_giveFor_226 post x1 x2 x3 x4 (yy_nodes v) (yy_over v) (yy_resultRows v) (yy_resultWidth v) (yy_tables v) (yy_held v) (yy_kind v) (yy_left v) (yy_right v) (yy_p v) (yy_q v) (yy_r v) (yy_widths v) (yy_used v) (yy_rows v) (yy_given v) (yy_needed v) (yy_row v) (yy_result v) :=
  br_f h6 (br_f h7 (br_f h8 (br_f h9 h)))
theorem fy_pass247 (v : SY) (post : SY → Prop) (x1 x2 x3 x4 : Int32) (h7 : ¬ x4 = 7) (h8 : ¬ x4 = 8) (h9 : ¬ x4 = 9) (h : post v) : wY_giveFor_247 post x1 x2 x3 x4 (yy_nodes v) (yy_over v) (yy_resultRows v) (yy_resultWidth v) (yy_tables v) (yy_held v) (yy_kind v) (yy_left v) (yy_right v) (yy_p v) (yy_q v) (yy_r v) (yy_widths v) (yy_used v) (yy_rows v) (yy_given v) (yy_needed v) (yy_row v) (yy_result v) :=
  br_f h7 (br_f h8 (br_f h9 h))
/-- what comes behind the laying of the row -/
def fy_G1 (post : SY → Prop) (k i : Nat) (a x4 : Int32) (u : SY) : Prop :=
  (x4 = 1 → vp_in (nI k) 12 ∧ wpY_at (fun r => vp_in (nI k) 12 ∧ (vp_in (nI k) 12 ∧ wpY_holds (fun r => (r = 0 → wY_giveFor_63 post (nI k) (nI i) a x4 (yy_nodes u) (yy_over u) (yy_resultRows u) (yy_resultWidth u) (yy_tables u) (yy_held u) (yy_kind u) (yy_left u) (yy_right u) (yy_p u) (yy_q u) (yy_r u) (yy_widths u) (yy_used u) (yy_rows u) (yy_given u) (yy_needed u) (yy_row u) (yy_result u)) ∧ (¬ r = 0 → wpY_give (fun u => wY_giveFor_63 post (nI k) (nI i) a x4 (yy_nodes u) (yy_over u) (yy_resultRows u) (yy_resultWidth u) (yy_tables u) (yy_held u) (yy_kind u) (yy_left u) (yy_right u) (yy_p u) (yy_q u) (yy_r u) (yy_widths u) (yy_used u) (yy_rows u) (yy_given u) (yy_needed u) (yy_row u) (yy_result u)) u (nI k))) r (yy_q u k) (yy_r u k))) u a (nI i) (yy_p u k)) ∧
  (¬ x4 = 1 → wY_giveFor_63 post (nI k) (nI i) a x4 (yy_nodes u) (yy_over u) (yy_resultRows u) (yy_resultWidth u) (yy_tables u) (yy_held u) (yy_kind u) (yy_left u) (yy_right u) (yy_p u) (yy_q u) (yy_r u) (yy_widths u) (yy_used u) (yy_rows u) (yy_given u) (yy_needed u) (yy_row u) (yy_result u))
theorem fy_gf0 {π : fp_Pl} {m k i : Nat} {v : SY} {La : List fp_Row} (post : SY → Prop) (I : fy_in1 π m k v La) (hi : i < La.length)
    (h : ∀ v', fy_rw v v' → (∀ j, j < fp_wd π (fp_fa π k) → yy_row v' j = (La.getD i []).getD j 0) → fy_G1 post k i (nI (fp_fa π k)) (nI (fp_kd π k)) v') : wpY_giveFor post v (nI k) (nI i) := by
  obtain ⟨W, P, hk, h0, hR⟩ := I
  obtain ⟨k1, k2, k3, k4, k5, k6, k7⟩ := fy_nd W P hk
  obtain ⟨l1, l2⟩ := fy_ndL W P hk h0
  obtain ⟨_, _, _, wla, _⟩ := fy_nd W P (by omega : fp_fa π k < m)
  have wa := (fy_wd W (by omega : fp_fa π k < m)).2
  have hv := vp_in_nI (n := k) k1 (by decide)
  show wpY_giveFor post ((yy_nodes v), (yy_over v), (yy_resultRows v), (yy_resultWidth v), (yy_tables v), (yy_held v), (yy_kind v), (yy_left v), (yy_right v), (yy_p v), (yy_q v), (yy_r v), (yy_widths v), (yy_used v), (yy_rows v), (yy_given v), (yy_needed v), (yy_row v), (yy_result v)) (nI k) (nI i)
  unfold wpY_giveFor
  dsimp only
  rw [fi_cl (by omega : k < 4096), l1, k2]
  refine ⟨hv, ?_⟩
  intro x3 e3
  subst e3
  refine ⟨hv, ?_⟩
  intro x4 e4
  subst e4
  refine fy_lay v _ (to := 0) (by omega) hi wla (by omega) hR fun v1 f1 f2 f3 => ?_
  exact h v1 f1 fun j hj => by have := f3 j hj; rw [Nat.zero_add] at this; exact this
section
variable {π : fp_Pl} {m k i : Nat} {v : SY} {La E : List fp_Row} (post : SY → Prop) (f : Nat → List fp_Row)
theorem fy_gf1 (I : fy_in1 π m k v La) (hi : i < La.length) (hd : fp_kd π k = 1) (hG : fy_GV v k (fp_wd π k) E)
    (h : ∀ v', fy_fr k v v' → fy_GV v' k (fp_wd π k) (E ++ fp_phi π f k (La.getD i [])) → post v') : wpY_giveFor post v (nI k) (nI i) := by
  refine fy_gf0 post I hi fun v1 f1 f2 => ?_
  have I1 := fy_in1_fr I (fy_fr_rw k f1)
  have hG1 := fy_GV_rw f1 hG
  obtain ⟨W, P, hk, h0, hR⟩ := id I1
  obtain ⟨k1, k2, k3, k4, k5, k6, k7⟩ := fy_nd W P hk
  obtain ⟨l1, l2⟩ := fy_ndL W P hk h0
  obtain ⟨p1, p2, p3⟩ := P.2.2.2.2.2 k hk (by omega) (by omega)
  obtain ⟨_, q1, _⟩ := k7
  obtain ⟨c1, c2⟩ := q1 hd
  have c1' := c1.2
  have hv := vp_in_nI (n := k) k1 (by decide)
  have ia := hR.2.1
  have wa := (fy_wd W (by omega : fp_fa π k < m)).2
  have hphi : fp_phi π f k (La.getD i []) = if fp_cmp (fp_at (La.getD i []) (fp_p π k)) (fp_q π k) (fp_r π k) then [La.getD i []] else [] := by
    unfold fp_phi; rw [if_pos hd]
  rw [hd]
  unfold fy_G1
  refine br_t rfl ⟨hv, ?_⟩
  rw [p1, p2, p3, c1.1]
  refine fy_at _ _ (by omega) (by omega) (by omega) ⟨hv, hv, ?_⟩
  rw [fy_rat hR hi c1']
  refine fy_holds _ _ _ _ ?_
  rw [hphi] at h
  unfold fp_at at h
  cases hc : fp_cmp (List.getD (La.getD i []) (fp_p π k).toNatClampNeg 0) (fp_q π k) (fp_r π k) with
  | false =>
    rw [hc] at h
    refine br_t rfl (fy_pass63 v1 post _ _ _ _ (by decide) (by decide) (by decide) (by decide) (by decide) (by decide) (by decide) ?_)
    refine h v1 (fy_fr_rw k f1) ?_
    rw [if_neg (by decide), List.append_nil]; exact hG1
  | true =>
    rw [hc] at h
    refine br_f (by decide) ?_
    refine fy_give v1 _ (x := La.getD i []) k1 k6 hG1 (by rw [(hR.2.2 i hi).1, c2]) (fun j hj => f2 j (by omega)) fun v2 g1 g2 g3 => ?_
    refine fy_pass63 v2 post _ _ _ _ (by decide) (by decide) (by decide) (by decide) (by decide) (by decide) (by decide) ?_
    exact h v2 (fy_fr_trans (fy_fr_rw k f1) g1) g3
theorem fy_gf2 (I : fy_in1 π m k v La) (hi : i < La.length) (hd : fp_kd π k = 2) (hG : fy_GV v k (fp_wd π k) E)
    (h : ∀ v', fy_fr k v v' → fy_GV v' k (fp_wd π k) (E ++ fp_phi π f k (La.getD i [])) → post v') : wpY_giveFor post v (nI k) (nI i) := by
  refine fy_gf0 post I hi fun v1 f1 f2 => ?_
  have I1 := fy_in1_fr I (fy_fr_rw k f1)
  have hG1 := fy_GV_rw f1 hG
  obtain ⟨W, P, hk, h0, hR⟩ := id I1
  obtain ⟨k1, k2, k3, k4, k5, k6, k7⟩ := fy_nd W P hk
  obtain ⟨l1, l2⟩ := fy_ndL W P hk h0
  obtain ⟨p1, p2, p3⟩ := P.2.2.2.2.2 k hk (by omega) (by omega)
  obtain ⟨_, _, q2, _⟩ := k7
  obtain ⟨c0, c1, c2, c3⟩ := q2 hd
  have c1' := c1.2
  have c2' := c2.2
  have hv := vp_in_nI (n := k) k1 (by decide)
  have ia := hR.2.1
  have wa := (fy_wd W (by omega : fp_fa π k < m)).2
  have hphi : fp_phi π f k (La.getD i []) = [La.getD i [] ++ [fp_calc (fp_p π k) (fp_at (La.getD i []) (fp_q π k)) (fp_at (La.getD i []) (fp_r π k))]] := by
    unfold fp_phi; rw [if_neg (by omega), if_pos hd]
  rw [hd]
  refine br_f (by decide) (br_t rfl ?_)
  refine And.intro hv (And.intro hv ?_)
  rw [fi_cl (by omega : k < 4096), p1, p2, p3, k4, c3, c1.1]
  refine fy_at _ _ (by omega) (by omega) (by omega) (And.intro hv (And.intro hv ?_))
  rw [c2.1]
  refine fy_at _ _ (by omega) (by omega) (by omega) ?_
  rw [fy_rat hR hi c1', fy_rat hR hi c2', nI_pred, fi_cl (by omega)]
  refine fy_worked _ _ _ _ (And.intro (vp_in_nI (by omega) (by decide)) ?_)
  intro row2 e2
  subst e2
  have hG2 : fy_GV ((yy_nodes v1), (yy_over v1), (yy_resultRows v1), (yy_resultWidth v1), (yy_tables v1), (yy_held v1), (yy_kind v1), (yy_left v1), (yy_right v1), (yy_p v1), (yy_q v1), (yy_r v1), (yy_widths v1), (yy_used v1), (yy_rows v1), (yy_given v1), (yy_needed v1), (upd (yy_row v1) (fp_wd π (fp_fa π k)) (fp_calc (fp_p π k) (fp_at (La.getD i []) (fp_q π k)) (fp_at (La.getD i []) (fp_r π k)))), (yy_result v1)) k (fp_wd π k) E := hG1
  refine fy_give _ _ (x := La.getD i [] ++ [fp_calc (fp_p π k) (fp_at (La.getD i []) (fp_q π k)) (fp_at (La.getD i []) (fp_r π k))]) k1 k6 hG2 (by rw [List.length_append, (hR.2.2 i hi).1, c3]; rfl) ?_ fun v2 g1 g2 g3 => ?_
  · intro j hj
    show upd (yy_row v1) (fp_wd π (fp_fa π k)) _ j = _
    by_cases e : j = fp_wd π (fp_fa π k)
    · have e1 := (hR.2.2 i hi).1
      rw [e, fi_us, ← e1, fp_gd_last]; rfl
    · have e1 := (hR.2.2 i hi).1
      rw [fi_un e, fp_gd_app _ _ _ (by omega)]
      exact f2 j (by omega)
  · refine fy_pass120 v2 post _ _ _ _ (by decide) (by decide) (by decide) (by decide) (by decide) (by decide) ?_
    rw [hphi] at h
    exact h v2 (fy_fr_trans (fy_fr_rw k f1) ⟨g1.1, g1.2.1, g1.2.2⟩) g3
theorem fy_gf178 (I : fy_in1 π m k v La) (hi : i < La.length) (hd : fp_kd π k = 3) (hG : fy_GV v k (fp_wd π k) E) (c : Nat) (hc : c ≤ 2) (x : fp_Row) (hx : x.length = c) (hr : ∀ j, j < c → yy_row v j = x.getD j 0) (hw : fp_wd π k = c + (if fp_r π k < 0 then 0 else 1))
    (h : ∀ v', fy_fr k v v' → fy_GV v' k (fp_wd π k) (E ++ [x ++ (if fp_r π k < 0 then [] else [fp_at (La.getD i []) (fp_r π k)])]) → post v') : wY_giveFor_178 post (nI k) (nI i) (nI (fp_fa π k)) 3 (nI c) (yy_nodes v) (yy_over v) (yy_resultRows v) (yy_resultWidth v) (yy_tables v) (yy_held v) (yy_kind v) (yy_left v) (yy_right v) (yy_p v) (yy_q v) (yy_r v) (yy_widths v) (yy_used v) (yy_rows v) (yy_given v) (yy_needed v) (yy_row v) (yy_result v) := by
  obtain ⟨W, P, hk, h0, hR⟩ := id I
  obtain ⟨k1, k2, k3, k4, k5, k6, k7⟩ := fy_nd W P hk
  obtain ⟨l1, l2⟩ := fy_ndL W P hk h0
  obtain ⟨p1, p2, p3⟩ := P.2.2.2.2.2 k hk (by omega) (by omega)
  obtain ⟨_, _, _, q3, _⟩ := k7
  obtain ⟨c1, c2, c3, c4⟩ := q3 hd
  have hv := vp_in_nI (n := k) k1 (by decide)
  have ia := hR.2.1
  have wa := (fy_wd W (by omega : fp_fa π k < m)).2
  refine And.intro hv ?_
  rw [fi_cl (by omega : k < 4096), p3]
  refine br_c (fun e => ?_) (fun e => ?_)
  · rw [if_pos e] at h hw
    rw [List.append_nil] at h
    refine fy_give v _ (x := x) k1 k6 hG (by omega) (fun j hj => hr j (by omega)) fun v2 g1 g2 g3 => ?_
    exact fy_pass211 v2 post _ _ _ _ (by decide) (by decide) (by decide) (by decide) (by decide) (h v2 g1 g3)
  · rw [if_neg e] at h hw
    refine And.intro hv ?_
    have c3' := (c3 e).2
    rw [(c3 e).1]
    refine fy_at _ _ (by omega) (by omega) (by omega) ?_
    rw [fy_rat hR hi c3', fi_cl (by omega)]
    refine And.intro (vp_in_nI (by omega) (by decide)) ?_
    intro row2 e2
    subst e2
    have hG2 : fy_GV ((yy_nodes v), (yy_over v), (yy_resultRows v), (yy_resultWidth v), (yy_tables v), (yy_held v), (yy_kind v), (yy_left v), (yy_right v), (yy_p v), (yy_q v), (yy_r v), (yy_widths v), (yy_used v), (yy_rows v), (yy_given v), (yy_needed v), (upd (yy_row v) c (List.getD (La.getD i []) (fp_r π k).toNatClampNeg 0)), (yy_result v)) k (fp_wd π k) E := hG
    refine fy_give _ _ (x := x ++ [fp_at (La.getD i []) (fp_r π k)]) k1 k6 hG2 (by rw [List.length_append, hw, hx]; rfl) ?_ fun v2 g1 g2 g3 => ?_
    · intro j hj
      show upd (yy_row v) c _ j = _
      by_cases z : j = c
      · rw [z, fi_us, ← hx, fp_gd_last]; rfl
      · rw [fi_un z, fp_gd_app _ _ _ (by omega)]
        exact hr j (by omega)
    · exact fy_pass211 v2 post _ _ _ _ (by decide) (by decide) (by decide) (by decide) (by decide) (h v2 ⟨g1.1, g1.2.1, g1.2.2⟩ g3)
theorem fy_gf3 (I : fy_in1 π m k v La) (hi : i < La.length) (hd : fp_kd π k = 3) (hG : fy_GV v k (fp_wd π k) E)
    (h : ∀ v', fy_fr k v v' → fy_GV v' k (fp_wd π k) (E ++ fp_phi π f k (La.getD i [])) → post v') : wpY_giveFor post v (nI k) (nI i) := by
  refine fy_gf0 post I hi fun v1 f1 f2 => ?_
  have I1 := fy_in1_fr I (fy_fr_rw k f1)
  have hG1 := fy_GV_rw f1 hG
  obtain ⟨W, P, hk, h0, hR⟩ := id I1
  obtain ⟨k1, k2, k3, k4, k5, k6, k7⟩ := fy_nd W P hk
  obtain ⟨l1, l2⟩ := fy_ndL W P hk h0
  obtain ⟨p1, p2, p3⟩ := P.2.2.2.2.2 k hk (by omega) (by omega)
  obtain ⟨_, _, _, q3, _⟩ := k7
  obtain ⟨c1, c2, c3, c4⟩ := q3 hd
  have c1' := c1.2
  have hv := vp_in_nI (n := k) k1 (by decide)
  have ia := hR.2.1
  have wa := (fy_wd W (by omega : fp_fa π k < m)).2
  have hphi : fp_phi π f k (La.getD i []) = [fp_pick π k (La.getD i [])] := by
    unfold fp_phi; rw [if_neg (by omega), if_neg (by omega), if_pos hd]
  rw [hphi] at h
  unfold fp_pick at h
  rw [hd]
  refine br_f (by decide) (br_f (by decide) (br_t rfl ?_))
  refine And.intro hv ?_
  rw [fi_cl (by omega : k < 4096), p1, p2, c1.1]
  refine fy_at _ _ (by omega) (by omega) (by omega) ?_
  rw [fy_rat hR hi c1']
  intro row2 e2
  subst e2
  refine And.intro hv ?_
  refine br_c (fun e => ?_) (fun e => ?_)
  · rw [if_pos e] at h c4
    have I2 : fy_in1 π m k ((yy_nodes v1), (yy_over v1), (yy_resultRows v1), (yy_resultWidth v1), (yy_tables v1), (yy_held v1), (yy_kind v1), (yy_left v1), (yy_right v1), (yy_p v1), (yy_q v1), (yy_r v1), (yy_widths v1), (yy_used v1), (yy_rows v1), (yy_given v1), (yy_needed v1), (upd (yy_row v1) 0 (List.getD (La.getD i []) (fp_p π k).toNatClampNeg 0)), (yy_result v1)) La := I1
    have hG2 : fy_GV ((yy_nodes v1), (yy_over v1), (yy_resultRows v1), (yy_resultWidth v1), (yy_tables v1), (yy_held v1), (yy_kind v1), (yy_left v1), (yy_right v1), (yy_p v1), (yy_q v1), (yy_r v1), (yy_widths v1), (yy_used v1), (yy_rows v1), (yy_given v1), (yy_needed v1), (upd (yy_row v1) 0 (List.getD (La.getD i []) (fp_p π k).toNatClampNeg 0)), (yy_result v1)) k (fp_wd π k) E := hG1
    refine fy_gf178 post I2 hi hd hG2 1 (by decide) [fp_at (La.getD i []) (fp_p π k)] rfl ?_ (by omega) fun v2 g1 g3 => h v2 (fy_fr_trans (fy_fr_rw k f1) ⟨g1.1, g1.2.1, g1.2.2⟩) g3
    intro j hj
    have : j = 0 := by omega
    subst this
    show upd (yy_row v1) 0 _ 0 = _
    rw [fi_us]; rfl
  · rw [if_neg e] at h c4
    refine And.intro hv ?_
    have c2' := (c2 e).2
    rw [(c2 e).1]
    refine fy_at _ _ (by omega) (by omega) (by omega) ?_
    intro row3 e3
    intro x5 e5
    subst e5
    have e3' : row3 = upd (upd (yy_row v1) 0 (List.getD (La.getD i []) (fp_p π k).toNatClampNeg 0)) 1 (List.getD (La.getD i []) (fp_q π k).toNatClampNeg 0) := by
      rw [e3]
      show upd _ 1 (yy_rows v1 _) = _
      rw [fy_rat hR hi c2']
    subst e3'
    have I2 : fy_in1 π m k ((yy_nodes v1), (yy_over v1), (yy_resultRows v1), (yy_resultWidth v1), (yy_tables v1), (yy_held v1), (yy_kind v1), (yy_left v1), (yy_right v1), (yy_p v1), (yy_q v1), (yy_r v1), (yy_widths v1), (yy_used v1), (yy_rows v1), (yy_given v1), (yy_needed v1), (upd (upd (yy_row v1) 0 (List.getD (La.getD i []) (fp_p π k).toNatClampNeg 0)) 1 (List.getD (La.getD i []) (fp_q π k).toNatClampNeg 0)), (yy_result v1)) La := I1
    have hG2 : fy_GV ((yy_nodes v1), (yy_over v1), (yy_resultRows v1), (yy_resultWidth v1), (yy_tables v1), (yy_held v1), (yy_kind v1), (yy_left v1), (yy_right v1), (yy_p v1), (yy_q v1), (yy_r v1), (yy_widths v1), (yy_used v1), (yy_rows v1), (yy_given v1), (yy_needed v1), (upd (upd (yy_row v1) 0 (List.getD (La.getD i []) (fp_p π k).toNatClampNeg 0)) 1 (List.getD (La.getD i []) (fp_q π k).toNatClampNeg 0)), (yy_result v1)) k (fp_wd π k) E := hG1
    refine fy_gf178 post I2 hi hd hG2 2 (by decide) [fp_at (La.getD i []) (fp_p π k), fp_at (La.getD i []) (fp_q π k)] rfl ?_ (by omega) fun v2 g1 g3 => h v2 (fy_fr_trans (fy_fr_rw k f1) ⟨g1.1, g1.2.1, g1.2.2⟩) g3
    intro j hj
    show upd (upd (yy_row v1) 0 _) 1 _ j = _
    match j, hj with
    | 0, _ => rw [fi_un (by decide), fi_us]; rfl
    | 1, _ => rw [fi_us]; rfl
theorem fy_gf242 (hk : k < 12) (hw6 : fp_wd π k ≤ 6) {x4 : Int32} (h7 : ¬ x4 = 7) (h8 : ¬ x4 = 8) (h9 : ¬ x4 = 9) {x : fp_Row} {a : Int32} (hG : fy_GV v k (fp_wd π k) E) (hx : x.length = fp_wd π k) (hr : ∀ j, j < fp_wd π k → yy_row v j = x.getD j 0) (h : ∀ v', fy_fr k v v' → fy_GV v' k (fp_wd π k) (E ++ [x]) → post v') : wY_giveFor_242 post (nI k) (nI i) a x4 (yy_nodes v) (yy_over v) (yy_resultRows v) (yy_resultWidth v) (yy_tables v) (yy_held v) (yy_kind v) (yy_left v) (yy_right v) (yy_p v) (yy_q v) (yy_r v) (yy_widths v) (yy_used v) (yy_rows v) (yy_given v) (yy_needed v) (yy_row v) (yy_result v) :=
  fy_give v _ hk hw6 hG hx hr fun v2 g1 _ g3 => fy_pass247 v2 post _ _ _ _ h7 h8 h9 (h v2 g1 g3)
end
end
section
section
variable {π : fp_Pl} {m k i : Nat} {v : SY} {La Lb E : List fp_Row} (post : SY → Prop) (f : Nat → List fp_Row)
theorem fy_in21 (h2 : fp_two π k) (I : fy_in2 π m k v La Lb) : fy_in1 π m k v La := by
  obtain ⟨W, P, hk, hA, hB⟩ := I
  exact ⟨W, P, hk, by unfold fp_two at h2; omega, hA⟩
theorem fy_gf5 (I : fy_in2 π m k v La Lb) (hf : f (fp_sb π k) = Lb) (hi : i < La.length) (hd : fp_kd π k = 5) (hG : fy_GV v k (fp_wd π k) E)
    (h : ∀ v', fy_fr k v v' → fy_GV v' k (fp_wd π k) (E ++ fp_phi π f k (La.getD i [])) → post v') : wpY_giveFor post v (nI k) (nI i) := by
  have htwo : fp_two π k := Or.inr (Or.inl hd)
  refine fy_gf0 post (fy_in21 htwo I) hi fun v1 f1 f2 => ?_
  have I1 := fy_in2_fr htwo I (fy_fr_rw k f1)
  have hG1 := fy_GV_rw f1 hG
  obtain ⟨W, P, hk, hR, hRB⟩ := id I1
  obtain ⟨k1, k2, k3, k4, k5, k6, k7⟩ := fy_nd W P hk
  obtain ⟨_, _, _, _, _, q5, _⟩ := k7
  obtain ⟨c1, c2, c3⟩ := q5 (Or.inl hd)
  have hphi : fp_phi π f k (La.getD i []) = if Lb.any (fp_mt π k (La.getD i [])) then [La.getD i []] else [] := by
    unfold fp_phi; rw [if_neg (by omega), if_neg (by omega), if_neg (by omega), if_neg (by omega), if_pos hd, hf]
  rw [hphi] at h
  rw [hd]
  refine br_f (by decide) (br_f (by decide) (br_f (by decide) (br_t rfl ?_)))
  refine fy_hasMatch _ I1 (Or.inl hd) hi ?_
  cases hc : Lb.any (fp_mt π k (La.getD i [])) with
  | false =>
    rw [hc] at h
    refine br_t rfl (fy_pass226 v1 post _ _ _ _ (by decide) (by decide) (by decide) (by decide) ?_)
    refine h v1 (fy_fr_rw k f1) ?_
    rw [if_neg (by decide), List.append_nil]; exact hG1
  | true =>
    rw [hc] at h
    refine br_f (by decide) ?_
    exact fy_gf242 post k1 k6 (by decide) (by decide) (by decide) hG1 (by rw [(hR.2.2 i hi).1, c3]) (fun j hj => f2 j (by omega)) fun v2 g1 g3 => h v2 (fy_fr_trans (fy_fr_rw k f1) g1) g3
theorem fy_gf6 (I : fy_in2 π m k v La Lb) (hf : f (fp_sb π k) = Lb) (hi : i < La.length) (hd : fp_kd π k = 6) (hG : fy_GV v k (fp_wd π k) E)
    (h : ∀ v', fy_fr k v v' → fy_GV v' k (fp_wd π k) (E ++ fp_phi π f k (La.getD i [])) → post v') : wpY_giveFor post v (nI k) (nI i) := by
  have htwo : fp_two π k := Or.inr (Or.inr (Or.inl hd))
  refine fy_gf0 post (fy_in21 htwo I) hi fun v1 f1 f2 => ?_
  have I1 := fy_in2_fr htwo I (fy_fr_rw k f1)
  have hG1 := fy_GV_rw f1 hG
  obtain ⟨W, P, hk, hR, hRB⟩ := id I1
  obtain ⟨k1, k2, k3, k4, k5, k6, k7⟩ := fy_nd W P hk
  obtain ⟨_, _, _, _, _, q5, _⟩ := k7
  obtain ⟨c1, c2, c3⟩ := q5 (Or.inr hd)
  have hphi : fp_phi π f k (La.getD i []) = if Lb.any (fp_mt π k (La.getD i [])) then [] else [La.getD i []] := by
    unfold fp_phi; rw [if_neg (by omega), if_neg (by omega), if_neg (by omega), if_neg (by omega), if_neg (by omega), if_pos hd, hf]
  rw [hphi] at h
  rw [hd]
  refine br_f (by decide) (br_f (by decide) (br_f (by decide) (br_f (by decide) (br_t rfl ?_))))
  refine fy_hasMatch _ I1 (Or.inr hd) hi ?_
  cases hc : Lb.any (fp_mt π k (La.getD i [])) with
  | true =>
    rw [hc] at h
    refine br_f (by decide) (fy_pass247 v1 post _ _ _ _ (by decide) (by decide) (by decide) ?_)
    refine h v1 (fy_fr_rw k f1) ?_
    rw [if_pos rfl, List.append_nil]; exact hG1
  | false =>
    rw [hc] at h
    refine br_t rfl ?_
    exact fy_gf242 post k1 k6 (by decide) (by decide) (by decide) hG1 (by rw [(hR.2.2 i hi).1, c3]) (fun j hj => f2 j (by omega)) fun v2 g1 g3 => h v2 (fy_fr_trans (fy_fr_rw k f1) g1) g3
theorem fy_gf7 (I : fy_in1 π m k v La) (hi : i < La.length) (hd : fp_kd π k = 7) (hG : fy_GV v k (fp_wd π k) E)
    (h : ∀ v', fy_fr k v v' → fy_GV v' k (fp_wd π k) (E ++ (if fp_at (La.getD i []) (fp_p π k) ∈ (La.take i).map (fun x => fp_at x (fp_p π k)) then [] else [[fp_at (La.getD i []) (fp_p π k), fp_agg (fp_q π k) (fp_vals (fp_p π k) (fp_r π k) (fp_at (La.getD i []) (fp_p π k)) La)]])) → post v') : wpY_giveFor post v (nI k) (nI i) := by
  refine fy_gf0 post I hi fun v1 f1 f2 => ?_
  have I1 := fy_in1_fr I (fy_fr_rw k f1)
  have hG1 := fy_GV_rw f1 hG
  obtain ⟨W, P, hk, h0, hR⟩ := id I1
  obtain ⟨k1, k2, k3, k4, k5, k6, k7⟩ := fy_nd W P hk
  obtain ⟨_, _, _, _, _, _, q7, _⟩ := k7
  obtain ⟨c1, c2, c3, c4⟩ := q7 hd
  rw [c4] at hG1 h
  rw [hd]
  refine br_f (by decide) (br_f (by decide) (br_f (by decide) (br_f (by decide) (br_f (by decide) (br_t rfl ?_)))))
  refine fy_giveGroup _ I1 hd hi hG1 fun v2 g1 g3 => ?_
  exact br_f (by decide) (br_f (by decide) (h v2 (fy_fr_trans (fy_fr_rw k f1) g1) g3))
theorem fy_gf8 (I : fy_in1 π m k v La) (hi : i < La.length) (hd : fp_kd π k = 8) (hG : fy_GV v k (fp_wd π k) E)
    (h : ∀ v', fy_fr k v v' → fy_GV v' k (fp_wd π k) (E ++ (if La.getD i [] ∈ La.take i then [] else [La.getD i []])) → post v') : wpY_giveFor post v (nI k) (nI i) := by
  refine fy_gf0 post I hi fun v1 f1 f2 => ?_
  have I1 := fy_in1_fr I (fy_fr_rw k f1)
  have hG1 := fy_GV_rw f1 hG
  obtain ⟨W, P, hk, h0, hR⟩ := id I1
  obtain ⟨k1, k2, k3, k4, k5, k6, k7⟩ := fy_nd W P hk
  obtain ⟨l1, l2⟩ := fy_ndL W P hk h0
  obtain ⟨_, _, _, wla, _, w6, _⟩ := fy_nd W P (by omega : fp_fa π k < m)
  obtain ⟨_, _, _, _, _, _, _, q8, _⟩ := k7
  have c3 := q8 hd
  rw [hd]
  refine br_f (by decide) (br_f (by decide) (br_f (by decide) (br_f (by decide) (br_f (by decide) (br_f (by decide) (br_t rfl ?_))))))
  refine fy_repeated _ (by omega) wla w6 hR hi ?_
  by_cases hc : La.getD i [] ∈ La.take i
  · rw [if_pos hc] at h ⊢
    refine br_f (by decide) (br_f (by decide) ?_)
    refine h v1 (fy_fr_rw k f1) ?_
    rw [List.append_nil]; exact hG1
  · rw [if_neg hc] at h ⊢
    refine br_t rfl ?_
    exact fy_give v1 _ (x := La.getD i []) k1 k6 hG1 (by rw [(hR.2.2 i hi).1, c3]) (fun j hj => f2 j (by omega)) fun v2 g1 _ g3 => h v2 (fy_fr_trans (fy_fr_rw k f1) g1) g3
theorem fy_gf9 (I : fy_in1 π m k v La) (hi : i < La.length) (hd : fp_kd π k = 9) (hG : fy_GV v k (fp_wd π k) E)
    (h : ∀ v', fy_fr k v v' → fy_GV v' k (fp_wd π k) (E ++ [La.getD i []]) → post v') : wpY_giveFor post v (nI k) (nI i) := by
  refine fy_gf0 post I hi fun v1 f1 f2 => ?_
  have I1 := fy_in1_fr I (fy_fr_rw k f1)
  have hG1 := fy_GV_rw f1 hG
  obtain ⟨W, P, hk, h0, hR⟩ := id I1
  obtain ⟨k1, k2, k3, k4, k5, k6, k7⟩ := fy_nd W P hk
  obtain ⟨_, _, _, _, _, _, _, _, q9⟩ := k7
  have c3 := (q9 hd).1
  rw [hd]
  refine br_f (by decide) (br_f (by decide) (br_f (by decide) (br_f (by decide) (br_f (by decide) (br_f (by decide) (br_f (by decide) (br_t rfl ?_)))))))
  exact fy_give v1 _ (x := La.getD i []) k1 k6 hG1 (by rw [(hR.2.2 i hi).1, c3]) (fun j hj => f2 j (by omega)) fun v2 g1 _ g3 => h v2 (fy_fr_trans (fy_fr_rw k f1) g1) g3
end
/-! ## Y: a node's loop over its left input -/
theorem fy_ev44 {π : fp_Pl} {m k : Nat} {La : List fp_Row} (post : SY → Prop) (R : SY → Prop) (F : Nat → List fp_Row)
    (hRI : ∀ v v', R v → fy_fr k v v' → R v') (hR1 : ∀ v, R v → fy_in1 π m k v La)
    (hstep : ∀ (post : SY → Prop) v i, R v → i < La.length → fy_GV v k (fp_wd π k) (F i) → (∀ v', fy_fr k v v' → fy_GV v' k (fp_wd π k) (F (i + 1)) → post v') → wpY_giveFor post v (nI k) (nI i)) :
    ∀ d i v, i + d = La.length → R v → fy_GV v k (fp_wd π k) (F i) → (∀ v', fy_fr k v v' → fy_GV v' k (fp_wd π k) (F La.length) → ∃ n73, wY_evaluate_73 post (nI k) n73 0 (yy_nodes v') (yy_over v') (yy_resultRows v') (yy_resultWidth v') (yy_tables v') (yy_held v') (yy_kind v') (yy_left v') (yy_right v') (yy_p v') (yy_q v') (yy_r v') (yy_widths v') (yy_used v') (yy_rows v') (yy_given v') (yy_needed v') (yy_row v') (yy_result v')) → wY_evaluate_44 post (nI k) (d + 1) (nI i) (yy_nodes v) (yy_over v) (yy_resultRows v) (yy_resultWidth v) (yy_tables v) (yy_held v) (yy_kind v) (yy_left v) (yy_right v) (yy_p v) (yy_q v) (yy_r v) (yy_widths v) (yy_used v) (yy_rows v) (yy_given v) (yy_needed v) (yy_row v) (yy_result v) := by
  intro d
  induction d with
  | zero =>
    intro i v hi hR hG h
    obtain ⟨W, P, hk, h0, hRA⟩ := hR1 v hR
    obtain ⟨k1, k2, k3, k4, k5, k6, k7⟩ := fy_nd W P hk
    obtain ⟨l1, l2⟩ := fy_ndL W P hk h0
    have ia := hRA.2.1
    refine And.intro (vp_in_nI k1 (by decide)) ?_
    rw [fi_cl (by omega : k < 4096), l1]
    refine And.intro (vp_in_nI (by omega) (by decide)) ?_
    rw [fi_cl (by omega : fp_fa π k < 4096), hRA.1]
    refine br_t (nI_le (by omega) (by omega)) ?_
    have e : i = La.length := by omega
    subst e
    exact h v (fy_fr_rfl k v) hG
  | succ d ih =>
    intro i v hi hR hG h
    obtain ⟨W, P, hk, h0, hRA⟩ := hR1 v hR
    obtain ⟨k1, k2, k3, k4, k5, k6, k7⟩ := fy_nd W P hk
    obtain ⟨l1, l2⟩ := fy_ndL W P hk h0
    have ia := hRA.2.1
    refine And.intro (vp_in_nI k1 (by decide)) ?_
    rw [fi_cl (by omega : k < 4096), l1]
    refine And.intro (vp_in_nI (by omega) (by decide)) ?_
    rw [fi_cl (by omega : fp_fa π k < 4096), hRA.1]
    refine br_f (nI_ge (by omega) (by omega)) ?_
    refine hstep _ v i hR (by omega) hG fun v' f1 f2 => ?_
    intro y ey
    rw [nI_1] at ey
    subst ey
    exact ih (i + 1) v' (by omega) (hRI v v' hR f1) f2 fun v2 g1 g2 => h v2 (fy_fr_trans f1 g1) g2
theorem fy_ev73n {π : fp_Pl} {m k : Nat} {v : SY} (post : SY → Prop) (W : fp_WF π m) (P : fy_P π m v) (hk : k < m) (h9 : fp_kd π k ≠ 9) (h : post v) : ∃ n73, wY_evaluate_73 post (nI k) n73 0 (yy_nodes v) (yy_over v) (yy_resultRows v) (yy_resultWidth v) (yy_tables v) (yy_held v) (yy_kind v) (yy_left v) (yy_right v) (yy_p v) (yy_q v) (yy_r v) (yy_widths v) (yy_used v) (yy_rows v) (yy_given v) (yy_needed v) (yy_row v) (yy_result v) := by
  obtain ⟨k1, k2, k3, k4, k5, k6, k7⟩ := fy_nd W P hk
  refine ⟨1, And.intro (vp_in_nI k1 (by decide)) (br_f ?_ h)⟩
  rw [fi_cl (by omega : k < 4096)]
  intro e
  have e' : nI (fp_kd π k) = nI 9 := k2.symm.trans e
  exact h9 ((nI_eq (by omega) (by decide)).mp e')
theorem fy_ev73 {π : fp_Pl} {m k : Nat} {La Lb E : List fp_Row} (post : SY → Prop) (h9 : fp_kd π k = 9) : ∀ d j v, j + d = Lb.length → fy_in2 π m k v La Lb → fy_GV v k (fp_wd π k) (E ++ Lb.take j) → (∀ v', fy_fr k v v' → fy_GV v' k (fp_wd π k) (E ++ Lb) → post v') → wY_evaluate_73 post (nI k) (d + 1) (nI j) (yy_nodes v) (yy_over v) (yy_resultRows v) (yy_resultWidth v) (yy_tables v) (yy_held v) (yy_kind v) (yy_left v) (yy_right v) (yy_p v) (yy_q v) (yy_r v) (yy_widths v) (yy_used v) (yy_rows v) (yy_given v) (yy_needed v) (yy_row v) (yy_result v) := by
  have htwo : fp_two π k := Or.inr (Or.inr (Or.inr h9))
  intro d
  induction d with
  | zero =>
    intro j v hj I hG h
    obtain ⟨W, P, hk, hRA, hRB⟩ := id I
    obtain ⟨k1, k2, k3, k4, k5, k6, k7⟩ := fy_nd W P hk
    obtain ⟨r1, r2⟩ := fy_ndR W P hk htwo
    have ib := hRB.2.1
    refine And.intro (vp_in_nI k1 (by decide)) ?_
    rw [fi_cl (by omega : k < 4096), k2, h9, r1]
    refine br_t rfl (And.intro (vp_in_nI k1 (by decide)) (And.intro (vp_in_nI (by omega) (by decide)) ?_))
    rw [fi_cl (by omega : fp_sb π k < 4096), hRB.1]
    refine br_t (nI_le (by omega) (by omega)) ?_
    rw [fp_take_all (by omega)] at hG
    exact h v (fy_fr_rfl k v) hG
  | succ d ih =>
    intro j v hj I hG h
    obtain ⟨W, P, hk, hRA, hRB⟩ := id I
    obtain ⟨k1, k2, k3, k4, k5, k6, k7⟩ := fy_nd W P hk
    obtain ⟨r1, r2⟩ := fy_ndR W P hk htwo
    obtain ⟨_, _, _, wlb, _, w6, _⟩ := fy_nd W P (by omega : fp_sb π k < m)
    obtain ⟨_, _, _, _, _, _, _, _, q9⟩ := k7
    have c3 := (q9 h9).2
    have ib := hRB.2.1
    refine And.intro (vp_in_nI k1 (by decide)) ?_
    rw [fi_cl (by omega : k < 4096), k2, h9, r1]
    refine br_t rfl (And.intro (vp_in_nI k1 (by decide)) (And.intro (vp_in_nI (by omega) (by decide)) ?_))
    rw [fi_cl (by omega : fp_sb π k < 4096), hRB.1]
    refine br_f (nI_ge (by omega) (by omega)) (And.intro (vp_in_nI k1 (by decide)) ?_)
    refine fy_lay v _ (to := 0) (by omega) (by omega : j < Lb.length) wlb (by omega) hRB fun v1 f1 f2 f3 => ?_
    have I1 := fy_in2_fr htwo I (fy_fr_rw k f1)
    have hG1 := fy_GV_rw f1 hG
    refine fy_give v1 _ (x := Lb.getD j []) k1 k6 hG1 (by rw [(hRB.2.2 j (by omega)).1, c3]) (fun c hc => by have := f3 c (by omega); rw [Nat.zero_add] at this; exact this) fun v2 g1 _ g3 => ?_
    intro y ey
    rw [nI_1] at ey
    subst ey
    refine ih (j + 1) v2 (by omega) (fy_in2_fr htwo I1 g1) ?_ fun v3 z1 z2 => h v3 (fy_fr_trans (fy_fr_trans (fy_fr_rw k f1) g1) z1) z2
    rw [fp_take_s Lb [] (by omega), ← List.append_assoc]
    exact g3
end
section
/-! ## Y: a node -/
theorem fp_grp_F (k fn v : Int32) (l : List fp_Row) {i : Nat} (hi : i < l.length) : (fp_dd ((l.take (i + 1)).map (fun x => fp_at x k))).map (fun key => [key, fp_agg fn (fp_vals k v key l)]) = (fp_dd ((l.take i).map (fun x => fp_at x k))).map (fun key => [key, fp_agg fn (fp_vals k v key l)]) ++ (if fp_at (l.getD i []) k ∈ (l.take i).map (fun x => fp_at x k) then [] else [[fp_at (l.getD i []) k, fp_agg fn (fp_vals k v (fp_at (l.getD i []) k) l)]]) := by
  rw [fp_take_s l [] hi, List.map_append, List.map_singleton, fp_dd_snoc]
  by_cases c : fp_at (l.getD i []) k ∈ (l.take i).map (fun x => fp_at x k)
  · rw [if_pos c, if_pos ((fp_dd_mem _ _).mpr c), List.append_nil]
  · rw [if_neg c, if_neg (fun z => c ((fp_dd_mem _ _).mp z)), List.map_append, List.map_singleton]
theorem fp_dd_F (l : List fp_Row) {i : Nat} (hi : i < l.length) : fp_dd (l.take (i + 1)) = fp_dd (l.take i) ++ (if l.getD i [] ∈ l.take i then [] else [l.getD i []]) := by
  rw [fp_take_s l [] hi, fp_dd_snoc]
  by_cases c : l.getD i [] ∈ l.take i
  · rw [if_pos c, if_pos ((fp_dd_mem _ _).mpr c), List.append_nil]
  · rw [if_neg c, if_neg (fun z => c ((fp_dd_mem _ _).mp z))]
theorem fp_fm_F (l : List fp_Row) (g : fp_Row → List fp_Row) {i : Nat} (hi : i < l.length) : (l.take (i + 1)).flatMap g = (l.take i).flatMap g ++ g (l.getD i []) := by
  rw [fp_take_s l [] hi, List.flatMap_append, List.flatMap_cons, List.flatMap_nil, List.append_nil]
theorem fy_evaluate {π : fp_Pl} {m k : Nat} {v : SY} (post : SY → Prop) (W : fp_WF π m) (P : fy_P π m v) (hk : k < m) (T : fp_TOK (yy_held v)) (hov : yy_over v = 0)
    (hA : fp_kd π k ≠ 0 → fy_RO v (fp_fa π k) (fp_wd π (fp_fa π k)) (fp_L π (fp_TB (yy_tables v) (yy_held v)) (fp_fa π k)))
    (hB : fp_two π k → fy_RO v (fp_sb π k) (fp_wd π (fp_sb π k)) (fp_L π (fp_TB (yy_tables v) (yy_held v)) (fp_sb π k)))
    (h : ∀ v', fy_fr k v v' → fy_GV v' k (fp_wd π k) (fp_L π (fp_TB (yy_tables v) (yy_held v)) k) → post v') : wpY_evaluate post v (nI k) := by
  rw [fp_L_eq _ W hk] at h
  unfold fp_op at h
  generalize hL : fp_L π (fp_TB (yy_tables v) (yy_held v)) = L at h hA hB
  obtain ⟨k1, k2, k3, k4, k5, k6, k7⟩ := fy_nd W P hk
  have hv := vp_in_nI (n := k) k1 (by decide)
  show wpY_evaluate post ((yy_nodes v), (yy_over v), (yy_resultRows v), (yy_resultWidth v), (yy_tables v), (yy_held v), (yy_kind v), (yy_left v), (yy_right v), (yy_p v), (yy_q v), (yy_r v), (yy_widths v), (yy_used v), (yy_rows v), (yy_given v), (yy_needed v), (yy_row v), (yy_result v)) (nI k)
  refine And.intro hv ?_
  rw [fi_cl (by omega : k < 4096)]
  intro gv egv
  have hfr : fy_fr k v ((yy_nodes v), (yy_over v), (yy_resultRows v), (yy_resultWidth v), (yy_tables v), (yy_held v), (yy_kind v), (yy_left v), (yy_right v), (yy_p v), (yy_q v), (yy_r v), (yy_widths v), (yy_used v), (yy_rows v), gv, (yy_needed v), (yy_row v), (yy_result v)) := ⟨rfl, fun j hj => by subst egv; exact fi_un hj, fun _ _ => rfl⟩
  have hG0 : fy_GV ((yy_nodes v), (yy_over v), (yy_resultRows v), (yy_resultWidth v), (yy_tables v), (yy_held v), (yy_kind v), (yy_left v), (yy_right v), (yy_p v), (yy_q v), (yy_r v), (yy_widths v), (yy_used v), (yy_rows v), gv, (yy_needed v), (yy_row v), (yy_result v)) k (fp_wd π k) [] := ⟨by subst egv; exact fi_us, hov, fun i hi => by simp at hi⟩
  generalize hv0 : ((yy_nodes v), (yy_over v), (yy_resultRows v), (yy_resultWidth v), (yy_tables v), (yy_held v), (yy_kind v), (yy_left v), (yy_right v), (yy_p v), (yy_q v), (yy_r v), (yy_widths v), (yy_used v), (yy_rows v), gv, (yy_needed v), (yy_row v), (yy_result v)) = v0 at hfr hG0
  have P0 : fy_P π m v0 := fy_P_e hfr.1 P
  have hA0 : fp_kd π k ≠ 0 → fy_RO v0 (fp_fa π k) (fp_wd π (fp_fa π k)) (L (fp_fa π k)) := fun h0 => by
    have l2 := (fy_ndL W P hk h0).2
    exact fy_RO_fr (fy_wd W (by omega)).2 (by omega) hfr (hA h0)
  have hB0 : fp_two π k → fy_RO v0 (fp_sb π k) (fp_wd π (fp_sb π k)) (L (fp_sb π k)) := fun h0 => by
    have l2 := (fy_ndR W P hk h0).2
    exact fy_RO_fr (fy_wd W (by omega)).2 (by omega) hfr (hB h0)
  rw [k2]
  refine And.intro hv ?_
  have kne : ∀ c, c < 10 → fp_kd π k ≠ c → ¬ nI (fp_kd π k) = nI c := fun c hc hne e => hne ((nI_eq (by omega) (by omega)).mp e)
  by_cases h0 : fp_kd π k = 0
  · rw [if_pos h0] at h
    rw [h0]
    refine br_t rfl ?_
    obtain ⟨p1, p2, p3⟩ := P.2.2.2.2.2 k hk (by omega) (by omega)
    obtain ⟨c1, c2⟩ := k7.1 h0
    rw [c2] at hG0 h
    show wpY_giveTable post v0 (nI k)
    have hp0 : yy_p v0 k = nI (fp_p π k).toNatClampNeg := by rw [fy_e_p hfr.1, p1]; exact c1.1
    have hT0 : fp_TOK (yy_held v0) := by rw [fy_e_held hfr.1]; exact T
    refine fy_giveTable v0 post k1 c1.2 hp0 hT0 hG0 fun v' f1 f2 => h v' (fy_fr_trans hfr f1) ?_
    rw [fy_e_tables hfr.1, fy_e_held hfr.1] at f2
    exact f2
  · rw [if_neg h0] at h
    refine br_f (kne 0 (by decide) h0) (And.intro hv ?_)
    by_cases h4 : fp_kd π k = 4
    · rw [if_neg (by omega), if_neg (by omega), if_neg (by omega)] at h
      rw [h4]
      refine br_t rfl ?_
      show wpY_giveJoin post v0 (nI k)
      exact fy_giveJoin v0 post h4 L rfl ⟨W, P0, hk, hA0 h0, hB0 (Or.inl h4)⟩ hG0 fun v' f1 f2 => h v' (fy_fr_trans hfr f1) f2
    · refine br_f (kne 4 (by decide) h4) ?_
      show ∃ n44, wY_evaluate_44 post (nI k) n44 0 (yy_nodes ((yy_nodes v), (yy_over v), (yy_resultRows v), (yy_resultWidth v), (yy_tables v), (yy_held v), (yy_kind v), (yy_left v), (yy_right v), (yy_p v), (yy_q v), (yy_r v), (yy_widths v), (yy_used v), (yy_rows v), gv, (yy_needed v), (yy_row v), (yy_result v))) (yy_over ((yy_nodes v), (yy_over v), (yy_resultRows v), (yy_resultWidth v), (yy_tables v), (yy_held v), (yy_kind v), (yy_left v), (yy_right v), (yy_p v), (yy_q v), (yy_r v), (yy_widths v), (yy_used v), (yy_rows v), gv, (yy_needed v), (yy_row v), (yy_result v))) (yy_resultRows ((yy_nodes v), (yy_over v), (yy_resultRows v), (yy_resultWidth v), (yy_tables v), (yy_held v), (yy_kind v), (yy_left v), (yy_right v), (yy_p v), (yy_q v), (yy_r v), (yy_widths v), (yy_used v), (yy_rows v), gv, (yy_needed v), (yy_row v), (yy_result v))) (yy_resultWidth ((yy_nodes v), (yy_over v), (yy_resultRows v), (yy_resultWidth v), (yy_tables v), (yy_held v), (yy_kind v), (yy_left v), (yy_right v), (yy_p v), (yy_q v), (yy_r v), (yy_widths v), (yy_used v), (yy_rows v), gv, (yy_needed v), (yy_row v), (yy_result v))) (yy_tables ((yy_nodes v), (yy_over v), (yy_resultRows v), (yy_resultWidth v), (yy_tables v), (yy_held v), (yy_kind v), (yy_left v), (yy_right v), (yy_p v), (yy_q v), (yy_r v), (yy_widths v), (yy_used v), (yy_rows v), gv, (yy_needed v), (yy_row v), (yy_result v))) (yy_held ((yy_nodes v), (yy_over v), (yy_resultRows v), (yy_resultWidth v), (yy_tables v), (yy_held v), (yy_kind v), (yy_left v), (yy_right v), (yy_p v), (yy_q v), (yy_r v), (yy_widths v), (yy_used v), (yy_rows v), gv, (yy_needed v), (yy_row v), (yy_result v))) (yy_kind ((yy_nodes v), (yy_over v), (yy_resultRows v), (yy_resultWidth v), (yy_tables v), (yy_held v), (yy_kind v), (yy_left v), (yy_right v), (yy_p v), (yy_q v), (yy_r v), (yy_widths v), (yy_used v), (yy_rows v), gv, (yy_needed v), (yy_row v), (yy_result v))) (yy_left ((yy_nodes v), (yy_over v), (yy_resultRows v), (yy_resultWidth v), (yy_tables v), (yy_held v), (yy_kind v), (yy_left v), (yy_right v), (yy_p v), (yy_q v), (yy_r v), (yy_widths v), (yy_used v), (yy_rows v), gv, (yy_needed v), (yy_row v), (yy_result v))) (yy_right ((yy_nodes v), (yy_over v), (yy_resultRows v), (yy_resultWidth v), (yy_tables v), (yy_held v), (yy_kind v), (yy_left v), (yy_right v), (yy_p v), (yy_q v), (yy_r v), (yy_widths v), (yy_used v), (yy_rows v), gv, (yy_needed v), (yy_row v), (yy_result v))) (yy_p ((yy_nodes v), (yy_over v), (yy_resultRows v), (yy_resultWidth v), (yy_tables v), (yy_held v), (yy_kind v), (yy_left v), (yy_right v), (yy_p v), (yy_q v), (yy_r v), (yy_widths v), (yy_used v), (yy_rows v), gv, (yy_needed v), (yy_row v), (yy_result v))) (yy_q ((yy_nodes v), (yy_over v), (yy_resultRows v), (yy_resultWidth v), (yy_tables v), (yy_held v), (yy_kind v), (yy_left v), (yy_right v), (yy_p v), (yy_q v), (yy_r v), (yy_widths v), (yy_used v), (yy_rows v), gv, (yy_needed v), (yy_row v), (yy_result v))) (yy_r ((yy_nodes v), (yy_over v), (yy_resultRows v), (yy_resultWidth v), (yy_tables v), (yy_held v), (yy_kind v), (yy_left v), (yy_right v), (yy_p v), (yy_q v), (yy_r v), (yy_widths v), (yy_used v), (yy_rows v), gv, (yy_needed v), (yy_row v), (yy_result v))) (yy_widths ((yy_nodes v), (yy_over v), (yy_resultRows v), (yy_resultWidth v), (yy_tables v), (yy_held v), (yy_kind v), (yy_left v), (yy_right v), (yy_p v), (yy_q v), (yy_r v), (yy_widths v), (yy_used v), (yy_rows v), gv, (yy_needed v), (yy_row v), (yy_result v))) (yy_used ((yy_nodes v), (yy_over v), (yy_resultRows v), (yy_resultWidth v), (yy_tables v), (yy_held v), (yy_kind v), (yy_left v), (yy_right v), (yy_p v), (yy_q v), (yy_r v), (yy_widths v), (yy_used v), (yy_rows v), gv, (yy_needed v), (yy_row v), (yy_result v))) (yy_rows ((yy_nodes v), (yy_over v), (yy_resultRows v), (yy_resultWidth v), (yy_tables v), (yy_held v), (yy_kind v), (yy_left v), (yy_right v), (yy_p v), (yy_q v), (yy_r v), (yy_widths v), (yy_used v), (yy_rows v), gv, (yy_needed v), (yy_row v), (yy_result v))) (yy_given ((yy_nodes v), (yy_over v), (yy_resultRows v), (yy_resultWidth v), (yy_tables v), (yy_held v), (yy_kind v), (yy_left v), (yy_right v), (yy_p v), (yy_q v), (yy_r v), (yy_widths v), (yy_used v), (yy_rows v), gv, (yy_needed v), (yy_row v), (yy_result v))) (yy_needed ((yy_nodes v), (yy_over v), (yy_resultRows v), (yy_resultWidth v), (yy_tables v), (yy_held v), (yy_kind v), (yy_left v), (yy_right v), (yy_p v), (yy_q v), (yy_r v), (yy_widths v), (yy_used v), (yy_rows v), gv, (yy_needed v), (yy_row v), (yy_result v))) (yy_row ((yy_nodes v), (yy_over v), (yy_resultRows v), (yy_resultWidth v), (yy_tables v), (yy_held v), (yy_kind v), (yy_left v), (yy_right v), (yy_p v), (yy_q v), (yy_r v), (yy_widths v), (yy_used v), (yy_rows v), gv, (yy_needed v), (yy_row v), (yy_result v))) (yy_result ((yy_nodes v), (yy_over v), (yy_resultRows v), (yy_resultWidth v), (yy_tables v), (yy_held v), (yy_kind v), (yy_left v), (yy_right v), (yy_p v), (yy_q v), (yy_r v), (yy_widths v), (yy_used v), (yy_rows v), gv, (yy_needed v), (yy_row v), (yy_result v)))
      rw [hv0]
      have I0 : fy_in1 π m k v0 (L (fp_fa π k)) := ⟨W, P0, hk, h0, hA0 h0⟩
      refine ⟨(L (fp_fa π k)).length + 1, ?_⟩
      have end1 : ∀ (E : List fp_Row), fp_kd π k ≠ 9 → (∀ v', fy_fr k v v' → fy_GV v' k (fp_wd π k) E → post v') → ∀ v', fy_fr k v0 v' → fy_GV v' k (fp_wd π k) E → ∃ n73, wY_evaluate_73 post (nI k) n73 0 (yy_nodes v') (yy_over v') (yy_resultRows v') (yy_resultWidth v') (yy_tables v') (yy_held v') (yy_kind v') (yy_left v') (yy_right v') (yy_p v') (yy_q v') (yy_r v') (yy_widths v') (yy_used v') (yy_rows v') (yy_given v') (yy_needed v') (yy_row v') (yy_result v') :=
        fun E h9 hh v' f1 f2 => fy_ev73n post W (fy_P_e f1.1 P0) hk h9 (hh v' (fy_fr_trans hfr f1) f2)
      by_cases h7 : fp_kd π k = 7
      · rw [if_pos h7] at h
        refine fy_ev44 post (fun v => fy_in1 π m k v (L (fp_fa π k))) (fun i => (fp_dd (((L (fp_fa π k)).take i).map (fun x => fp_at x (fp_p π k)))).map (fun key => [key, fp_agg (fp_q π k) (fp_vals (fp_p π k) (fp_r π k) key (L (fp_fa π k)))])) (fun v v' => fy_in1_fr) (fun v => id) ?_ _ 0 v0 (by omega) I0 hG0 ?_
        · intro post v i I hi hG hh
          refine fy_gf7 post I hi h7 hG fun v' f1 f2 => hh v' f1 ?_
          rw [fp_grp_F _ _ _ _ hi]; exact f2
        · refine end1 _ (by omega) fun v' f1 f2 => h v' f1 ?_
          rw [fp_take_all rfl] at f2
          exact f2
      · rw [if_neg h7] at h
        by_cases h8 : fp_kd π k = 8
        · rw [if_pos h8] at h
          refine fy_ev44 post (fun v => fy_in1 π m k v (L (fp_fa π k))) (fun i => fp_dd ((L (fp_fa π k)).take i)) (fun v v' => fy_in1_fr) (fun v => id) ?_ _ 0 v0 (by omega) I0 hG0 ?_
          · intro post v i I hi hG hh
            refine fy_gf8 post I hi h8 hG fun v' f1 f2 => hh v' f1 ?_
            rw [fp_dd_F _ hi]; exact f2
          · refine end1 _ (by omega) fun v' f1 f2 => h v' f1 ?_
            rw [fp_take_all rfl] at f2
            exact f2
        · rw [if_neg h8] at h
          by_cases h9 : fp_kd π k = 9
          · rw [if_pos h9] at h
            have htwo : fp_two π k := Or.inr (Or.inr (Or.inr h9))
            refine fy_ev44 post (fun v => fy_in2 π m k v (L (fp_fa π k)) (L (fp_sb π k))) (fun i => (L (fp_fa π k)).take i) (fun v v' => fy_in2_fr htwo) (fun v => fy_in21 htwo) ?_ _ 0 v0 (by omega) ⟨W, P0, hk, hA0 h0, hB0 htwo⟩ hG0 ?_
            · intro post v i I hi hG hh
              refine fy_gf9 post (fy_in21 htwo I) hi h9 hG fun v' f1 f2 => hh v' f1 ?_
              rw [fp_take_s _ [] hi]; exact f2
            · intro v' f1 f2
              rw [fp_take_all rfl] at f2
              refine ⟨(L (fp_sb π k)).length + 1, fy_ev73 (E := L (fp_fa π k)) post h9 _ 0 v' (by omega) (fy_in2_fr htwo ⟨W, P0, hk, hA0 h0, hB0 htwo⟩ f1) ?_ fun v2 g1 g2 => h v2 (fy_fr_trans (fy_fr_trans hfr f1) g1) g2⟩
              rw [List.take_zero, List.append_nil]; exact f2
          · rw [if_neg h9] at h
            by_cases h56 : fp_kd π k = 5 ∨ fp_kd π k = 6
            · have htwo : fp_two π k := by unfold fp_two; omega
              refine fy_ev44 post (fun v => fy_in2 π m k v (L (fp_fa π k)) (L (fp_sb π k))) (fun i => ((L (fp_fa π k)).take i).flatMap (fp_phi π L k)) (fun v v' => fy_in2_fr htwo) (fun v => fy_in21 htwo) ?_ _ 0 v0 (by omega) ⟨W, P0, hk, hA0 h0, hB0 htwo⟩ hG0 ?_
              · intro post v i I hi hG hh
                rcases h56 with h5 | h6
                · refine fy_gf5 post L I rfl hi h5 hG fun v' f1 f2 => hh v' f1 ?_
                  rw [fp_fm_F _ _ hi]; exact f2
                · refine fy_gf6 post L I rfl hi h6 hG fun v' f1 f2 => hh v' f1 ?_
                  rw [fp_fm_F _ _ hi]; exact f2
              · refine end1 _ h9 fun v' f1 f2 => h v' f1 ?_
                rw [fp_take_all rfl] at f2
                exact f2
            · refine fy_ev44 post (fun v => fy_in1 π m k v (L (fp_fa π k))) (fun i => ((L (fp_fa π k)).take i).flatMap (fp_phi π L k)) (fun v v' => fy_in1_fr) (fun v => id) ?_ _ 0 v0 (by omega) I0 hG0 ?_
              · intro post v i I hi hG hh
                by_cases c1 : fp_kd π k = 1
                · refine fy_gf1 post L I hi c1 hG fun v' f1 f2 => hh v' f1 ?_
                  rw [fp_fm_F _ _ hi]; exact f2
                · by_cases c2 : fp_kd π k = 2
                  · refine fy_gf2 post L I hi c2 hG fun v' f1 f2 => hh v' f1 ?_
                    rw [fp_fm_F _ _ hi]; exact f2
                  · refine fy_gf3 post L I hi (by omega) hG fun v' f1 f2 => hh v' f1 ?_
                    rw [fp_fm_F _ _ hi]; exact f2
              · refine end1 _ h9 fun v' f1 f2 => h v' f1 ?_
                rw [fp_take_all rfl] at f2
                exact f2
end
section
/-! ## the order, column by column -/
theorem fp_drop_c {x : fp_Row} {c : Nat} (h : c < x.length) : x.drop c = x.getD c 0 :: x.drop (c + 1) := by
  rw [fp_gd x 0 h]; exact List.drop_eq_getElem_cons h
theorem fy_less3 {v : SY} {n i j w : Nat} {E : List fp_Row} (post : Int32 → Prop) (hn : n < 12) (hw : yy_widths v n = nI w) (hw6 : w ≤ 6) (hR : fy_RO v n w E) (hi : i < E.length) (hj : j < E.length) : ∀ d c, c + d = w → post (if (fp_lt ((E.getD i []).drop c) ((E.getD j []).drop c) || (decide ((E.getD i []).drop c = (E.getD j []).drop c) && decide (i < j))) then 1 else 0) → wY_less_3 post (nI n) (nI i) (nI j) (yy_nodes v) (yy_over v) (yy_resultRows v) (yy_resultWidth v) (yy_tables v) (yy_held v) (yy_kind v) (yy_left v) (yy_right v) (yy_p v) (yy_q v) (yy_r v) (yy_widths v) (yy_used v) (yy_rows v) (yy_given v) (yy_needed v) (yy_row v) (yy_result v) (d + 1) (nI c) := by
  have h20 := hR.2.1
  have li := (hR.2.2 i hi).1
  have lj := (hR.2.2 j hj).1
  intro d
  induction d with
  | zero =>
    intro c hc h
    refine And.intro (vp_in_nI hn (by decide)) ?_
    rw [fi_cl (by omega : n < 4096), hw]
    refine br_t (nI_le (by omega) (by omega)) ?_
    rw [List.drop_eq_nil_of_le (by omega), List.drop_eq_nil_of_le (by omega)] at h
    by_cases c1 : i < j
    · refine br_f (nI_ge c1 (by omega)) ?_
      rw [decide_eq_true c1] at h
      exact h
    · refine br_t (nI_le (by omega) (by omega)) ?_
      rw [decide_eq_false c1] at h
      exact h
  | succ d ih =>
    intro c hc h
    refine And.intro (vp_in_nI hn (by decide)) ?_
    rw [fi_cl (by omega : n < 4096), hw]
    refine br_f (nI_ge (by omega) (by omega)) ?_
    refine fy_at _ _ hn (by omega) (by omega) (fy_at _ _ hn (by omega) (by omega) ?_)
    rw [fy_rat hR hi (by omega), fy_rat hR hj (by omega)]
    rw [fp_drop_c (by omega : c < (E.getD i []).length), fp_drop_c (by omega : c < (E.getD j []).length)] at h
    refine br_c (fun e => ?_) (fun e => ?_)
    · intro y ey
      rw [nI_1] at ey
      subst ey
      refine ih (c + 1) (by omega) ?_
      rw [fp_lt, if_pos e, e] at h
      simp only [List.cons.injEq, true_and] at h
      exact h
    · rw [fp_lt, if_neg e, decide_eq_false (fun z => e (List.cons.inj z).1), Bool.false_and, Bool.or_false] at h
      refine fy_at _ _ hn (by omega) (by omega) (fy_at _ _ hn (by omega) (by omega) ?_)
      rw [fy_rat hR hi (by omega), fy_rat hR hj (by omega)]
      refine br_c (fun c1 => ?_) (fun c1 => ?_)
      · rw [decide_eq_false (Int32.not_lt.mpr c1)] at h; exact h
      · rw [decide_eq_true (Int32.not_le.mp c1)] at h; exact h
theorem fy_less {v : SY} {n i j w : Nat} {E : List fp_Row} (post : Int32 → Prop) (hn : n < 12) (hw : yy_widths v n = nI w) (hw6 : w ≤ 6) (hR : fy_RO v n w E) (hi : i < E.length) (hj : j < E.length) (h : post (if fp_less E j i then 1 else 0)) : wpY_less post v (nI n) (nI i) (nI j) := by
  refine ⟨w + 1, fy_less3 post hn hw hw6 hR hi hj w 0 (by omega) ?_⟩
  rw [List.drop_zero, List.drop_zero]
  exact h
theorem fy_show71 (v : SY) (post : SY → Prop) (J22 : Int32 → (Nat → Int32) → (Nat → Int32) → (Nat → Int32) → (Nat → Int32) → (Nat → Int32) → (Nat → Int32) → (Nat → Int32) → (Nat → Int32) → (Nat → Int32) → (Nat → Int32) → (Nat → Int32) → (Nat → Int32) → (Nat → Int32) → (Nat → Int32) → (Nat → Int32) → Prop) {n i p : Nat} (hn : n < 12) (hi : i < 20) (hp : p < 20) : ∀ d c res, c + d = 6 → (∀ res', (∀ j, (j < 6 * p + c ∨ 6 * p + 6 ≤ j) → res' j = res j) → (∀ j, c ≤ j → j < 6 → res' (6 * p + j) = yy_rows v (6 * (20 * n + i) + j)) → J22 (nI (i + 1)) (yy_tables v) (yy_held v) (yy_kind v) (yy_left v) (yy_right v) (yy_p v) (yy_q v) (yy_r v) (yy_widths v) (yy_used v) (yy_rows v) (yy_given v) (yy_needed v) (yy_row v) res') → wY_show_71 post J22 (nI n) (nI i) (nI p) (yy_nodes v) (yy_over v) (yy_resultRows v) (yy_resultWidth v) (d + 1) (nI c) (yy_tables v) (yy_held v) (yy_kind v) (yy_left v) (yy_right v) (yy_p v) (yy_q v) (yy_r v) (yy_widths v) (yy_used v) (yy_rows v) (yy_given v) (yy_needed v) (yy_row v) res := by
  intro d
  induction d with
  | zero =>
    intro c res hc h
    have e : c = 6 := by omega
    subst e
    refine br_t (nI_le (a := 6) (b := 6) (Nat.le_refl _) (by decide)) ?_
    intro y ey
    rw [nI_1] at ey
    subst ey
    exact h res (fun j _ => rfl) (fun j h1 h2 => by omega)
  | succ d ih =>
    intro c res hc h
    refine br_f (nI_ge (b := 6) (by omega) (by decide)) ?_
    refine br_f (nI_ge (b := 20) (by omega) (by decide)) ?_
    refine fy_at _ _ hn hi (by omega) ?_
    rw [fi_r, fi_cl (by omega), nI_1]
    refine And.intro (vp_in_nI (by omega) (by decide)) ?_
    intro res2 e2 c2 ec2
    subst e2 ec2
    refine ih (c + 1) _ (by omega) fun res' h1 h2 => h res' (fun j hj => ?_) (fun j hj1 hj2 => ?_)
    · rw [h1 j (by omega), fi_un (by omega)]
    · by_cases e : j = c
      · subst e
        rw [h1 _ (by omega), fi_us]
      · exact h2 j (by omega) hj2
theorem fp_cp_s (p : Nat → Bool) (j : Nat) : (List.range (j + 1)).countP p = (List.range j).countP p + (if p j then 1 else 0) := by
  rw [List.range_succ, List.countP_append, List.countP_singleton]
theorem fy_show37 {v : SY} {n i w : Nat} {E : List fp_Row} (post : SY → Prop) (J22 : Int32 → (Nat → Int32) → (Nat → Int32) → (Nat → Int32) → (Nat → Int32) → (Nat → Int32) → (Nat → Int32) → (Nat → Int32) → (Nat → Int32) → (Nat → Int32) → (Nat → Int32) → (Nat → Int32) → (Nat → Int32) → (Nat → Int32) → (Nat → Int32) → (Nat → Int32) → Prop) (hn : n < 12) (hw : yy_widths v n = nI w) (hw6 : w ≤ 6) (hR : fy_RO v n w E) (hi : i < E.length) (h : ∀ res', (∀ j, (j < 6 * fp_place E i ∨ 6 * fp_place E i + 6 ≤ j) → res' j = yy_result v j) → (∀ j, j < 6 → res' (6 * fp_place E i + j) = yy_rows v (6 * (20 * n + i) + j)) → J22 (nI (i + 1)) (yy_tables v) (yy_held v) (yy_kind v) (yy_left v) (yy_right v) (yy_p v) (yy_q v) (yy_r v) (yy_widths v) (yy_used v) (yy_rows v) (yy_given v) (yy_needed v) (yy_row v) res') : ∀ d j, j + d = E.length → wY_show_37 post J22 (nI n) (nI i) (yy_nodes v) (yy_over v) (yy_resultRows v) (yy_resultWidth v) (yy_tables v) (yy_held v) (yy_kind v) (yy_left v) (yy_right v) (yy_p v) (yy_q v) (yy_r v) (yy_widths v) (yy_used v) (yy_rows v) (yy_given v) (yy_needed v) (yy_row v) (yy_result v) (d + 1) (nI ((List.range j).countP (fp_less E i))) (nI j) := by
  have h20 := hR.2.1
  intro d
  induction d with
  | zero =>
    intro j hj
    refine And.intro (vp_in_nI hn (by decide)) ?_
    rw [fi_cl (by omega : n < 4096), hR.1]
    refine br_t (nI_le (by omega) (by omega)) ⟨7, ?_⟩
    have e : j = E.length := by omega
    subst e
    have hp := fp_place_in E hi
    exact fy_show71 v post J22 (p := fp_place E i) hn (by omega) (by omega) 6 0 (yy_result v) (by omega) fun res' h1 h2 => h res' (fun j hj => h1 j (by omega)) (fun j hj => h2 j (by omega) hj)
  | succ d ih =>
    intro j hj
    refine And.intro (vp_in_nI hn (by decide)) ?_
    rw [fi_cl (by omega : n < 4096), hR.1]
    refine br_f (nI_ge (by omega) (by omega)) ?_
    refine fy_less _ hn hw hw6 hR (by omega : j < E.length) hi ?_
    have hs := fp_cp_s (fp_less E i) j
    cases hc : fp_less E i j with
    | false =>
      rw [hc] at hs
      refine br_t rfl ?_
      intro y ey
      rw [nI_1] at ey
      subst ey
      have := ih (j + 1) (by omega)
      rw [hs] at this
      exact this
    | true =>
      rw [hc] at hs
      refine br_f (by decide) ?_
      intro z ez y ey
      rw [nI_1] at ey ez
      subst ey ez
      have := ih (j + 1) (by omega)
      rw [hs] at this
      exact this
theorem fy_show22 {n w : Nat} {E Z : List fp_Row} (post : SY → Prop) (hn : n < 12) (hw6 : w ≤ 6) (hp : Z.Perm E) (hs : fp_sorted Z) : ∀ d i (v : SY), i + d = E.length → yy_widths v n = nI w → fy_RO v n w E → (∀ i', i' < i → ∀ c, c < w → yy_result v (6 * fp_place E i' + c) = (Z.getD (fp_place E i') []).getD c 0) → (∀ res', (∀ p, p < E.length → ∀ c, c < w → res' (6 * p + c) = (Z.getD p []).getD c 0) → post ((yy_nodes v), (yy_over v), (yy_resultRows v), (yy_resultWidth v), (yy_tables v), (yy_held v), (yy_kind v), (yy_left v), (yy_right v), (yy_p v), (yy_q v), (yy_r v), (yy_widths v), (yy_used v), (yy_rows v), (yy_given v), (yy_needed v), (yy_row v), res')) → wY_show_22 post (nI n) (yy_nodes v) (yy_over v) (yy_resultRows v) (yy_resultWidth v) (d + 1) (nI i) (yy_tables v) (yy_held v) (yy_kind v) (yy_left v) (yy_right v) (yy_p v) (yy_q v) (yy_r v) (yy_widths v) (yy_used v) (yy_rows v) (yy_given v) (yy_needed v) (yy_row v) (yy_result v) := by
  intro d
  induction d with
  | zero =>
    intro i v hi hw hR hI h
    have h20 := hR.2.1
    refine And.intro (vp_in_nI hn (by decide)) ?_
    rw [fi_cl (by omega : n < 4096), hR.1]
    refine br_t (nI_le (by omega) (by omega)) ?_
    refine h (yy_result v) fun p hp1 c hc => ?_
    obtain ⟨i', h1, h2⟩ := fp_place_sur (W := w) E (fun z hz => by
      obtain ⟨k, k1, k2⟩ := fp_gd_of_mem [] hz
      rw [← k2]; exact (hR.2.2 k k1).1) hp1
    have := hI i' (by omega) c hc
    rw [h2] at this
    exact this
  | succ d ih =>
    intro i v hi hw hR hI h
    have h20 := hR.2.1
    have hW : ∀ z, z ∈ E → z.length = w := fun z hz => by
      obtain ⟨k, k1, k2⟩ := fp_gd_of_mem [] hz
      rw [← k2]; exact (hR.2.2 k k1).1
    refine And.intro (vp_in_nI hn (by decide)) ?_
    rw [fi_cl (by omega : n < 4096), hR.1]
    refine br_f (nI_ge (by omega) (by omega)) ⟨E.length + 1, ?_⟩
    have hil : i < E.length := by omega
    refine fy_show37 post _ hn hw hw6 hR hil (fun res' h1 h2 => ?_) E.length 0 (by omega)
    have hat := fp_place_at (W := w) E Z hW hp hs hil
    refine ih (i + 1) ((yy_nodes v), (yy_over v), (yy_resultRows v), (yy_resultWidth v), (yy_tables v), (yy_held v), (yy_kind v), (yy_left v), (yy_right v), (yy_p v), (yy_q v), (yy_r v), (yy_widths v), (yy_used v), (yy_rows v), (yy_given v), (yy_needed v), (yy_row v), res') (by omega) hw hR (fun i' hi' c hc => ?_) h
    show res' _ = _
    by_cases e : fp_place E i' = fp_place E i
    · rw [e, h2 c (by omega), hat]
      exact fy_rat hR hil hc
    · rw [h1 _ (by omega)]
      have hne : i' ≠ i := fun z => e (by rw [z])
      exact hI i' (by omega) c hc
abbrev fy_k (v : SY) : Int32 × (Nat → Int32) × (Nat → Int32) × (Nat → Int32) × (Nat → Int32) × (Nat → Int32) × (Nat → Int32) × (Nat → Int32) × (Nat → Int32) × (Nat → Int32) × (Nat → Int32) := (yy_nodes v, yy_tables v, yy_held v, yy_kind v, yy_left v, yy_right v, yy_p v, yy_q v, yy_r v, yy_widths v, yy_used v)
theorem fy_k_nodes {v v' : SY} (h : fy_k v' = fy_k v) : yy_nodes v' = yy_nodes v := congrArg (fun e => e.1) h
theorem fy_k_tables {v v' : SY} (h : fy_k v' = fy_k v) : yy_tables v' = yy_tables v := congrArg (fun e => e.2.1) h
theorem fy_k_held {v v' : SY} (h : fy_k v' = fy_k v) : yy_held v' = yy_held v := congrArg (fun e => e.2.2.1) h
theorem fy_k_kind {v v' : SY} (h : fy_k v' = fy_k v) : yy_kind v' = yy_kind v := congrArg (fun e => e.2.2.2.1) h
theorem fy_k_left {v v' : SY} (h : fy_k v' = fy_k v) : yy_left v' = yy_left v := congrArg (fun e => e.2.2.2.2.1) h
theorem fy_k_right {v v' : SY} (h : fy_k v' = fy_k v) : yy_right v' = yy_right v := congrArg (fun e => e.2.2.2.2.2.1) h
theorem fy_k_p {v v' : SY} (h : fy_k v' = fy_k v) : yy_p v' = yy_p v := congrArg (fun e => e.2.2.2.2.2.2.1) h
theorem fy_k_q {v v' : SY} (h : fy_k v' = fy_k v) : yy_q v' = yy_q v := congrArg (fun e => e.2.2.2.2.2.2.2.1) h
theorem fy_k_r {v v' : SY} (h : fy_k v' = fy_k v) : yy_r v' = yy_r v := congrArg (fun e => e.2.2.2.2.2.2.2.2.1) h
theorem fy_k_widths {v v' : SY} (h : fy_k v' = fy_k v) : yy_widths v' = yy_widths v := congrArg (fun e => e.2.2.2.2.2.2.2.2.2.1) h
theorem fy_k_used {v v' : SY} (h : fy_k v' = fy_k v) : yy_used v' = yy_used v := congrArg (fun e => e.2.2.2.2.2.2.2.2.2.2) h
theorem fy_show {v : SY} {n w : Nat} {E Z : List fp_Row} (post : SY → Prop) (hn : n < 12) (hw : yy_widths v n = nI w) (hw6 : w ≤ 6) (hR : fy_RO v n w E) (hp : Z.Perm E) (hs : fp_sorted Z) (h : ∀ v', fy_k v' = fy_k v → yy_resultRows v' = nI E.length → yy_resultWidth v' = nI w → (∀ p, p < E.length → ∀ c, c < w → yy_result v' (6 * p + c) = (Z.getD p []).getD c 0) → post v') : wpY_show post v (nI n) := by
  show wpY_show post ((yy_nodes v), (yy_over v), (yy_resultRows v), (yy_resultWidth v), (yy_tables v), (yy_held v), (yy_kind v), (yy_left v), (yy_right v), (yy_p v), (yy_q v), (yy_r v), (yy_widths v), (yy_used v), (yy_rows v), (yy_given v), (yy_needed v), (yy_row v), (yy_result v)) (nI n)
  refine And.intro (vp_in_nI hn (by decide)) ?_
  rw [fi_cl (by omega : n < 4096), hR.1, hw]
  intro rr err
  refine And.intro (vp_in_nI hn (by decide)) ?_
  intro ww eww
  subst err eww
  refine ⟨E.length + 1, ?_⟩
  exact fy_show22 (Z := Z) post hn hw6 hp hs E.length 0 ((yy_nodes v), (yy_over v), (nI E.length), (nI w), (yy_tables v), (yy_held v), (yy_kind v), (yy_left v), (yy_right v), (yy_p v), (yy_q v), (yy_r v), (yy_widths v), (yy_used v), (yy_rows v), (yy_given v), (yy_needed v), (yy_row v), (yy_result v)) (by omega) hw hR (fun i' hi' => by omega) fun res' h1 => h _ rfl rfl rfl h1
end
section
/-! ## marking the nodes that take part -/
def fp_mkA (π : fp_Pl) (j : Nat) (nd : Nat → Int32) : Nat → Int32 := if nd j = 0 then nd else if π.2.1 j < 0 then nd else upd nd (fp_fa π j) 1
def fp_mkB (π : fp_Pl) (j : Nat) (nd : Nat → Int32) : Nat → Int32 := if nd j = 0 then nd else if π.2.2.1 j < 0 then nd else upd nd (fp_sb π j) 1
def fp_Q (π : fp_Pl) (root J n : Nat) : Prop := n = root ∨ ∃ c, J ≤ c ∧ c ≤ root ∧ fp_pl π root c = true ∧ fp_ch π c n
def fp_NI (π : fp_Pl) (m root : Nat) (nd : Nat → Int32) (J : Nat) : Prop := ∀ n, n < m → (nd n ≠ 0 ↔ fp_Q π root J n)
section
variable {π : fp_Pl} {m root : Nat}
theorem fp_Q_pl (C : fp_cx π m root) {j : Nat} (hj : j ≤ root) : fp_Q π root (j + 1) j ↔ fp_pl π root j = true := by
  have hr := C.2
  constructor
  · rintro (e | ⟨c, h1, h2, h3, h4⟩)
    · subst e; exact fp_pl_root π j
    · exact fp_pl_ch C.1 (by omega) h3 h4
  · intro h
    by_cases e : j = root
    · exact Or.inl e
    · obtain ⟨a1, a2⟩ := fp_pl_up C.1 (by omega) h e
      obtain ⟨b1, b2, b3, b4⟩ := fp_chup C.1 (by omega : j < m) a1
      exact Or.inr ⟨_, b1, fp_plm C a2 b2, a2, b4⟩
theorem fp_Q_s (C : fp_cx π m root) {j : Nat} (hj : j ≤ root) (n : Nat) : fp_Q π root j n ↔ (fp_Q π root (j + 1) n ∨ (fp_pl π root j = true ∧ fp_ch π j n)) := by
  constructor
  · rintro (e | ⟨c, h1, h2, h3, h4⟩)
    · exact Or.inl (Or.inl e)
    · by_cases e : c = j
      · subst e; exact Or.inr ⟨h3, h4⟩
      · exact Or.inl (Or.inr ⟨c, by omega, h2, h3, h4⟩)
  · rintro ((e | ⟨c, h1, h2, h3, h4⟩) | ⟨h3, h4⟩)
    · exact Or.inl e
    · exact Or.inr ⟨c, by omega, h2, h3, h4⟩
    · exact Or.inr ⟨j, Nat.le_refl _, hj, h3, h4⟩
theorem fp_u1 {nd : Nat → Int32} {k n : Nat} : upd nd k 1 n ≠ 0 ↔ (nd n ≠ 0 ∨ n = k) := by
  by_cases e : n = k
  · subst e; rw [fi_us]; exact ⟨fun _ => Or.inr rfl, fun _ => by decide⟩
  · rw [fi_un e]; exact ⟨Or.inl, fun h => h.resolve_right e⟩
theorem fp_NI_s (C : fp_cx π m root) {j : Nat} (hj : j ≤ root) {nd : Nat → Int32} (h : fp_NI π m root nd (j + 1)) : fp_NI π m root (fp_mkB π j (fp_mkA π j nd)) j := by
  have hjm : j < m := by have := C.2; omega
  have hm := C.1.1
  obtain ⟨_, _, _, _, _, n1, n2, n3, n4, _⟩ := C.1.2 j hjm
  have hpl := (h j hjm).trans (fp_Q_pl C hj)
  intro n hn
  rw [fp_Q_s C hj n, ← h n hn]
  by_cases c : nd j = 0
  · have hno : ¬ fp_pl π root j = true := fun z => hpl.mpr z c
    have e1 : fp_mkA π j nd = nd := by unfold fp_mkA; rw [if_pos c]
    have e2 : fp_mkB π j nd = nd := by unfold fp_mkB; rw [if_pos c]
    rw [e1, e2]
    exact ⟨Or.inl, fun z => z.resolve_right (fun y => hno y.1)⟩
  · have hyes := hpl.mp c
    have e1 : ∀ n, fp_mkA π j nd n ≠ 0 ↔ (nd n ≠ 0 ∨ (fp_kd π j ≠ 0 ∧ fp_fa π j = n)) := by
      intro n
      unfold fp_mkA
      rw [if_neg c]
      by_cases h0 : fp_kd π j = 0
      · rw [n1 h0, if_pos (by decide)]
        exact ⟨Or.inl, fun z => z.resolve_right (fun y => y.1 h0)⟩
      · have := n2 h0
        rw [this.1, if_neg (nI_pos (by have := this.2.1; omega)), fp_u1]
        exact ⟨fun z => z.elim Or.inl (fun y => Or.inr ⟨h0, y.symm⟩), fun z => z.elim Or.inl (fun y => Or.inr y.2.symm)⟩
    have c2 : ¬ fp_mkA π j nd j = 0 := (e1 j).mpr (Or.inl c)
    have e2 : fp_mkB π j (fp_mkA π j nd) n ≠ 0 ↔ (fp_mkA π j nd n ≠ 0 ∨ (fp_two π j ∧ fp_sb π j = n)) := by
      unfold fp_mkB
      rw [if_neg c2]
      by_cases h0 : fp_two π j
      · have := n4 h0
        rw [this.1, if_neg (nI_pos (by have := this.2.1; omega)), fp_u1]
        exact ⟨fun z => z.elim Or.inl (fun y => Or.inr ⟨h0, y.symm⟩), fun z => z.elim Or.inl (fun y => Or.inr y.2.symm)⟩
      · rw [n3 h0, if_pos (by decide)]
        exact ⟨Or.inl, fun z => z.resolve_right (fun y => h0 y.1)⟩
    rw [e2, e1]
    unfold fp_ch
    constructor
    · rintro ((z | z) | z)
      · exact Or.inl z
      · exact Or.inr ⟨hyes, Or.inl z⟩
      · exact Or.inr ⟨hyes, Or.inr z⟩
    · rintro (z | ⟨_, z | z⟩)
      · exact Or.inl (Or.inl z)
      · exact Or.inl (Or.inr z)
      · exact Or.inr z
theorem fp_NI_0 (C : fp_cx π m root) {nd : Nat → Int32} (h : ∀ n, n < 12 → nd n = if n = root then 1 else 0) : fp_NI π m root nd (root + 1) := by
  intro n hn
  have hm := C.1.1
  rw [h n (by omega)]
  constructor
  · intro z
    by_cases e : n = root
    · exact Or.inl e
    · rw [if_neg e] at z; exact absurd rfl z
  · rintro (e | ⟨c, h1, h2, _⟩)
    · rw [if_pos e]; decide
    · omega
theorem fp_NI_end (C : fp_cx π m root) {nd : Nat → Int32} (h : fp_NI π m root nd 0) {n : Nat} (hn : n < m) : nd n = 0 ↔ ¬ fp_pl π root n = true := by
  have hr := C.2
  have h1 := h n hn
  have hq : fp_Q π root 0 n ↔ fp_pl π root n = true := by
    constructor
    · rintro (e | ⟨c, a1, a2, a3, a4⟩)
      · subst e; exact fp_pl_root π n
      · exact fp_pl_ch C.1 (by omega) a3 a4
    · intro hp
      by_cases e : n = root
      · exact Or.inl e
      · obtain ⟨a1, a2⟩ := fp_pl_up C.1 hn hp e
        obtain ⟨b1, b2, b3, b4⟩ := fp_chup C.1 hn a1
        exact Or.inr ⟨_, Nat.zero_le _, fp_plm C a2 b2, a2, b4⟩
  rw [hq] at h1
  constructor
  · intro z y; exact h1.mpr y z
  · intro z
    exact Classical.byContradiction fun y => z (h1.mp y)
end
theorem fi_b1 : vp_nar .boolean 1 = 1 := rfl
theorem fi_b0 : vp_nar .boolean 0 = 0 := rfl
/-! ## Y: marking -/
theorem fy_r77 {π : fp_Pl} {m root j : Nat} {v : SY} (post : Int32 → SY → Prop) (J43 : Int32 → (Nat → Int32) → (Nat → Int32) → (Nat → Int32) → (Nat → Int32) → (Nat → Int32) → (Nat → Int32) → (Nat → Int32) → (Nat → Int32) → (Nat → Int32) → (Nat → Int32) → (Nat → Int32) → (Nat → Int32) → (Nat → Int32) → (Nat → Int32) → (Nat → Int32) → Prop) (x1 : Int32) (W : fp_WF π m) (P : fy_P π m v) (hj : j < m) (h : J43 (nI j + (-1)) (yy_tables v) (yy_held v) (yy_kind v) (yy_left v) (yy_right v) (yy_p v) (yy_q v) (yy_r v) (yy_widths v) (yy_used v) (yy_rows v) (yy_given v) (fp_mkB π j (yy_needed v)) (yy_row v) (yy_result v)) : wY_run_77 post J43 x1 (nI j) (yy_nodes v) (yy_over v) (yy_resultRows v) (yy_resultWidth v) (yy_tables v) (yy_held v) (yy_kind v) (yy_left v) (yy_right v) (yy_p v) (yy_q v) (yy_r v) (yy_widths v) (yy_used v) (yy_rows v) (yy_given v) (yy_needed v) (yy_row v) (yy_result v) := by
  have hm := W.1
  have hv := vp_in_nI (n := j) (N := 12) (by omega) (by decide)
  obtain ⟨_, _, _, _, _, _, _, n3, n4, _⟩ := W.2 j hj
  refine And.intro hv ?_
  rw [fi_cl (by omega : j < 4096), congrFun P.2.2.2.1 j]
  unfold fp_mkB at h
  refine br_c (fun e => ?_) (fun e => ?_)
  · rw [if_pos e] at h
    intro y ey
    subst ey
    exact h
  · rw [if_neg e] at h
    refine And.intro hv ?_
    refine br_c (fun c => ?_) (fun c => ?_)
    · rw [if_pos c] at h
      intro y ey
      subst ey
      exact h
    · rw [if_neg c] at h
      have h2 : fp_two π j := Classical.byContradiction fun z => c (by rw [n3 z]; decide)
      have := n4 h2
      refine And.intro hv ?_
      rw [this.1, fi_cl (by have := this.2.1; omega), fi_b1]
      refine And.intro (vp_in_nI (by have := this.2.1; omega) (by decide)) ?_
      intro nd end' y ey
      subst end' ey
      exact h
theorem fy_r43 {π : fp_Pl} {m root : Nat} (post : Int32 → SY → Prop) (x1 : Int32) (C : fp_cx π m root) : ∀ j (v : SY), j ≤ root → fy_P π m v → fp_NI π m root (yy_needed v) (j + 1) → (∀ nd, fp_NI π m root nd 0 → ∃ n120, wY_run_120 post x1 n120 0 (yy_nodes v) 0 (yy_resultRows v) (yy_resultWidth v) (yy_tables v) (yy_held v) (yy_kind v) (yy_left v) (yy_right v) (yy_p v) (yy_q v) (yy_r v) (yy_widths v) (yy_used v) (yy_rows v) (yy_given v) nd (yy_row v) (yy_result v)) → wY_run_43 post x1 (yy_nodes v) (yy_over v) (yy_resultRows v) (yy_resultWidth v) (j + 2) (nI j) (yy_tables v) (yy_held v) (yy_kind v) (yy_left v) (yy_right v) (yy_p v) (yy_q v) (yy_r v) (yy_widths v) (yy_used v) (yy_rows v) (yy_given v) (yy_needed v) (yy_row v) (yy_result v) := by
  have hr := C.2
  have hm := C.1.1
  have step : ∀ j (v : SY) (n : Nat), j ≤ root → fy_P π m v → wY_run_43 post x1 (yy_nodes v) (yy_over v) (yy_resultRows v) (yy_resultWidth v) n (nI j + (-1)) (yy_tables v) (yy_held v) (yy_kind v) (yy_left v) (yy_right v) (yy_p v) (yy_q v) (yy_r v) (yy_widths v) (yy_used v) (yy_rows v) (yy_given v) (fp_mkB π j (fp_mkA π j (yy_needed v))) (yy_row v) (yy_result v) → wY_run_43 post x1 (yy_nodes v) (yy_over v) (yy_resultRows v) (yy_resultWidth v) (n + 1) (nI j) (yy_tables v) (yy_held v) (yy_kind v) (yy_left v) (yy_right v) (yy_p v) (yy_q v) (yy_r v) (yy_widths v) (yy_used v) (yy_rows v) (yy_given v) (yy_needed v) (yy_row v) (yy_result v) := by
    intro j v n hj P h
    have hv := vp_in_nI (n := j) (N := 12) (by omega) (by decide)
    obtain ⟨_, _, _, _, _, n1, n2, _⟩ := C.1.2 j (by omega)
    refine br_f (nI_pos (by omega)) (And.intro hv ?_)
    rw [fi_cl (by omega : j < 4096), congrFun P.2.2.1 j]
    refine br_c (fun e => ?_) (fun e => ?_)
    · have e1 : fp_mkA π j (yy_needed v) = yy_needed v := by unfold fp_mkA; rw [if_pos e]
      rw [e1] at h
      exact fy_r77 (root := root) post _ x1 C.1 P (by omega) h
    · refine And.intro hv ?_
      refine br_c (fun c => ?_) (fun c => ?_)
      · have e1 : fp_mkA π j (yy_needed v) = yy_needed v := by unfold fp_mkA; rw [if_neg e, if_pos c]
        rw [e1] at h
        exact fy_r77 (root := root) post _ x1 C.1 P (by omega) h
      · have e1 : fp_mkA π j (yy_needed v) = upd (yy_needed v) (fp_fa π j) 1 := by unfold fp_mkA; rw [if_neg e, if_neg c]
        rw [e1] at h
        have h2 : fp_kd π j ≠ 0 := fun z => c (by rw [n1 z]; decide)
        have := n2 h2
        refine And.intro hv ?_
        rw [this.1, fi_cl (by have := this.2.1; omega : fp_fa π j < 4096), fi_b1]
        refine And.intro (vp_in_nI (by have := this.2.1; omega) (by decide)) ?_
        intro nd end'
        subst end'
        exact fy_r77 (root := root) (v := ((yy_nodes v), (yy_over v), (yy_resultRows v), (yy_resultWidth v), (yy_tables v), (yy_held v), (yy_kind v), (yy_left v), (yy_right v), (yy_p v), (yy_q v), (yy_r v), (yy_widths v), (yy_used v), (yy_rows v), (yy_given v), (upd (yy_needed v) (fp_fa π j) 1), (yy_row v), (yy_result v))) post _ x1 C.1 P (by omega) h
  intro j
  induction j with
  | zero =>
    intro v hj P hN h
    refine step 0 v 1 hj P ?_
    refine br_t (by decide) ?_
    exact h _ (fp_NI_s C hj hN)
  | succ j ih =>
    intro v hj P hN h
    refine step (j + 1) v (j + 2) hj P ?_
    rw [pk_m1]
    exact ih ((yy_nodes v), (yy_over v), (yy_resultRows v), (yy_resultWidth v), (yy_tables v), (yy_held v), (yy_kind v), (yy_left v), (yy_right v), (yy_p v), (yy_q v), (yy_r v), (yy_widths v), (yy_used v), (yy_rows v), (yy_given v), (fp_mkB π (j + 1) (fp_mkA π (j + 1) (yy_needed v))), (yy_row v), (yy_result v)) (by omega) P (fp_NI_s C hj hN) h
theorem fy_r13 {root : Nat} {v : SY} (post : Int32 → SY → Prop) (hr : root < 12) (h : ∀ nd, (∀ n, n < 12 → nd n = if n = root then 1 else 0) → ∃ n43, wY_run_43 post (nI root) (yy_nodes v) (yy_over v) (yy_resultRows v) (yy_resultWidth v) n43 (nI root) (yy_tables v) (yy_held v) (yy_kind v) (yy_left v) (yy_right v) (yy_p v) (yy_q v) (yy_r v) (yy_widths v) (yy_used v) (yy_rows v) (yy_given v) nd (yy_row v) (yy_result v)) : ∀ d i nd, i + d = 12 → (∀ n, n < i → nd n = if n = root then 1 else 0) → wY_run_13 post (nI root) (yy_nodes v) (yy_over v) (yy_resultRows v) (yy_resultWidth v) (d + 1) (nI i) (yy_tables v) (yy_held v) (yy_kind v) (yy_left v) (yy_right v) (yy_p v) (yy_q v) (yy_r v) (yy_widths v) (yy_used v) (yy_rows v) (yy_given v) nd (yy_row v) (yy_result v) := by
  intro d
  induction d with
  | zero =>
    intro i nd hi hn
    have e : i = 12 := by omega
    subst e
    refine br_t (nI_le (a := 12) (b := 12) (Nat.le_refl _) (by decide)) ?_
    exact h nd hn
  | succ d ih =>
    intro i nd hi hn
    refine br_f (nI_ge (b := 12) (by omega) (by decide)) ?_
    rw [fi_cl (by omega : i < 4096), fi_b0, fi_b1, nI_1]
    have hv := vp_in_nI (n := i) (N := 12) (by omega) (by decide)
    refine br_c (fun e => ?_) (fun e => ?_)
    · refine And.intro hv ?_
      intro nd2 e2 y ey
      subst e2 ey
      refine ih (i + 1) _ (by omega) fun n hn2 => ?_
      have er : i = root := (nI_eq (by omega) (by omega)).mp e
      by_cases z : n = i
      · subst z; rw [fi_us, if_pos er]
      · rw [fi_un z]; exact hn n (by omega)
    · refine And.intro hv ?_
      intro nd2 e2 y ey
      subst e2 ey
      refine ih (i + 1) _ (by omega) fun n hn2 => ?_
      have er : i ≠ root := fun z => e (by rw [z])
      by_cases z : n = i
      · subst z; rw [fi_us, if_neg er]
      · rw [fi_un z]; exact hn n (by omega)
end
section
/-! ## Y: a run -/
abbrev fy_q (v : SY) : Int32 × Int32 × Int32 × (Nat → Int32) × (Nat → Int32) × (Nat → Int32) × (Nat → Int32) × (Nat → Int32) × (Nat → Int32) × (Nat → Int32) × (Nat → Int32) × (Nat → Int32) × (Nat → Int32) × (Nat → Int32) := (yy_nodes v, yy_resultRows v, yy_resultWidth v, yy_tables v, yy_held v, yy_kind v, yy_left v, yy_right v, yy_p v, yy_q v, yy_r v, yy_widths v, yy_used v, yy_result v)
theorem fy_q_nodes {v v' : SY} (h : fy_q v' = fy_q v) : yy_nodes v' = yy_nodes v := congrArg (fun e => e.1) h
theorem fy_q_resultRows {v v' : SY} (h : fy_q v' = fy_q v) : yy_resultRows v' = yy_resultRows v := congrArg (fun e => e.2.1) h
theorem fy_q_resultWidth {v v' : SY} (h : fy_q v' = fy_q v) : yy_resultWidth v' = yy_resultWidth v := congrArg (fun e => e.2.2.1) h
theorem fy_q_tables {v v' : SY} (h : fy_q v' = fy_q v) : yy_tables v' = yy_tables v := congrArg (fun e => e.2.2.2.1) h
theorem fy_q_held {v v' : SY} (h : fy_q v' = fy_q v) : yy_held v' = yy_held v := congrArg (fun e => e.2.2.2.2.1) h
theorem fy_q_kind {v v' : SY} (h : fy_q v' = fy_q v) : yy_kind v' = yy_kind v := congrArg (fun e => e.2.2.2.2.2.1) h
theorem fy_q_left {v v' : SY} (h : fy_q v' = fy_q v) : yy_left v' = yy_left v := congrArg (fun e => e.2.2.2.2.2.2.1) h
theorem fy_q_right {v v' : SY} (h : fy_q v' = fy_q v) : yy_right v' = yy_right v := congrArg (fun e => e.2.2.2.2.2.2.2.1) h
theorem fy_q_p {v v' : SY} (h : fy_q v' = fy_q v) : yy_p v' = yy_p v := congrArg (fun e => e.2.2.2.2.2.2.2.2.1) h
theorem fy_q_q {v v' : SY} (h : fy_q v' = fy_q v) : yy_q v' = yy_q v := congrArg (fun e => e.2.2.2.2.2.2.2.2.2.1) h
theorem fy_q_r {v v' : SY} (h : fy_q v' = fy_q v) : yy_r v' = yy_r v := congrArg (fun e => e.2.2.2.2.2.2.2.2.2.2.1) h
theorem fy_q_widths {v v' : SY} (h : fy_q v' = fy_q v) : yy_widths v' = yy_widths v := congrArg (fun e => e.2.2.2.2.2.2.2.2.2.2.2.1) h
theorem fy_q_used {v v' : SY} (h : fy_q v' = fy_q v) : yy_used v' = yy_used v := congrArg (fun e => e.2.2.2.2.2.2.2.2.2.2.2.2.1) h
theorem fy_q_result {v v' : SY} (h : fy_q v' = fy_q v) : yy_result v' = yy_result v := congrArg (fun e => e.2.2.2.2.2.2.2.2.2.2.2.2.2) h
theorem fy_k_fy_q {v v' : SY} (h : fy_q v' = fy_q v) : fy_k v' = fy_k v := congrArg (fun e => (e.1, e.2.2.2.1, e.2.2.2.2.1, e.2.2.2.2.2.1, e.2.2.2.2.2.2.1, e.2.2.2.2.2.2.2.1, e.2.2.2.2.2.2.2.2.1, e.2.2.2.2.2.2.2.2.2.1, e.2.2.2.2.2.2.2.2.2.2.1, e.2.2.2.2.2.2.2.2.2.2.2.1, e.2.2.2.2.2.2.2.2.2.2.2.2.1)) h
theorem fy_q_fy_e {v v' : SY} (h : fy_e v' = fy_e v) : fy_q v' = fy_q v := congrArg (fun e => (e.1, e.2.1, e.2.2.1, e.2.2.2.1, e.2.2.2.2.1, e.2.2.2.2.2.1, e.2.2.2.2.2.2.1, e.2.2.2.2.2.2.2.1, e.2.2.2.2.2.2.2.2.1, e.2.2.2.2.2.2.2.2.2.1, e.2.2.2.2.2.2.2.2.2.2.1, e.2.2.2.2.2.2.2.2.2.2.2.1, e.2.2.2.2.2.2.2.2.2.2.2.2.1, e.2.2.2.2.2.2.2.2.2.2.2.2.2.2)) h
theorem fy_P_q {π : fp_Pl} {m : Nat} {v v' : SY} (h : fy_q v' = fy_q v) (P : fy_P π m v) : fy_P π m v' := by
  obtain ⟨p1, p2, p3, p4, p5, p6⟩ := P
  exact ⟨(fy_q_nodes h).trans p1, (fy_q_kind h).trans p2, (fy_q_left h).trans p3, (fy_q_right h).trans p4, (fy_q_widths h).trans p5, by rw [fy_q_p h, fy_q_q h, fy_q_r h]; exact p6⟩
theorem fy_GV_RO {v : SY} {k w : Nat} {E : List fp_Row} (h20 : E.length ≤ 20) (h : fy_GV v k w E) : fy_RO v k w E ∧ yy_over v = 0 := by
  obtain ⟨h1, h2, h3⟩ := h
  rw [Nat.min_eq_left h20] at h1 h3
  rw [if_pos h20] at h2
  exact ⟨⟨h1, h20, h3⟩, h2⟩
theorem fy_GV_bad {v : SY} {k w : Nat} {E : List fp_Row} (h20 : ¬ E.length ≤ 20) (h : fy_GV v k w E) : ¬ yy_over v = 0 := by
  obtain ⟨h1, h2, h3⟩ := h
  rw [if_neg h20] at h2
  rw [h2]; decide
section
variable {π : fp_Pl} {m root : Nat} (post : Int32 → SY → Prop) (v0 : SY)
theorem fy_r152b {v : SY} (hov : ¬ yy_over v = 0) (h : post (-8) v) : wY_run_152 post (nI root) (yy_nodes v) (yy_over v) (yy_resultRows v) (yy_resultWidth v) (yy_tables v) (yy_held v) (yy_kind v) (yy_left v) (yy_right v) (yy_p v) (yy_q v) (yy_r v) (yy_widths v) (yy_used v) (yy_rows v) (yy_given v) (yy_needed v) (yy_row v) (yy_result v) := br_f hov h
theorem fy_r120 (C : fp_cx π m root) (P0 : fy_P π m v0) (T : fp_TOK (yy_held v0))
    (hbad : fp_bad π root (fp_TB (yy_tables v0) (yy_held v0)) → ∀ v', fy_q v' = fy_q v0 → post (-8) v')
    (hgood : ¬ fp_bad π root (fp_TB (yy_tables v0) (yy_held v0)) → ∃ Z : List fp_Row, Z.Perm (fp_L π (fp_TB (yy_tables v0) (yy_held v0)) root) ∧ fp_sorted Z ∧ ∀ v', fy_k v' = fy_k v0 → yy_resultRows v' = nI Z.length → yy_resultWidth v' = nI (fp_wd π root) → (∀ p, p < Z.length → ∀ c, c < fp_wd π root → yy_result v' (6 * p + c) = (Z.getD p []).getD c 0) → post (nI Z.length) v') :
    ∀ d k v, k + d = root + 1 → fy_q v = fy_q v0 → (∀ n, n < m → (yy_needed v n = 0 ↔ ¬ fp_pl π root n = true)) → yy_over v = 0 → (∀ j, j < k → fp_pl π root j = true → fy_RO v j (fp_wd π j) (fp_L π (fp_TB (yy_tables v0) (yy_held v0)) j)) → wY_run_120 post (nI root) (d + 2) (nI k) (yy_nodes v) (yy_over v) (yy_resultRows v) (yy_resultWidth v) (yy_tables v) (yy_held v) (yy_kind v) (yy_left v) (yy_right v) (yy_p v) (yy_q v) (yy_r v) (yy_widths v) (yy_used v) (yy_rows v) (yy_given v) (yy_needed v) (yy_row v) (yy_result v) := by
  have hr := C.2
  have hm := C.1.1
  intro d
  induction d with
  | zero =>
    intro k v hk he hN hov hI
    have e : k = root + 1 := by omega
    subst e
    refine br_t (nI_lt (by omega) (by omega)) ?_
    refine br_t hov ?_
    have hRr := hI root (by omega) (fp_pl_root π root)
    have hng : ¬ fp_bad π root (fp_TB (yy_tables v0) (yy_held v0)) := by
      rintro ⟨c, c1, c2, c3⟩
      have := (hI c (by omega) c2).2.1
      omega
    obtain ⟨Z, z1, z2, z3⟩ := hgood hng
    have P := fy_P_q he P0
    obtain ⟨k1, k2, k3, k4, k5, k6, k7⟩ := fy_nd C.1 P (by omega : root < m)
    refine fy_show (Z := Z) _ k1 k4 k6 hRr z1 z2 fun v' h1 h2 h3 h4 => ?_
    rw [← z1.length_eq] at h2 h4
    have h5 : fy_k v' = fy_k v0 := h1.trans (fy_k_fy_q he)
    have := z3 v' h5 h2 h3 h4
    show post (yy_resultRows v') v'
    rw [h2]
    exact this
  | succ d ih =>
    intro k v hk he hN hov hI
    have P := fy_P_q he P0
    have hkm : k < m := by omega
    obtain ⟨k1, k2, k3, k4, k5, k6, k7⟩ := fy_nd C.1 P hkm
    refine br_f (nI_nlt (by omega) (by omega)) (br_t hov (And.intro (vp_in_nI k1 (by decide)) ?_))
    rw [fi_cl (by omega : k < 4096)]
    refine br_c (fun e => ?_) (fun e => ?_)
    · intro y ey
      rw [nI_1] at ey
      subst ey
      refine ih (k + 1) v (by omega) he hN hov fun j hj hp => ?_
      by_cases z : j = k
      · subst z; exact absurd hp ((hN j hkm).mp e)
      · exact hI j (by omega) hp
    · have hpk : fp_pl π root k = true := Classical.byContradiction fun z => e ((hN k hkm).mpr z)
      have et : yy_tables v = yy_tables v0 := fy_q_tables he
      have eh : yy_held v = yy_held v0 := fy_q_held he
      refine fy_evaluate _ C.1 P hkm (by rw [eh]; exact T) hov ?_ ?_ fun v' f1 f2 => ?_
      · intro h0
        rw [et, eh]
        have hch : fp_ch π k (fp_fa π k) := Or.inl ⟨h0, rfl⟩
        exact hI _ (fy_ndL C.1 P hkm h0).2 (fp_pl_ch C.1 hkm hpk hch)
      · intro h2
        rw [et, eh]
        have hch : fp_ch π k (fp_sb π k) := Or.inr ⟨h2, rfl⟩
        exact hI _ (fy_ndR C.1 P hkm h2).2 (fp_pl_ch C.1 hkm hpk hch)
      · rw [et, eh] at f2
        have he' : fy_q v' = fy_q v0 := (fy_q_fy_e f1.1).trans he
        intro y ey
        rw [nI_1] at ey
        subst ey
        by_cases h20 : (fp_L π (fp_TB (yy_tables v0) (yy_held v0)) k).length ≤ 20
        · obtain ⟨g1, g2⟩ := fy_GV_RO h20 f2
          refine ih (k + 1) v' (by omega) he' (by rw [fy_e_needed f1.1]; exact hN) g2 fun j hj hp => ?_
          by_cases z : j = k
          · subst z; exact g1
          · exact fy_RO_fr (fy_wd C.1 (by omega)).2 z f1 (hI j (by omega) hp)
        · have hb : fp_bad π root (fp_TB (yy_tables v0) (yy_held v0)) := ⟨k, by omega, hpk, by omega⟩
          have hov' := fy_GV_bad h20 f2
          have hp := fy_r152b (root := root) post hov' (hbad hb v' he')
          by_cases z : root < k + 1
          · exact br_t (nI_lt z (by omega)) hp
          · exact br_f (nI_nlt (by omega) (by omega)) (br_f hov' hp)
theorem fy_run (C : fp_cx π m root) (P0 : fy_P π m v0) (T : fp_TOK (yy_held v0))
    (hbad : fp_bad π root (fp_TB (yy_tables v0) (yy_held v0)) → ∀ v', fy_q v' = fy_q v0 → post (-8) v')
    (hgood : ¬ fp_bad π root (fp_TB (yy_tables v0) (yy_held v0)) → ∃ Z : List fp_Row, Z.Perm (fp_L π (fp_TB (yy_tables v0) (yy_held v0)) root) ∧ fp_sorted Z ∧ ∀ v', fy_k v' = fy_k v0 → yy_resultRows v' = nI Z.length → yy_resultWidth v' = nI (fp_wd π root) → (∀ p, p < Z.length → ∀ c, c < fp_wd π root → yy_result v' (6 * p + c) = (Z.getD p []).getD c 0) → post (nI Z.length) v') :
    wpY_run post v0 (nI root) := by
  have hr := C.2
  have hm := C.1.1
  show wpY_run post ((yy_nodes v0), (yy_over v0), (yy_resultRows v0), (yy_resultWidth v0), (yy_tables v0), (yy_held v0), (yy_kind v0), (yy_left v0), (yy_right v0), (yy_p v0), (yy_q v0), (yy_r v0), (yy_widths v0), (yy_used v0), (yy_rows v0), (yy_given v0), (yy_needed v0), (yy_row v0), (yy_result v0)) (nI root)
  refine br_f (nI_pos (by omega)) (br_t ?_ (br_t rfl ⟨13, ?_⟩))
  · rw [P0.1]; exact nI_lt (by omega) (by omega)
  · refine fy_r13 (v := v0) post (by omega) (fun nd hnd => ⟨root + 2, ?_⟩) 12 0 (yy_needed v0) (by omega) (fun n hn => by omega)
    refine fy_r43 post (nI root) C root ((yy_nodes v0), (yy_over v0), (yy_resultRows v0), (yy_resultWidth v0), (yy_tables v0), (yy_held v0), (yy_kind v0), (yy_left v0), (yy_right v0), (yy_p v0), (yy_q v0), (yy_r v0), (yy_widths v0), (yy_used v0), (yy_rows v0), (yy_given v0), nd, (yy_row v0), (yy_result v0)) (Nat.le_refl _) P0 (fp_NI_0 C hnd) fun nd2 hnd2 => ⟨root + 1 + 2, ?_⟩
    exact fy_r120 post v0 C P0 T hbad hgood (root + 1) 0 ((yy_nodes v0), 0, (yy_resultRows v0), (yy_resultWidth v0), (yy_tables v0), (yy_held v0), (yy_kind v0), (yy_left v0), (yy_right v0), (yy_p v0), (yy_q v0), (yy_r v0), (yy_widths v0), (yy_used v0), (yy_rows v0), (yy_given v0), nd2, (yy_row v0), (yy_result v0)) (by omega) rfl (fun n hn => fp_NI_end C hnd2 hn) rfl (fun j hj => by omega)
theorem fy_run_no {v : SY} (x : Int32) (hx : x < 0 ∨ ¬ x < yy_nodes v) (h : post (-3) v) : wpY_run post v x := by
  show wpY_run post ((yy_nodes v), (yy_over v), (yy_resultRows v), (yy_resultWidth v), (yy_tables v), (yy_held v), (yy_kind v), (yy_left v), (yy_right v), (yy_p v), (yy_q v), (yy_r v), (yy_widths v), (yy_used v), (yy_rows v), (yy_given v), (yy_needed v), (yy_row v), (yy_result v)) x
  by_cases c : x < 0
  · exact br_t c (br_f (by decide) h)
  · exact br_f c (br_f (hx.resolve_left c) (br_f (by decide) h))
end
end
section
/-! ## X: areas of gathered rows with their hash chains -/
def fx_h (x : Int32) : Nat := x.toBitVec.toNat % 2 ^ 3
theorem fx_and (x : Int32) : x &&& 7 = nI (fx_h x) := pk_and x 3 rfl
theorem fx_h8 (x : Int32) : fx_h x < 8 := Nat.mod_lt _ (by decide)
def fx_li (h : Nat → Nat) : Nat → Nat → Int32
  | 0, _ => -1
  | n + 1, b => if h n = b then nI n else fx_li h n b
def fx_hs (S : List fp_Row) (kc i : Nat) : Nat := fx_h (fp_cl S kc i)
def fx_AR (st sr hd ch : Nat → Int32) (a : Nat) (S : List fp_Row) (w kc : Nat) : Prop :=
  S.length ≤ 20 ∧ sr a = nI S.length ∧ (∀ i, i < S.length → (S.getD i []).length = w ∧ ∀ c, c < w → st (120 * a + 6 * i + c) = (S.getD i []).getD c 0) ∧
  (∀ b, b < 8 → hd (8 * a + b) = fx_li (fx_hs S kc) S.length b) ∧ (∀ i, i < S.length → ch (20 * a + i) = fx_li (fx_hs S kc) i (fx_hs S kc i))
theorem fx_li_cg {h h' : Nat → Nat} : ∀ n b, (∀ i, i < n → h i = h' i) → fx_li h n b = fx_li h' n b := by
  intro n
  induction n with
  | zero => intro b _; rfl
  | succ n ih =>
    intro b hh
    unfold fx_li
    rw [hh n (by omega), ih b fun i hi => hh i (by omega)]
theorem fx_AR_fr {st sr hd ch st' sr' hd' ch' : Nat → Int32} {a a' w kc : Nat} {S : List fp_Row} (hne : a ≠ a') (hw : w ≤ 6)
    (h1 : ∀ i, (i < 120 * a' ∨ 120 * a' + 120 ≤ i) → st' i = st i) (h2 : ∀ i, i ≠ a' → sr' i = sr i)
    (h3 : ∀ i, (i < 8 * a' ∨ 8 * a' + 8 ≤ i) → hd' i = hd i) (h4 : ∀ i, (i < 20 * a' ∨ 20 * a' + 20 ≤ i) → ch' i = ch i)
    (h : fx_AR st sr hd ch a S w kc) : fx_AR st' sr' hd' ch' a S w kc := by
  obtain ⟨q1, q2, q3, q4, q5⟩ := h
  refine ⟨q1, by rw [h2 a hne]; exact q2, fun i hi => ⟨(q3 i hi).1, fun c hc => ?_⟩, fun b hb => ?_, fun i hi => ?_⟩
  · rw [h1 _ (by omega)]; exact (q3 i hi).2 c hc
  · rw [h3 _ (by omega)]; exact q4 b hb
  · rw [h4 _ (by omega)]; exact q5 i hi
def fx_fi (o : Option Nat) : Int32 := match o with
  | none => -1
  | some i => nI i
theorem fx_fm6 {u : SX} {a w kc : Nat} {S : List fp_Row} {key : Int32} (post : Int32 → Prop) (ha : a < 13) (hw : w ≤ 6) (hkc : kc < w) (hA : fx_AR (xx_store u) (xx_storeRows u) (xx_heads u) (xx_chain u) a S w kc) : ∀ N step nf, N ≤ S.length → N + step ≤ 20 → N < nf → post (fx_fi (fp_fm (fp_cl S kc) key N)) → wX_findMatch_6 post (nI a) key (nI kc) (xx_nodes u) (xx_root u) (xx_codeLength u) (xx_mapWidth u) (xx_registersUsed u) (xx_depth u) (xx_overflow u) (xx_resultWidth u) (xx_resultRows u) (xx_tableCells u) (xx_tableRows u) (xx_kindOf u) (xx_first u) (xx_second u) (xx_p u) (xx_q u) (xx_r u) (xx_widthOf u) (xx_parent u) (xx_inPlan u) (xx_given u) (xx_store u) (xx_storeRows u) (xx_heads u) (xx_chain u) (xx_op u) (xx_opA u) (xx_opB u) (xx_opC u) (xx_opD u) (xx_opE u) (xx_map u) (xx_picked u) (xx_register u) (xx_loopAt u) (xx_loopCode u) (xx_result u) (xx_order u) nf (fx_li (fx_hs S kc) N (fx_h key)) (nI step) := by
  obtain ⟨q1, q2, q3, q4, q5⟩ := hA
  intro N
  induction N with
  | zero =>
    intro step nf h1 h2 h3 hp
    cases nf with
    | zero => omega
    | succ nf =>
      refine br_c (fun _ => hp) (fun _ => ?_)
      exact br_t (show (-1 : Int32) < 0 by decide) hp
  | succ N ih =>
    intro step nf h1 h2 h3 hp
    by_cases e : fx_hs S kc N = fx_h key
    · have el : fx_li (fx_hs S kc) (N + 1) (fx_h key) = nI N := by unfold fx_li; rw [if_pos e]
      rw [el]
      cases nf with
      | zero => omega
      | succ nf =>
        refine br_f (nI_ge (b := 20) (by omega) (by decide)) (br_f (nI_pos (by omega)) ?_)
        rw [fi_s, fi_c, fi_cl (by omega), fi_cl (by omega)]
        refine And.intro (vp_in_nI (by omega) (by decide)) ?_
        rw [(q3 N (by omega)).2 kc hkc]
        unfold fp_fm at hp
        refine br_c (fun c => ?_) (fun c => ?_)
        · rw [if_pos (show fp_cl S kc N = key from c)] at hp; exact hp
        · rw [if_neg (show ¬ fp_cl S kc N = key from c)] at hp
          refine And.intro (vp_in_nI (by omega) (by decide)) ?_
          rw [q5 N (by omega), e, nI_1]
          intro y ey z ez
          subst ey ez
          exact ih (step + 1) nf (by omega) (by omega) (by omega) hp
    · have el : fx_li (fx_hs S kc) (N + 1) (fx_h key) = fx_li (fx_hs S kc) N (fx_h key) := by rw [fx_li, if_neg e]
      rw [el]
      refine ih step nf (by omega) (by omega) (by omega) ?_
      have hne : ¬ fp_cl S kc N = key := fun z => e (by unfold fx_hs; rw [z])
      rw [fp_fm, if_neg hne] at hp
      exact hp
theorem fx_findMatch {u : SX} {a w kc N : Nat} {S : List fp_Row} {key : Int32} (post : Int32 → Prop) (ha : a < 13) (hw : w ≤ 6) (hkc : kc < w) (hA : fx_AR (xx_store u) (xx_storeRows u) (xx_heads u) (xx_chain u) a S w kc) (hN : N ≤ S.length) (hp : post (fx_fi (fp_fm (fp_cl S kc) key N))) : wpX_findMatch post u (nI a) (fx_li (fx_hs S kc) N (fx_h key)) key (nI kc) :=
  ⟨N + 1, fx_fm6 post ha hw hkc hA N 0 (N + 1) hN (by have := hA.1; omega) (by omega) hp⟩
theorem fx_fm_any (S : List fp_Row) (kc : Nat) (key : Int32) : (S.any (fun y => decide (y.getD kc 0 = key)) = true) ↔ ∃ i, fp_fm (fp_cl S kc) key S.length = some i := by
  constructor
  · intro h
    cases e : fp_fm (fp_cl S kc) key S.length with
    | some i => exact ⟨i, rfl⟩
    | none =>
      obtain ⟨y, hy, hk⟩ := List.any_eq_true.mp h
      obtain ⟨i, hi, ei⟩ := fp_gd_of_mem [] hy
      refine absurd ?_ (fp_fm_none e i hi)
      unfold fp_cl; rw [ei]; exact of_decide_eq_true hk
  · rintro ⟨i, hi⟩
    obtain ⟨h1, h2, _⟩ := fp_fm_some hi
    refine List.any_eq_true.mpr ⟨S.getD i [], fp_gd_mem S [] h1, decide_eq_true h2⟩
theorem fx_matches {u : SX} {a w kc : Nat} {S : List fp_Row} {key : Int32} (post : Int32 → Prop) (ha : a < 13) (hw : w ≤ 6) (hkc : kc < w) (hA : fx_AR (xx_store u) (xx_storeRows u) (xx_heads u) (xx_chain u) a S w kc) (hp : post (if S.any (fun y => decide (y.getD kc 0 = key)) then 1 else 0)) : wpX_matches post u (nI a) key (nI kc) := by
  show wpX_matches post ((xx_nodes u), (xx_root u), (xx_codeLength u), (xx_mapWidth u), (xx_registersUsed u), (xx_depth u), (xx_overflow u), (xx_resultWidth u), (xx_resultRows u), (xx_tableCells u), (xx_tableRows u), (xx_kindOf u), (xx_first u), (xx_second u), (xx_p u), (xx_q u), (xx_r u), (xx_widthOf u), (xx_parent u), (xx_inPlan u), (xx_given u), (xx_store u), (xx_storeRows u), (xx_heads u), (xx_chain u), (xx_op u), (xx_opA u), (xx_opB u), (xx_opC u), (xx_opD u), (xx_opE u), (xx_map u), (xx_picked u), (xx_register u), (xx_loopAt u), (xx_loopCode u), (xx_result u), (xx_order u)) (nI a) key (nI kc)
  unfold wpX_matches
  dsimp only
  have h8 := fx_h8 key
  have h20 := hA.1
  rw [fx_and, fi_h, fi_cl (by omega), hA.2.2.2.1 _ h8]
  refine ⟨vp_in_nI (by omega) (by decide), ?_⟩
  refine fx_findMatch _ ha hw hkc hA (Nat.le_refl _) ?_
  cases e : fp_fm (fp_cl S kc) key S.length with
  | none =>
    refine br_t (by decide) ?_
    rw [if_neg] at hp
    · exact hp
    · rw [fx_fm_any]; rintro ⟨i, hi⟩; rw [e] at hi; cases hi
  | some i =>
    have := (fp_fm_some e).1
    refine br_f (nI_pos (n := i) (by omega)) ?_
    rw [if_pos ((fx_fm_any S kc key).mpr ⟨i, e⟩)] at hp
    exact hp
/-! ## X: comparing, reckoning -/
theorem fx_compare (post : Int32 → Prop) (x k y : Int32) (h : post (if fp_cmp x k y then 1 else 0)) : wpX_compare post x k y := fy_holds post x k y h
theorem fx_calculate (post : Int32 → Prop) (o x y : Int32) (h : post (fp_calc o x y)) : wpX_calculate post o x y := by
  unfold wpX_calculate
  unfold fp_calc at h
  refine br_c (fun e => ?_) (fun e => ?_)
  · rw [if_pos e] at h; exact h
  rw [if_neg e] at h
  refine br_c (fun e => ?_) (fun e => ?_)
  · rw [if_pos e] at h; exact h
  rw [if_neg e] at h
  refine br_c (fun e => ?_) (fun e => ?_)
  · rw [if_pos e] at h; exact h
  rw [if_neg e] at h
  refine br_c (fun c => ?_) (fun c => ?_)
  · have c' : ¬ x < y := Int32.not_lt.mpr c
    rw [if_neg c', if_neg c'] at h
    refine br_c (fun e => ?_) (fun e => ?_)
    · rw [if_pos e] at h
      exact br_f (by decide) h
    · rw [if_neg e] at h
      exact br_t rfl h
  · have c' : x < y := Int32.not_le.mp c
    rw [if_pos c', if_pos c'] at h
    refine br_c (fun e => ?_) (fun e => ?_)
    · rw [if_pos e] at h
      exact br_t rfl h
    · rw [if_neg e] at h
      exact br_f (by decide) h
theorem fx_combine (post : Int32 → Prop) (fn x y : Int32) (h : post (fp_comb fn x y)) : wpX_combine post fn x y := by
  unfold wpX_combine
  unfold fp_comb at h
  refine br_c (fun e => ?_) (fun e => ?_)
  · rw [if_pos e] at h; exact h
  rw [if_neg e] at h
  refine br_c (fun e => ?_) (fun e => ?_)
  · rw [if_pos e] at h; exact h
  rw [if_neg e] at h
  exact fx_calculate _ _ _ _ h
/-! ## X: loading a stored row -/
theorem fx_ls3 {u : SX} {a i w b : Nat} (post : SX → Prop) (ha : a < 13) (hi : i < 20) (hw : w ≤ 6) (hb : b + w ≤ 96) : ∀ d c reg, c + d = w → (∀ reg', (∀ j, (j < b + c ∨ b + w ≤ j) → reg' j = reg j) → (∀ j, c ≤ j → j < w → reg' (b + j) = xx_store u (120 * a + 6 * i + j)) → post ((xx_nodes u), (xx_root u), (xx_codeLength u), (xx_mapWidth u), (xx_registersUsed u), (xx_depth u), (xx_overflow u), (xx_resultWidth u), (xx_resultRows u), (xx_tableCells u), (xx_tableRows u), (xx_kindOf u), (xx_first u), (xx_second u), (xx_p u), (xx_q u), (xx_r u), (xx_widthOf u), (xx_parent u), (xx_inPlan u), (xx_given u), (xx_store u), (xx_storeRows u), (xx_heads u), (xx_chain u), (xx_op u), (xx_opA u), (xx_opB u), (xx_opC u), (xx_opD u), (xx_opE u), (xx_map u), (xx_picked u), reg', (xx_loopAt u), (xx_loopCode u), (xx_result u), (xx_order u))) → wX_loadStored_3 post (nI a) (nI i) (nI b) (nI w) (xx_nodes u) (xx_root u) (xx_codeLength u) (xx_mapWidth u) (xx_registersUsed u) (xx_depth u) (xx_overflow u) (xx_resultWidth u) (xx_resultRows u) (d + 1) (nI c) (xx_tableCells u) (xx_tableRows u) (xx_kindOf u) (xx_first u) (xx_second u) (xx_p u) (xx_q u) (xx_r u) (xx_widthOf u) (xx_parent u) (xx_inPlan u) (xx_given u) (xx_store u) (xx_storeRows u) (xx_heads u) (xx_chain u) (xx_op u) (xx_opA u) (xx_opB u) (xx_opC u) (xx_opD u) (xx_opE u) (xx_map u) (xx_picked u) reg (xx_loopAt u) (xx_loopCode u) (xx_result u) (xx_order u) := by
  intro d
  induction d with
  | zero =>
    intro c reg hc h
    refine br_t (nI_le (by omega) (by omega)) ?_
    exact h reg (fun j _ => rfl) (fun j h1 h2 => by omega)
  | succ d ih =>
    intro c reg hc h
    refine br_f (nI_ge (by omega) (by omega)) ?_
    rw [fi_s, fi_cl (by omega), nI_add, fi_cl (by omega), nI_1]
    refine And.intro (vp_in_nI (by omega) (by decide)) (And.intro (vp_in_nI (by omega) (by decide)) ?_)
    intro reg2 e2 c2 ec2
    subst e2 ec2
    refine ih (c + 1) _ (by omega) fun reg' h1 h2 => h reg' (fun j hj => ?_) (fun j hj1 hj2 => ?_)
    · rw [h1 j (by omega), fi_un (by omega)]
    · by_cases e : j = c
      · subst e
        rw [h1 _ (by omega), fi_us]
      · exact h2 j (by omega) hj2
theorem fx_loadStored {u : SX} {a i w b : Nat} (post : SX → Prop) (ha : a < 13) (hi : i < 20) (hw : w ≤ 6) (hb : b + w ≤ 96) (h : ∀ reg', (∀ j, (j < b ∨ b + w ≤ j) → reg' j = xx_register u j) → (∀ j, j < w → reg' (b + j) = xx_store u (120 * a + 6 * i + j)) → post ((xx_nodes u), (xx_root u), (xx_codeLength u), (xx_mapWidth u), (xx_registersUsed u), (xx_depth u), (xx_overflow u), (xx_resultWidth u), (xx_resultRows u), (xx_tableCells u), (xx_tableRows u), (xx_kindOf u), (xx_first u), (xx_second u), (xx_p u), (xx_q u), (xx_r u), (xx_widthOf u), (xx_parent u), (xx_inPlan u), (xx_given u), (xx_store u), (xx_storeRows u), (xx_heads u), (xx_chain u), (xx_op u), (xx_opA u), (xx_opB u), (xx_opC u), (xx_opD u), (xx_opE u), (xx_map u), (xx_picked u), reg', (xx_loopAt u), (xx_loopCode u), (xx_result u), (xx_order u))) : wpX_loadStored post u (nI a) (nI i) (nI b) (nI w) :=
  ⟨w + 1, fx_ls3 post ha hi hw hb w 0 (xx_register u) (by omega) fun reg' h1 h2 => h reg' (fun j hj => h1 j (by omega)) (fun j hj => h2 j (by omega) hj)⟩
end
section
/-! ## X: gathering a row -/
def fx_MP (u : SX) (mp : List Nat) : Prop := xx_mapWidth u = nI mp.length ∧ mp.length ≤ 6 ∧ ∀ k, k < mp.length → xx_map u k = nI (mp.getD k 0) ∧ mp.getD k 0 < 96
def fx_RP (reg : Nat → Int32) (mp : List Nat) (x : fp_Row) : Prop := x.length = mp.length ∧ ∀ k, k < mp.length → reg (mp.getD k 0) = x.getD k 0
def fx_FA (a : Nat) (st sr hd ch st' sr' hd' ch' : Nat → Int32) : Prop :=
  (∀ i, (i < 120 * a ∨ 120 * a + 120 ≤ i) → st' i = st i) ∧ (∀ i, i ≠ a → sr' i = sr i) ∧
  (∀ i, (i < 8 * a ∨ 8 * a + 8 ≤ i) → hd' i = hd i) ∧ (∀ i, (i < 20 * a ∨ 20 * a + 20 ≤ i) → ch' i = ch i)
theorem fx_AR_app {st sr hd ch st' : Nat → Int32} {a w kc : Nat} {S : List fp_Row} {x : fp_Row} (hw : w ≤ 6) (hkc : kc < w) (hA : fx_AR st sr hd ch a S w kc) (h20 : S.length < 20) (hx : x.length = w)
    (h1 : ∀ i, (i < 120 * a + 6 * S.length ∨ 120 * a + 6 * S.length + w ≤ i) → st' i = st i) (h2 : ∀ c, c < w → st' (120 * a + 6 * S.length + c) = x.getD c 0) :
    fx_AR st' (upd sr a (nI (S.length + 1))) (upd hd (8 * a + fx_h (x.getD kc 0)) (nI S.length)) (upd ch (20 * a + S.length) (hd (8 * a + fx_h (x.getD kc 0)))) a (S ++ [x]) w kc := by
  obtain ⟨q1, q2, q3, q4, q5⟩ := hA
  have hl : (S ++ [x]).length = S.length + 1 := by rw [List.length_append]; rfl
  have hs1 : ∀ i, i < S.length → fx_hs (S ++ [x]) kc i = fx_hs S kc i := by
    intro i hi; unfold fx_hs fp_cl; rw [fp_gd_app _ _ _ hi]
  have hs2 : fx_hs (S ++ [x]) kc S.length = fx_h (x.getD kc 0) := by
    unfold fx_hs fp_cl; rw [fp_gd_last]
  have h8 := fx_h8 (x.getD kc 0)
  refine ⟨by omega, by rw [fi_us, hl], fun i hi => ?_, fun b hb => ?_, fun i hi => ?_⟩
  · rw [hl] at hi
    by_cases e : i = S.length
    · subst e
      rw [fp_gd_last]
      exact ⟨hx, h2⟩
    · rw [fp_gd_app _ _ _ (by omega)]
      refine ⟨(q3 i (by omega)).1, fun c hc => ?_⟩
      rw [h1 _ (by omega)]
      exact (q3 i (by omega)).2 c hc
  · rw [hl, fx_li, hs2]
    by_cases e : fx_h (x.getD kc 0) = b
    · rw [if_pos e, e, fi_us]
    · rw [if_neg e, fi_un (by omega), q4 b hb]
      exact fx_li_cg _ _ fun i hi => (hs1 i hi).symm
  · rw [hl] at hi
    by_cases e : i = S.length
    · subst e
      rw [fi_us, hs2, q4 _ h8]
      exact fx_li_cg _ _ fun i hi => (hs1 i hi).symm
    · rw [fi_un (by omega), q5 i (by omega), hs1 i (by omega)]
      exact fx_li_cg _ _ fun j hj => (hs1 j (by omega)).symm
theorem fx_link {u : SX} {a i : Nat} {key : Int32} (post : SX → Prop) (ha : a < 13) (hi : i < 20) (h : post ((xx_nodes u), (xx_root u), (xx_codeLength u), (xx_mapWidth u), (xx_registersUsed u), (xx_depth u), (xx_overflow u), (xx_resultWidth u), (xx_resultRows u), (xx_tableCells u), (xx_tableRows u), (xx_kindOf u), (xx_first u), (xx_second u), (xx_p u), (xx_q u), (xx_r u), (xx_widthOf u), (xx_parent u), (xx_inPlan u), (xx_given u), (xx_store u), (xx_storeRows u), (upd (xx_heads u) (8 * a + fx_h key) (nI i)), (upd (xx_chain u) (20 * a + i) (xx_heads u (8 * a + fx_h key))), (xx_op u), (xx_opA u), (xx_opB u), (xx_opC u), (xx_opD u), (xx_opE u), (xx_map u), (xx_picked u), (xx_register u), (xx_loopAt u), (xx_loopCode u), (xx_result u), (xx_order u))) : wpX_link post u (nI a) (nI i) key := by
  show wpX_link post ((xx_nodes u), (xx_root u), (xx_codeLength u), (xx_mapWidth u), (xx_registersUsed u), (xx_depth u), (xx_overflow u), (xx_resultWidth u), (xx_resultRows u), (xx_tableCells u), (xx_tableRows u), (xx_kindOf u), (xx_first u), (xx_second u), (xx_p u), (xx_q u), (xx_r u), (xx_widthOf u), (xx_parent u), (xx_inPlan u), (xx_given u), (xx_store u), (xx_storeRows u), (xx_heads u), (xx_chain u), (xx_op u), (xx_opA u), (xx_opB u), (xx_opC u), (xx_opD u), (xx_opE u), (xx_map u), (xx_picked u), (xx_register u), (xx_loopAt u), (xx_loopCode u), (xx_result u), (xx_order u)) (nI a) (nI i) key
  unfold wpX_link
  dsimp only
  have h8 := fx_h8 key
  rw [fx_and, fi_h, fi_c]
  intro x4 e4
  subst e4
  rw [fi_cl (by omega), fi_cl (by omega)]
  refine ⟨vp_in_nI (by omega) (by decide), vp_in_nI (by omega) (by decide), ?_⟩
  intro ch ech
  refine ⟨vp_in_nI (by omega) (by decide), ?_⟩
  intro hd ehd
  subst ech ehd
  exact h
theorem fx_k33 {u : SX} {a w kc : Nat} {S : List fp_Row} {x : fp_Row} {mp : List Nat} (post : SX → Prop) (ha : a < 13) (hw : w ≤ 6) (hkc : kc < w) (hA : fx_AR (xx_store u) (xx_storeRows u) (xx_heads u) (xx_chain u) a S w kc) (h20 : S.length < 20) (hx : x.length = w) (hM : fx_MP u mp) (hR : fx_RP (xx_register u) mp x)
    (h : ∀ st' sr' hd' ch', fx_FA a (xx_store u) (xx_storeRows u) (xx_heads u) (xx_chain u) st' sr' hd' ch' → fx_AR st' sr' hd' ch' a (S ++ [x]) w kc → post ((xx_nodes u), (xx_root u), (xx_codeLength u), (xx_mapWidth u), (xx_registersUsed u), (xx_depth u), (xx_overflow u), (xx_resultWidth u), (xx_resultRows u), (xx_tableCells u), (xx_tableRows u), (xx_kindOf u), (xx_first u), (xx_second u), (xx_p u), (xx_q u), (xx_r u), (xx_widthOf u), (xx_parent u), (xx_inPlan u), (xx_given u), st', sr', hd', ch', (xx_op u), (xx_opA u), (xx_opB u), (xx_opC u), (xx_opD u), (xx_opE u), (xx_map u), (xx_picked u), (xx_register u), (xx_loopAt u), (xx_loopCode u), (xx_result u), (xx_order u))) :
    ∀ d c st, c + d = w → (∀ i, (i < 120 * a + 6 * S.length ∨ 120 * a + 6 * S.length + c ≤ i) → st i = xx_store u i) → (∀ j, j < c → st (120 * a + 6 * S.length + j) = x.getD j 0) → wX_keep_33 post (nI a) (nI kc) (nI S.length) (nI (120 * a + 6 * S.length)) (xx_nodes u) (xx_root u) (xx_codeLength u) (xx_mapWidth u) (xx_registersUsed u) (xx_depth u) (xx_overflow u) (xx_resultWidth u) (xx_resultRows u) (d + 1) (nI c) (xx_tableCells u) (xx_tableRows u) (xx_kindOf u) (xx_first u) (xx_second u) (xx_p u) (xx_q u) (xx_r u) (xx_widthOf u) (xx_parent u) (xx_inPlan u) (xx_given u) st (xx_storeRows u) (xx_heads u) (xx_chain u) (xx_op u) (xx_opA u) (xx_opB u) (xx_opC u) (xx_opD u) (xx_opE u) (xx_map u) (xx_picked u) (xx_register u) (xx_loopAt u) (xx_loopCode u) (xx_result u) (xx_order u) := by
  have hmw : mp.length = w := by rw [← hR.1]; exact hx
  intro d
  induction d with
  | zero =>
    intro c st hc h1 h2
    have e : c = w := by omega
    subst e
    refine br_t (by rw [hM.1]; exact nI_le (by omega) (by omega)) ?_
    rw [nI_add, fi_cl (by omega : 120 * a + 6 * S.length + kc < 4096)]
    refine And.intro (vp_in_nI (by omega) (by decide)) ?_
    rw [h2 kc hkc]
    refine fx_link _ ha h20 ?_
    refine And.intro (vp_in_nI ha (by decide)) ?_
    rw [fi_cl (by omega : a < 4096), nI_1]
    intro sr esr
    subst esr
    have h8 := fx_h8 (x.getD kc 0)
    refine h _ _ _ _ ⟨fun i hi => h1 i (by omega), fun i hi => fi_un hi, fun i hi => fi_un (by omega), fun i hi => fi_un (by omega)⟩ ?_
    exact fx_AR_app hw hkc hA h20 hx (fun i hi => h1 i hi) h2
  | succ d ih =>
    intro c st hc h1 h2
    refine br_f (by rw [hM.1]; exact nI_ge (by omega) (by omega)) ?_
    have hmc := hM.2.2 c (by omega)
    rw [fi_cl (by omega : c < 4096), hmc.1, fi_cl (by have := hmc.2; omega), nI_add, fi_cl (by omega), nI_1]
    refine And.intro (vp_in_nI (by omega) (by decide)) (And.intro (vp_in_nI hmc.2 (by decide)) (And.intro (vp_in_nI (by omega) (by decide)) ?_))
    intro st2 e2 c2 ec2
    subst e2 ec2
    refine ih (c + 1) _ (by omega) (fun i hi => ?_) (fun j hj => ?_)
    · rw [fi_un (by omega)]; exact h1 i (by omega)
    · by_cases e : j = c
      · subst e; rw [fi_us]; exact hR.2 j (by omega)
      · rw [fi_un (by omega)]; exact h2 j (by omega)
theorem fx_keep {u : SX} {a w kc : Nat} {S : List fp_Row} {x : fp_Row} {mp : List Nat} (post : SX → Prop) (ha : a < 13) (hw : w ≤ 6) (hkc : kc < w) (hA : fx_AR (xx_store u) (xx_storeRows u) (xx_heads u) (xx_chain u) a S w kc) (hx : x.length = w) (hM : fx_MP u mp) (hR : fx_RP (xx_register u) mp x)
    (h : S.length < 20 → ∀ st' sr' hd' ch', fx_FA a (xx_store u) (xx_storeRows u) (xx_heads u) (xx_chain u) st' sr' hd' ch' → fx_AR st' sr' hd' ch' a (S ++ [x]) w kc → post ((xx_nodes u), (xx_root u), (xx_codeLength u), (xx_mapWidth u), (xx_registersUsed u), (xx_depth u), (xx_overflow u), (xx_resultWidth u), (xx_resultRows u), (xx_tableCells u), (xx_tableRows u), (xx_kindOf u), (xx_first u), (xx_second u), (xx_p u), (xx_q u), (xx_r u), (xx_widthOf u), (xx_parent u), (xx_inPlan u), (xx_given u), st', sr', hd', ch', (xx_op u), (xx_opA u), (xx_opB u), (xx_opC u), (xx_opD u), (xx_opE u), (xx_map u), (xx_picked u), (xx_register u), (xx_loopAt u), (xx_loopCode u), (xx_result u), (xx_order u)))
    (ho : S.length = 20 → post ((xx_nodes u), (xx_root u), (xx_codeLength u), (xx_mapWidth u), (xx_registersUsed u), (xx_depth u), 1, (xx_resultWidth u), (xx_resultRows u), (xx_tableCells u), (xx_tableRows u), (xx_kindOf u), (xx_first u), (xx_second u), (xx_p u), (xx_q u), (xx_r u), (xx_widthOf u), (xx_parent u), (xx_inPlan u), (xx_given u), (xx_store u), (xx_storeRows u), (xx_heads u), (xx_chain u), (xx_op u), (xx_opA u), (xx_opB u), (xx_opC u), (xx_opD u), (xx_opE u), (xx_map u), (xx_picked u), (xx_register u), (xx_loopAt u), (xx_loopCode u), (xx_result u), (xx_order u))) : wpX_keep post u (nI a) (nI kc) := by
  show wpX_keep post ((xx_nodes u), (xx_root u), (xx_codeLength u), (xx_mapWidth u), (xx_registersUsed u), (xx_depth u), (xx_overflow u), (xx_resultWidth u), (xx_resultRows u), (xx_tableCells u), (xx_tableRows u), (xx_kindOf u), (xx_first u), (xx_second u), (xx_p u), (xx_q u), (xx_r u), (xx_widthOf u), (xx_parent u), (xx_inPlan u), (xx_given u), (xx_store u), (xx_storeRows u), (xx_heads u), (xx_chain u), (xx_op u), (xx_opA u), (xx_opB u), (xx_opC u), (xx_opD u), (xx_opE u), (xx_map u), (xx_picked u), (xx_register u), (xx_loopAt u), (xx_loopCode u), (xx_result u), (xx_order u)) (nI a) (nI kc)
  have h20 := hA.1
  refine And.intro (vp_in_nI ha (by decide)) ?_
  rw [fi_cl (by omega : a < 4096), hA.2.1]
  intro x3 e3
  subst e3
  rw [fi_s0]
  by_cases c : S.length < 20
  · refine br_t (nI_lt (b := 20) c (by decide)) ?_
    intro x4 e4
    subst e4
    refine ⟨w + 1, ?_⟩
    exact fx_k33 post ha hw hkc hA c hx hM hR (h c) w 0 (xx_store u) (by omega) (fun _ _ => rfl) (fun j hj => by omega)
  · exact br_f (nI_nlt (b := 20) (by omega) (by omega)) (ho (by omega))
/-! ## X: distinct -/
theorem fx_sas2 {u : SX} {a w kc i : Nat} {S : List fp_Row} {x : fp_Row} {mp : List Nat} (post : Int32 → Prop) (ha : a < 13) (hw : w ≤ 6) (hA : fx_AR (xx_store u) (xx_storeRows u) (xx_heads u) (xx_chain u) a S w kc) (hi : i < S.length) (hx : x.length = w) (hM : fx_MP u mp) (hR : fx_RP (xx_register u) mp x) :
    ∀ d c, c + d = w → (∀ c', c' < c → (S.getD i []).getD c' 0 = x.getD c' 0) → post (if S.getD i [] = x then 1 else 0) → wX_sameAsStored_2 post (nI a) (nI i) (xx_nodes u) (xx_root u) (xx_codeLength u) (xx_mapWidth u) (xx_registersUsed u) (xx_depth u) (xx_overflow u) (xx_resultWidth u) (xx_resultRows u) (xx_tableCells u) (xx_tableRows u) (xx_kindOf u) (xx_first u) (xx_second u) (xx_p u) (xx_q u) (xx_r u) (xx_widthOf u) (xx_parent u) (xx_inPlan u) (xx_given u) (xx_store u) (xx_storeRows u) (xx_heads u) (xx_chain u) (xx_op u) (xx_opA u) (xx_opB u) (xx_opC u) (xx_opD u) (xx_opE u) (xx_map u) (xx_picked u) (xx_register u) (xx_loopAt u) (xx_loopCode u) (xx_result u) (xx_order u) (d + 1) (nI c) := by
  have hmw : mp.length = w := by rw [← hR.1]; exact hx
  have h20 := hA.1
  have q3 := hA.2.2.1 i hi
  intro d
  induction d with
  | zero =>
    intro c hc heq h
    refine br_t (by rw [hM.1]; exact nI_le (by omega) (by omega)) ?_
    rw [if_pos (fp_gd_ext 0 (by rw [q3.1, hx]) fun c' hc' => heq c' (by rw [q3.1] at hc'; omega))] at h
    exact h
  | succ d ih =>
    intro c hc heq h
    refine br_f (by rw [hM.1]; exact nI_ge (by omega) (by omega)) ?_
    have hmc := hM.2.2 c (by omega)
    rw [fi_s, fi_cl (by omega : 120 * a + 6 * i + c < 4096), fi_cl (by omega : c < 4096), hmc.1, fi_cl (by have := hmc.2; omega), nI_1, q3.2 c (by omega), hR.2 c (by omega)]
    refine And.intro (vp_in_nI (by omega) (by decide)) (And.intro (vp_in_nI (by omega) (by decide)) (And.intro (vp_in_nI hmc.2 (by decide)) ?_))
    refine br_c (fun e => ?_) (fun e => ?_)
    · intro y ey
      subst ey
      refine ih (c + 1) (by omega) (fun c' hc' => ?_) h
      by_cases z : c' = c
      · subst z; exact e
      · exact heq c' (by omega)
    · rw [if_neg (fun z => e (by rw [z]))] at h
      exact h
theorem fx_kn27 {u : SX} {a w : Nat} {S : List fp_Row} {x : fp_Row} {mp : List Nat} (post : SX → Prop) (ha : a < 13) (hw : w ≤ 6) (hw0 : 0 < w) (hA : fx_AR (xx_store u) (xx_storeRows u) (xx_heads u) (xx_chain u) a S w 0) (hx : x.length = w) (hM : fx_MP u mp) (hR : fx_RP (xx_register u) mp x)
    (h1 : x ∈ S → post u) (h2 : ¬ x ∈ S → wpX_keep post u (nI a) (nI 0)) :
    ∀ N step nf, N ≤ S.length → N + step ≤ 20 → N < nf → (∀ i, N ≤ i → i < S.length → S.getD i [] ≠ x) → wX_keepNew_27 post (nI a) (xx_nodes u) (xx_root u) (xx_codeLength u) (xx_mapWidth u) (xx_registersUsed u) (xx_depth u) (xx_overflow u) (xx_resultWidth u) (xx_resultRows u) (xx_tableCells u) (xx_tableRows u) (xx_kindOf u) (xx_first u) (xx_second u) (xx_p u) (xx_q u) (xx_r u) (xx_widthOf u) (xx_parent u) (xx_inPlan u) (xx_given u) (xx_store u) (xx_storeRows u) (xx_heads u) (xx_chain u) (xx_op u) (xx_opA u) (xx_opB u) (xx_opC u) (xx_opD u) (xx_opE u) (xx_map u) (xx_picked u) (xx_register u) (xx_loopAt u) (xx_loopCode u) (xx_result u) (xx_order u) nf (fx_li (fx_hs S 0) N (fx_h (x.getD 0 0))) (nI step) := by
  have h20 := hA.1
  intro N
  induction N with
  | zero =>
    intro step nf n1 n2 n3 hne
    have hno : ¬ x ∈ S := by
      intro z
      obtain ⟨i, hi, e⟩ := fp_gd_of_mem [] z
      exact hne i (Nat.zero_le _) hi e
    cases nf with
    | zero => omega
    | succ nf =>
      refine br_c (fun _ => h2 hno) (fun _ => ?_)
      exact br_t (show (-1 : Int32) < 0 by decide) (h2 hno)
  | succ N ih =>
    intro step nf n1 n2 n3 hne
    by_cases e : fx_hs S 0 N = fx_h (x.getD 0 0)
    · have el : fx_li (fx_hs S 0) (N + 1) (fx_h (x.getD 0 0)) = nI N := by unfold fx_li; rw [if_pos e]
      rw [el]
      cases nf with
      | zero => omega
      | succ nf =>
        refine br_f (nI_ge (b := 20) (by omega) (by decide)) (br_f (nI_pos (by omega)) ⟨w + 1, ?_⟩)
        refine fx_sas2 _ ha hw hA (by omega : N < S.length) hx hM hR w 0 (by omega) (fun c' hc' => by omega) ?_
        by_cases z : S.getD N [] = x
        · rw [if_pos z]
          refine br_f (by decide) (h1 (z ▸ fp_gd_mem S [] (by omega)))
        · rw [if_neg z]
          refine br_t rfl ?_
          rw [fi_c, fi_cl (by omega), hA.2.2.2.2 N (by omega), e, nI_1]
          refine And.intro (vp_in_nI (by omega) (by decide)) ?_
          intro y ey y2 ey2
          subst ey ey2
          refine ih (step + 1) nf (by omega) (by omega) (by omega) fun i hi1 hi2 => ?_
          by_cases ei : i = N
          · subst ei; exact z
          · exact hne i (by omega) hi2
    · have el : fx_li (fx_hs S 0) (N + 1) (fx_h (x.getD 0 0)) = fx_li (fx_hs S 0) N (fx_h (x.getD 0 0)) := by rw [fx_li, if_neg e]
      rw [el]
      refine ih step nf (by omega) (by omega) (by omega) fun i hi1 hi2 => ?_
      by_cases ei : i = N
      · subst ei
        intro z
        exact e (by unfold fx_hs fp_cl; rw [z])
      · exact hne i (by omega) hi2
theorem fx_keepNew {u : SX} {a w : Nat} {S : List fp_Row} {x : fp_Row} {mp : List Nat} (post : SX → Prop) (ha : a < 13) (hw : w ≤ 6) (hw0 : 0 < w) (hA : fx_AR (xx_store u) (xx_storeRows u) (xx_heads u) (xx_chain u) a S w 0) (hx : x.length = w) (hM : fx_MP u mp) (hR : fx_RP (xx_register u) mp x)
    (hs : x ∈ S → post u)
    (h : ¬ x ∈ S → S.length < 20 → ∀ st' sr' hd' ch', fx_FA a (xx_store u) (xx_storeRows u) (xx_heads u) (xx_chain u) st' sr' hd' ch' → fx_AR st' sr' hd' ch' a (S ++ [x]) w 0 → post ((xx_nodes u), (xx_root u), (xx_codeLength u), (xx_mapWidth u), (xx_registersUsed u), (xx_depth u), (xx_overflow u), (xx_resultWidth u), (xx_resultRows u), (xx_tableCells u), (xx_tableRows u), (xx_kindOf u), (xx_first u), (xx_second u), (xx_p u), (xx_q u), (xx_r u), (xx_widthOf u), (xx_parent u), (xx_inPlan u), (xx_given u), st', sr', hd', ch', (xx_op u), (xx_opA u), (xx_opB u), (xx_opC u), (xx_opD u), (xx_opE u), (xx_map u), (xx_picked u), (xx_register u), (xx_loopAt u), (xx_loopCode u), (xx_result u), (xx_order u)))
    (ho : ¬ x ∈ S → S.length = 20 → post ((xx_nodes u), (xx_root u), (xx_codeLength u), (xx_mapWidth u), (xx_registersUsed u), (xx_depth u), 1, (xx_resultWidth u), (xx_resultRows u), (xx_tableCells u), (xx_tableRows u), (xx_kindOf u), (xx_first u), (xx_second u), (xx_p u), (xx_q u), (xx_r u), (xx_widthOf u), (xx_parent u), (xx_inPlan u), (xx_given u), (xx_store u), (xx_storeRows u), (xx_heads u), (xx_chain u), (xx_op u), (xx_opA u), (xx_opB u), (xx_opC u), (xx_opD u), (xx_opE u), (xx_map u), (xx_picked u), (xx_register u), (xx_loopAt u), (xx_loopCode u), (xx_result u), (xx_order u))) : wpX_keepNew post u (nI a) := by
  have hmw : mp.length = w := by rw [← hR.1]; exact hx
  have hm0 := hM.2.2 0 (by omega)
  have h8 := fx_h8 (x.getD 0 0)
  have h20 := hA.1
  show wpX_keepNew post ((xx_nodes u), (xx_root u), (xx_codeLength u), (xx_mapWidth u), (xx_registersUsed u), (xx_depth u), (xx_overflow u), (xx_resultWidth u), (xx_resultRows u), (xx_tableCells u), (xx_tableRows u), (xx_kindOf u), (xx_first u), (xx_second u), (xx_p u), (xx_q u), (xx_r u), (xx_widthOf u), (xx_parent u), (xx_inPlan u), (xx_given u), (xx_store u), (xx_storeRows u), (xx_heads u), (xx_chain u), (xx_op u), (xx_opA u), (xx_opB u), (xx_opC u), (xx_opD u), (xx_opE u), (xx_map u), (xx_picked u), (xx_register u), (xx_loopAt u), (xx_loopCode u), (xx_result u), (xx_order u)) (nI a)
  unfold wpX_keepNew
  dsimp only
  rw [hm0.1, fi_cl (by have := hm0.2; omega), hR.2 0 (by omega), fx_and, fi_h, fi_cl (by omega), hA.2.2.2.1 _ h8]
  refine ⟨vp_in_nI hm0.2 (by decide), vp_in_nI (by omega) (by decide), ?_⟩
  intro x2 e2
  subst e2
  refine ⟨S.length + 1, ?_⟩
  exact fx_kn27 post ha hw hw0 hA hx hM hR hs (fun hn => fx_keep post ha hw hw0 hA hx hM hR (h hn) (ho hn)) S.length 0 _ (Nat.le_refl _) (by omega) (by omega) (fun i h1 h2 => by omega)
/-! ## X: group -/
theorem fx_AR_set {st sr hd ch : Nat → Int32} {a i : Nat} {S : List fp_Row} {key val : Int32} (hA : fx_AR st sr hd ch a S 2 0) (hi : i < S.length) (hk : fp_cl S 0 i = key) : fx_AR (upd st (120 * a + 6 * i + 1) val) sr hd ch a (S.set i [key, val]) 2 0 := by
  obtain ⟨q1, q2, q3, q4, q5⟩ := hA
  have hl : (S.set i [key, val]).length = S.length := List.length_set
  have hs : fx_hs (S.set i [key, val]) 0 = fx_hs S 0 := by
    funext j
    unfold fx_hs fp_cl
    by_cases hj : j < S.length
    · rw [fp_gd_set _ _ _ hj]
      by_cases e : i = j
      · subst e; rw [if_pos rfl]; unfold fp_cl at hk; rw [hk]; rfl
      · rw [if_neg e]
    · rw [fp_gdo (S.set i [key, val]) [] (by rw [hl]; omega), fp_gdo S [] (by omega)]
  refine ⟨by omega, by rw [hl]; exact q2, fun j hj => ?_, fun b hb => by rw [hl, hs]; exact q4 b hb, fun j hj => by rw [hs]; exact q5 j (by omega)⟩
  rw [hl] at hj
  rw [fp_gd_set _ _ _ hj]
  by_cases e : i = j
  · subst e
    rw [if_pos rfl]
    refine ⟨rfl, fun c hc => ?_⟩
    match c, hc with
    | 0, _ =>
      rw [fi_un (by omega), (q3 i hi).2 0 (by decide)]
      exact hk
    | 1, _ => rw [fi_us]; rfl
  · rw [if_neg e]
    refine ⟨(q3 j hj).1, fun c hc => ?_⟩
    rw [fi_un (by omega)]
    exact (q3 j hj).2 c hc
theorem fx_kg127 {u : SX} {a : Nat} {S : List fp_Row} {key val : Int32} {st1 : Nat → Int32} (post : SX → Prop) (ha : a < 13) (hA : fx_AR (xx_store u) (xx_storeRows u) (xx_heads u) (xx_chain u) a S 2 0) (h20 : S.length < 20) (hst : st1 = upd (xx_store u) (120 * a + 6 * S.length) key)
    (h : ∀ st' sr' hd' ch', fx_FA a (xx_store u) (xx_storeRows u) (xx_heads u) (xx_chain u) st' sr' hd' ch' → fx_AR st' sr' hd' ch' a (S ++ [[key, val]]) 2 0 → post ((xx_nodes u), (xx_root u), (xx_codeLength u), (xx_mapWidth u), (xx_registersUsed u), (xx_depth u), (xx_overflow u), (xx_resultWidth u), (xx_resultRows u), (xx_tableCells u), (xx_tableRows u), (xx_kindOf u), (xx_first u), (xx_second u), (xx_p u), (xx_q u), (xx_r u), (xx_widthOf u), (xx_parent u), (xx_inPlan u), (xx_given u), st', sr', hd', ch', (xx_op u), (xx_opA u), (xx_opB u), (xx_opC u), (xx_opD u), (xx_opE u), (xx_map u), (xx_picked u), (xx_register u), (xx_loopAt u), (xx_loopCode u), (xx_result u), (xx_order u))) :
    wX_keepGroup_127 post (nI a) key (nI S.length) val (nI (120 * a + 6 * S.length + 1)) (xx_nodes u) (xx_root u) (xx_codeLength u) (xx_mapWidth u) (xx_registersUsed u) (xx_depth u) (xx_overflow u) (xx_resultWidth u) (xx_resultRows u) (xx_tableCells u) (xx_tableRows u) (xx_kindOf u) (xx_first u) (xx_second u) (xx_p u) (xx_q u) (xx_r u) (xx_widthOf u) (xx_parent u) (xx_inPlan u) (xx_given u) st1 (xx_storeRows u) (xx_heads u) (xx_chain u) (xx_op u) (xx_opA u) (xx_opB u) (xx_opC u) (xx_opD u) (xx_opE u) (xx_map u) (xx_picked u) (xx_register u) (xx_loopAt u) (xx_loopCode u) (xx_result u) (xx_order u) := by
  refine And.intro (vp_in_nI (by omega) (by decide)) ?_
  rw [fi_cl (by omega)]
  intro st2 e2
  refine fx_link _ ha h20 ?_
  refine And.intro (vp_in_nI ha (by decide)) ?_
  rw [fi_cl (by omega : a < 4096), nI_1]
  intro sr esr
  subst esr
  have h8 := fx_h8 key
  have g1 : ∀ i, (i < 120 * a + 6 * S.length ∨ 120 * a + 6 * S.length + 2 ≤ i) → st2 i = xx_store u i := by
    intro i hi
    rw [e2, fi_un (by omega), hst, fi_un (by omega)]
  refine h _ _ _ _ ⟨fun i hi => g1 i (by omega), fun i hi => fi_un hi, fun i hi => fi_un (by omega), fun i hi => fi_un (by omega)⟩ ?_
  refine fx_AR_app (x := [key, val]) (by decide) (by decide) hA h20 rfl g1 fun c hc => ?_
  show st2 _ = _
  match c, hc with
  | 0, _ => rw [e2, fi_un (by omega), hst, Nat.add_zero, fi_us]; rfl
  | 1, _ => rw [e2, fi_us]; rfl
theorem fx_keepGroup {u : SX} {a : Nat} {S : List fp_Row} {key fn val : Int32} (post : SX → Prop) (ha : a < 13) (hA : fx_AR (xx_store u) (xx_storeRows u) (xx_heads u) (xx_chain u) a S 2 0)
    (h : (fp_gst fn S key val).length ≤ 20 → ∀ st' sr' hd' ch', fx_FA a (xx_store u) (xx_storeRows u) (xx_heads u) (xx_chain u) st' sr' hd' ch' → fx_AR st' sr' hd' ch' a (fp_gst fn S key val) 2 0 → post ((xx_nodes u), (xx_root u), (xx_codeLength u), (xx_mapWidth u), (xx_registersUsed u), (xx_depth u), (xx_overflow u), (xx_resultWidth u), (xx_resultRows u), (xx_tableCells u), (xx_tableRows u), (xx_kindOf u), (xx_first u), (xx_second u), (xx_p u), (xx_q u), (xx_r u), (xx_widthOf u), (xx_parent u), (xx_inPlan u), (xx_given u), st', sr', hd', ch', (xx_op u), (xx_opA u), (xx_opB u), (xx_opC u), (xx_opD u), (xx_opE u), (xx_map u), (xx_picked u), (xx_register u), (xx_loopAt u), (xx_loopCode u), (xx_result u), (xx_order u)))
    (ho : ¬ (fp_gst fn S key val).length ≤ 20 → post ((xx_nodes u), (xx_root u), (xx_codeLength u), (xx_mapWidth u), (xx_registersUsed u), (xx_depth u), 1, (xx_resultWidth u), (xx_resultRows u), (xx_tableCells u), (xx_tableRows u), (xx_kindOf u), (xx_first u), (xx_second u), (xx_p u), (xx_q u), (xx_r u), (xx_widthOf u), (xx_parent u), (xx_inPlan u), (xx_given u), (xx_store u), (xx_storeRows u), (xx_heads u), (xx_chain u), (xx_op u), (xx_opA u), (xx_opB u), (xx_opC u), (xx_opD u), (xx_opE u), (xx_map u), (xx_picked u), (xx_register u), (xx_loopAt u), (xx_loopCode u), (xx_result u), (xx_order u))) : wpX_keepGroup post u (nI a) key fn val := by
  have h8 := fx_h8 key
  have h20 := hA.1
  show wpX_keepGroup post ((xx_nodes u), (xx_root u), (xx_codeLength u), (xx_mapWidth u), (xx_registersUsed u), (xx_depth u), (xx_overflow u), (xx_resultWidth u), (xx_resultRows u), (xx_tableCells u), (xx_tableRows u), (xx_kindOf u), (xx_first u), (xx_second u), (xx_p u), (xx_q u), (xx_r u), (xx_widthOf u), (xx_parent u), (xx_inPlan u), (xx_given u), (xx_store u), (xx_storeRows u), (xx_heads u), (xx_chain u), (xx_op u), (xx_opA u), (xx_opB u), (xx_opC u), (xx_opD u), (xx_opE u), (xx_map u), (xx_picked u), (xx_register u), (xx_loopAt u), (xx_loopCode u), (xx_result u), (xx_order u)) (nI a) key fn val
  unfold wpX_keepGroup
  dsimp only
  rw [fx_and, fi_h, fi_cl (by omega : 8 * a + fx_h key < 4096), hA.2.2.2.1 _ h8, fi_cl (by omega : a < 4096), hA.2.1]
  refine ⟨vp_in_nI (by omega) (by decide), ?_⟩
  refine fx_findMatch (u := u) (kc := 0) _ ha (by decide) (by decide) hA (Nat.le_refl _) ?_
  cases e : fp_fm (fp_cl S 0) key S.length with
  | none =>
    rw [fp_gst_none e, List.length_append] at h ho
    refine br_t (show (-1 : Int32) < 0 by decide) ⟨vp_in_nI ha (by decide), ?_⟩
    intro x6 e6
    subst e6
    by_cases c : S.length < 20
    · refine br_t (nI_lt (b := 20) c (by decide)) ?_
      rw [fi_s0, fi_cl (by omega)]
      refine And.intro (vp_in_nI (by omega) (by decide)) ?_
      intro st1 e1
      have hh := h (by show S.length + 1 ≤ 20; omega)
      rw [nI_1]
      refine br_c (fun ef => ?_) (fun ef => ?_)
      · have : fp_ini fn val = 1 := by unfold fp_ini; rw [if_pos ef]
        rw [this] at hh
        exact fx_kg127 post ha hA c e1 hh
      · have : fp_ini fn val = val := by unfold fp_ini; rw [if_neg ef]
        rw [this] at hh
        exact fx_kg127 post ha hA c e1 hh
    · refine br_f (nI_nlt (b := 20) (by omega) (by omega)) (ho ?_)
      show ¬ S.length + 1 ≤ 20
      omega
  | some i =>
    obtain ⟨i1, i2, _⟩ := fp_fm_some e
    rw [fp_gst_some e, List.length_set] at h
    refine br_f (nI_pos (n := i) (by omega)) ?_
    show ∀ x6, x6 = (120 : Int32) * nI a + (6 : Int32) * nI i + 1 → _
    rw [fi_s0, nI_1]
    intro x6 e6
    subst e6
    rw [fi_cl (by omega)]
    refine And.intro (vp_in_nI (by omega) (by decide)) ?_
    refine fx_combine _ _ _ _ (And.intro (vp_in_nI (by omega) (by decide)) ?_)
    intro st1 e1
    have hold : xx_store u (120 * a + 6 * i + 1) = fp_cl S 1 i := (hA.2.2.1 i i1).2 1 (by decide)
    have e1' : st1 = upd (xx_store u) (120 * a + 6 * i + 1) (fp_comb fn (fp_cl S 1 i) val) := by rw [← hold]; exact e1
    subst e1'
    exact h h20 _ _ _ _ ⟨fun j hj => fi_un (by omega), fun _ _ => rfl, fun _ _ => rfl, fun _ _ => rfl⟩ (fx_AR_set hA i1 i2)
end
section
/-! ## X: the machine's operations, one by one -/
def fx_ins (u : SX) (pos : Nat) (o a b c d e : Int32) : Prop := xx_op u pos = o ∧ xx_opA u pos = a ∧ xx_opB u pos = b ∧ xx_opC u pos = c ∧ xx_opD u pos = d ∧ xx_opE u pos = e
/-- the machine goes on at r, its next step being q -/
def fx_C (post : SX → Prop) (nf q : Nat) (r : Int32) (u : SX) : Prop := ∀ y, y = nI q → wX_execute_9 post nf r y (xx_nodes u) (xx_root u) (xx_codeLength u) (xx_mapWidth u) (xx_registersUsed u) (xx_depth u) (xx_overflow u) (xx_resultWidth u) (xx_resultRows u) (xx_tableCells u) (xx_tableRows u) (xx_kindOf u) (xx_first u) (xx_second u) (xx_p u) (xx_q u) (xx_r u) (xx_widthOf u) (xx_parent u) (xx_inPlan u) (xx_given u) (xx_store u) (xx_storeRows u) (xx_heads u) (xx_chain u) (xx_op u) (xx_opA u) (xx_opB u) (xx_opC u) (xx_opD u) (xx_opE u) (xx_map u) (xx_picked u) (xx_register u) (xx_loopAt u) (xx_loopCode u) (xx_result u) (xx_order u)
theorem fx_ex {u : SX} {pos step nf : Nat} (post : SX → Prop) (h6 : step < 6000) (hov : xx_overflow u = 0) (hpos : pos < 40) (h : wpX_perform (fx_C post nf (step + 1)) u (nI pos)) : wX_execute_9 post (nf + 1) (nI pos) (nI step) (xx_nodes u) (xx_root u) (xx_codeLength u) (xx_mapWidth u) (xx_registersUsed u) (xx_depth u) (xx_overflow u) (xx_resultWidth u) (xx_resultRows u) (xx_tableCells u) (xx_tableRows u) (xx_kindOf u) (xx_first u) (xx_second u) (xx_p u) (xx_q u) (xx_r u) (xx_widthOf u) (xx_parent u) (xx_inPlan u) (xx_given u) (xx_store u) (xx_storeRows u) (xx_heads u) (xx_chain u) (xx_op u) (xx_opA u) (xx_opB u) (xx_opC u) (xx_opD u) (xx_opE u) (xx_map u) (xx_picked u) (xx_register u) (xx_loopAt u) (xx_loopCode u) (xx_result u) (xx_order u) := by
  refine br_f (nI_ge (b := 6000) h6 (by decide)) (br_f (nI_pos (by omega)) (br_t hov ?_))
  rw [nI_1]
  exact h
theorem fx_exov {u : SX} {nf : Nat} (post : SX → Prop) (x1 x2 : Int32) (hov : ¬ xx_overflow u = 0) (h : post u) : wX_execute_9 post (nf + 1) x1 x2 (xx_nodes u) (xx_root u) (xx_codeLength u) (xx_mapWidth u) (xx_registersUsed u) (xx_depth u) (xx_overflow u) (xx_resultWidth u) (xx_resultRows u) (xx_tableCells u) (xx_tableRows u) (xx_kindOf u) (xx_first u) (xx_second u) (xx_p u) (xx_q u) (xx_r u) (xx_widthOf u) (xx_parent u) (xx_inPlan u) (xx_given u) (xx_store u) (xx_storeRows u) (xx_heads u) (xx_chain u) (xx_op u) (xx_opA u) (xx_opB u) (xx_opC u) (xx_opD u) (xx_opE u) (xx_map u) (xx_picked u) (xx_register u) (xx_loopAt u) (xx_loopCode u) (xx_result u) (xx_order u) :=
  br_c (fun _ => h) (fun _ => br_c (fun _ => h) (fun _ => br_f hov h))
theorem fx_exneg {u : SX} {nf : Nat} (post : SX → Prop) (x2 : Int32) (h : post u) : wX_execute_9 post (nf + 1) (-1) x2 (xx_nodes u) (xx_root u) (xx_codeLength u) (xx_mapWidth u) (xx_registersUsed u) (xx_depth u) (xx_overflow u) (xx_resultWidth u) (xx_resultRows u) (xx_tableCells u) (xx_tableRows u) (xx_kindOf u) (xx_first u) (xx_second u) (xx_p u) (xx_q u) (xx_r u) (xx_widthOf u) (xx_parent u) (xx_inPlan u) (xx_given u) (xx_store u) (xx_storeRows u) (xx_heads u) (xx_chain u) (xx_op u) (xx_opA u) (xx_opB u) (xx_opC u) (xx_opD u) (xx_opE u) (xx_map u) (xx_picked u) (xx_register u) (xx_loopAt u) (xx_loopCode u) (xx_result u) (xx_order u) :=
  br_c (fun _ => h) (fun _ => br_t (by decide) h)
theorem fx_pfTest {u : SX} {pos A : Nat} {B C D E : Int32} (post : Int32 → SX → Prop) (hpos : pos < 40) (hi : fx_ins u pos 3 (nI A) B C D E) (hA : A < 96) (ht : fp_cmp (xx_register u A) B C = true → post (nI (pos + 1)) u) (hf : fp_cmp (xx_register u A) B C = false → wpX_nextRow post u) : wpX_perform post u (nI pos) := by
  obtain ⟨i1, i2, i3, i4, i5, i6⟩ := hi
  have hv := vp_in_nI (n := pos) hpos (by decide)
  show wpX_perform post ((xx_nodes u), (xx_root u), (xx_codeLength u), (xx_mapWidth u), (xx_registersUsed u), (xx_depth u), (xx_overflow u), (xx_resultWidth u), (xx_resultRows u), (xx_tableCells u), (xx_tableRows u), (xx_kindOf u), (xx_first u), (xx_second u), (xx_p u), (xx_q u), (xx_r u), (xx_widthOf u), (xx_parent u), (xx_inPlan u), (xx_given u), (xx_store u), (xx_storeRows u), (xx_heads u), (xx_chain u), (xx_op u), (xx_opA u), (xx_opB u), (xx_opC u), (xx_opD u), (xx_opE u), (xx_map u), (xx_picked u), (xx_register u), (xx_loopAt u), (xx_loopCode u), (xx_result u), (xx_order u)) (nI pos)
  refine And.intro hv ?_
  rw [fi_cl (by omega : pos < 4096), i1]
  intro x2 e2
  subst e2
  refine br_t (by decide) (br_t rfl ?_)
  rw [i2, i3, i4, fi_cl (by omega : A < 4096)]
  refine ⟨hv, vp_in_nI hA (by decide), hv, hv, ?_⟩
  refine fx_compare _ _ _ _ ?_
  cases hc : fp_cmp (xx_register u A) B C with
  | true => rw [nI_1]; exact br_f (by decide) (ht hc)
  | false => exact br_t rfl (hf hc)
theorem fx_pfComp {u : SX} {pos B C D : Nat} {A E : Int32} (post : Int32 → SX → Prop) (hpos : pos < 40) (hi : fx_ins u pos 4 A (nI B) (nI C) (nI D) E) (hB : B < 96) (hC : C < 96) (hD : D < 96) (h : post (nI (pos + 1)) ((xx_nodes u), (xx_root u), (xx_codeLength u), (xx_mapWidth u), (xx_registersUsed u), (xx_depth u), (xx_overflow u), (xx_resultWidth u), (xx_resultRows u), (xx_tableCells u), (xx_tableRows u), (xx_kindOf u), (xx_first u), (xx_second u), (xx_p u), (xx_q u), (xx_r u), (xx_widthOf u), (xx_parent u), (xx_inPlan u), (xx_given u), (xx_store u), (xx_storeRows u), (xx_heads u), (xx_chain u), (xx_op u), (xx_opA u), (xx_opB u), (xx_opC u), (xx_opD u), (xx_opE u), (xx_map u), (xx_picked u), (upd (xx_register u) D (fp_calc A (xx_register u B) (xx_register u C))), (xx_loopAt u), (xx_loopCode u), (xx_result u), (xx_order u))) : wpX_perform post u (nI pos) := by
  obtain ⟨i1, i2, i3, i4, i5, i6⟩ := hi
  have hv := vp_in_nI (n := pos) hpos (by decide)
  show wpX_perform post ((xx_nodes u), (xx_root u), (xx_codeLength u), (xx_mapWidth u), (xx_registersUsed u), (xx_depth u), (xx_overflow u), (xx_resultWidth u), (xx_resultRows u), (xx_tableCells u), (xx_tableRows u), (xx_kindOf u), (xx_first u), (xx_second u), (xx_p u), (xx_q u), (xx_r u), (xx_widthOf u), (xx_parent u), (xx_inPlan u), (xx_given u), (xx_store u), (xx_storeRows u), (xx_heads u), (xx_chain u), (xx_op u), (xx_opA u), (xx_opB u), (xx_opC u), (xx_opD u), (xx_opE u), (xx_map u), (xx_picked u), (xx_register u), (xx_loopAt u), (xx_loopCode u), (xx_result u), (xx_order u)) (nI pos)
  refine And.intro hv ?_
  rw [fi_cl (by omega : pos < 4096), i1]
  intro x2 e2
  subst e2
  refine br_t (by decide) (br_f (by decide) (br_t rfl ?_))
  rw [i2, i3, i4, i5, fi_cl (by omega : B < 4096), fi_cl (by omega : C < 4096), fi_cl (by omega : D < 4096), nI_1]
  refine ⟨hv, hv, hv, vp_in_nI hB (by decide), hv, vp_in_nI hC (by decide), ?_⟩
  refine fx_calculate _ _ _ _ ⟨vp_in_nI hD (by decide), ?_⟩
  intro reg e
  subst e
  exact h
theorem fx_pfExists {u : SX} {pos a B w kc : Nat} {D E : Int32} {S : List fp_Row} (post : Int32 → SX → Prop) (hpos : pos < 40) (hi : fx_ins u pos 5 (nI a) (nI B) (nI kc) D E) (ha : a < 13) (hB : B < 96) (hw : w ≤ 6) (hkc : kc < w) (hA : fx_AR (xx_store u) (xx_storeRows u) (xx_heads u) (xx_chain u) a S w kc) (ht : (S.any (fun y => decide (y.getD kc 0 = xx_register u B)) = true ↔ D = 1) → post (nI (pos + 1)) u) (hf : ¬ (S.any (fun y => decide (y.getD kc 0 = xx_register u B)) = true ↔ D = 1) → wpX_nextRow post u) : wpX_perform post u (nI pos) := by
  obtain ⟨i1, i2, i3, i4, i5, i6⟩ := hi
  have hv := vp_in_nI (n := pos) hpos (by decide)
  show wpX_perform post ((xx_nodes u), (xx_root u), (xx_codeLength u), (xx_mapWidth u), (xx_registersUsed u), (xx_depth u), (xx_overflow u), (xx_resultWidth u), (xx_resultRows u), (xx_tableCells u), (xx_tableRows u), (xx_kindOf u), (xx_first u), (xx_second u), (xx_p u), (xx_q u), (xx_r u), (xx_widthOf u), (xx_parent u), (xx_inPlan u), (xx_given u), (xx_store u), (xx_storeRows u), (xx_heads u), (xx_chain u), (xx_op u), (xx_opA u), (xx_opB u), (xx_opC u), (xx_opD u), (xx_opE u), (xx_map u), (xx_picked u), (xx_register u), (xx_loopAt u), (xx_loopCode u), (xx_result u), (xx_order u)) (nI pos)
  refine And.intro hv ?_
  rw [fi_cl (by omega : pos < 4096), i1]
  intro x2 e2
  subst e2
  refine br_t (by decide) (br_f (by decide) (br_f (by decide) (br_t rfl ?_)))
  rw [i2, i3, i4, i5, fi_cl (by omega : B < 4096)]
  refine ⟨hv, hv, vp_in_nI hB (by decide), hv, ?_⟩
  refine fx_matches (u := u) _ ha hw hkc hA ⟨hv, ?_⟩
  cases hc : S.any (fun y => decide (y.getD kc 0 = xx_register u B)) with
  | true =>
    rw [hc] at ht hf
    refine br_c (fun c => ?_) (fun c => ?_)
    · refine br_t rfl ?_
      rw [nI_1]
      exact ht ⟨fun _ => c, fun _ => rfl⟩
    · refine br_f (by decide) ?_
      exact hf (fun z => c (z.mp rfl))
  | false =>
    rw [hc] at ht hf
    refine br_c (fun c => ?_) (fun c => ?_)
    · refine br_f (by decide) ?_
      exact hf (fun z => absurd (z.mpr c) (by decide))
    · refine br_t rfl ?_
      rw [nI_1]
      exact ht ⟨fun z => absurd z (by decide), fun z => absurd z c⟩
theorem fx_pfCount {u : SX} {pos c g : Nat} {B C D E : Int32} (post : Int32 → SX → Prop) (hpos : pos < 40) (hi : fx_ins u pos 6 (nI c) B C D E) (hc : c < 12) (hg : xx_given u c = nI g) (hg20 : g ≤ 20) (h1 : g + 1 ≤ 20 → post (nI (pos + 1)) ((xx_nodes u), (xx_root u), (xx_codeLength u), (xx_mapWidth u), (xx_registersUsed u), (xx_depth u), 0, (xx_resultWidth u), (xx_resultRows u), (xx_tableCells u), (xx_tableRows u), (xx_kindOf u), (xx_first u), (xx_second u), (xx_p u), (xx_q u), (xx_r u), (xx_widthOf u), (xx_parent u), (xx_inPlan u), (upd (xx_given u) c (nI (g + 1))), (xx_store u), (xx_storeRows u), (xx_heads u), (xx_chain u), (xx_op u), (xx_opA u), (xx_opB u), (xx_opC u), (xx_opD u), (xx_opE u), (xx_map u), (xx_picked u), (xx_register u), (xx_loopAt u), (xx_loopCode u), (xx_result u), (xx_order u))) (h2 : ¬ g + 1 ≤ 20 → post (nI (pos + 1)) ((xx_nodes u), (xx_root u), (xx_codeLength u), (xx_mapWidth u), (xx_registersUsed u), (xx_depth u), 1, (xx_resultWidth u), (xx_resultRows u), (xx_tableCells u), (xx_tableRows u), (xx_kindOf u), (xx_first u), (xx_second u), (xx_p u), (xx_q u), (xx_r u), (xx_widthOf u), (xx_parent u), (xx_inPlan u), (upd (xx_given u) c (nI (g + 1))), (xx_store u), (xx_storeRows u), (xx_heads u), (xx_chain u), (xx_op u), (xx_opA u), (xx_opB u), (xx_opC u), (xx_opD u), (xx_opE u), (xx_map u), (xx_picked u), (xx_register u), (xx_loopAt u), (xx_loopCode u), (xx_result u), (xx_order u))) : wpX_perform post u (nI pos) := by
  obtain ⟨i1, i2, i3, i4, i5, i6⟩ := hi
  have hv := vp_in_nI (n := pos) hpos (by decide)
  have hvc := vp_in_nI (n := c) hc (by decide)
  show wpX_perform post ((xx_nodes u), (xx_root u), (xx_codeLength u), (xx_mapWidth u), (xx_registersUsed u), (xx_depth u), (xx_overflow u), (xx_resultWidth u), (xx_resultRows u), (xx_tableCells u), (xx_tableRows u), (xx_kindOf u), (xx_first u), (xx_second u), (xx_p u), (xx_q u), (xx_r u), (xx_widthOf u), (xx_parent u), (xx_inPlan u), (xx_given u), (xx_store u), (xx_storeRows u), (xx_heads u), (xx_chain u), (xx_op u), (xx_opA u), (xx_opB u), (xx_opC u), (xx_opD u), (xx_opE u), (xx_map u), (xx_picked u), (xx_register u), (xx_loopAt u), (xx_loopCode u), (xx_result u), (xx_order u)) (nI pos)
  refine And.intro hv ?_
  rw [fi_cl (by omega : pos < 4096), i1]
  intro x2 e2
  subst e2
  refine br_t (by decide) (br_f (by decide) (br_f (by decide) (br_f (by decide) (br_t rfl ?_))))
  rw [i2, fi_cl (by omega : c < 4096), hg, nI_1, nI_1]
  refine ⟨hv, hvc, hvc, ?_⟩
  intro gv egv
  subst egv
  refine ⟨hv, hvc, ?_⟩
  rw [fi_us]
  by_cases z : g + 1 ≤ 20
  · exact br_t (nI_le (b := 20) z (by decide)) (h1 z)
  · exact br_f (nI_ge (a := 20) (b := g + 1) (by omega) (by omega)) (h2 z)
theorem fx_pfKeep {u : SX} {pos a kc : Nat} {C D E : Int32} (post : Int32 → SX → Prop) (hpos : pos < 40) (hi : fx_ins u pos 7 (nI a) (nI kc) C D E) (h : wpX_keep (fun u' => wpX_nextRow post u') u (nI a) (nI kc)) : wpX_perform post u (nI pos) := by
  obtain ⟨i1, i2, i3, i4, i5, i6⟩ := hi
  have hv := vp_in_nI (n := pos) hpos (by decide)
  show wpX_perform post ((xx_nodes u), (xx_root u), (xx_codeLength u), (xx_mapWidth u), (xx_registersUsed u), (xx_depth u), (xx_overflow u), (xx_resultWidth u), (xx_resultRows u), (xx_tableCells u), (xx_tableRows u), (xx_kindOf u), (xx_first u), (xx_second u), (xx_p u), (xx_q u), (xx_r u), (xx_widthOf u), (xx_parent u), (xx_inPlan u), (xx_given u), (xx_store u), (xx_storeRows u), (xx_heads u), (xx_chain u), (xx_op u), (xx_opA u), (xx_opB u), (xx_opC u), (xx_opD u), (xx_opE u), (xx_map u), (xx_picked u), (xx_register u), (xx_loopAt u), (xx_loopCode u), (xx_result u), (xx_order u)) (nI pos)
  refine And.intro hv ?_
  rw [fi_cl (by omega : pos < 4096), i1]
  intro x2 e2
  subst e2
  refine br_t (by decide) (br_f (by decide) (br_f (by decide) (br_f (by decide) (br_f (by decide) (br_t rfl ?_)))))
  rw [i2, i3]
  exact ⟨hv, hv, h⟩
theorem fx_pfGroup {u : SX} {pos a B D : Nat} {C E : Int32} (post : Int32 → SX → Prop) (hpos : pos < 40) (hi : fx_ins u pos 8 (nI a) (nI B) C (nI D) E) (hB : B < 96) (hD : D < 96) (h : wpX_keepGroup (fun u' => wpX_nextRow post u') u (nI a) (xx_register u B) C (xx_register u D)) : wpX_perform post u (nI pos) := by
  obtain ⟨i1, i2, i3, i4, i5, i6⟩ := hi
  have hv := vp_in_nI (n := pos) hpos (by decide)
  show wpX_perform post ((xx_nodes u), (xx_root u), (xx_codeLength u), (xx_mapWidth u), (xx_registersUsed u), (xx_depth u), (xx_overflow u), (xx_resultWidth u), (xx_resultRows u), (xx_tableCells u), (xx_tableRows u), (xx_kindOf u), (xx_first u), (xx_second u), (xx_p u), (xx_q u), (xx_r u), (xx_widthOf u), (xx_parent u), (xx_inPlan u), (xx_given u), (xx_store u), (xx_storeRows u), (xx_heads u), (xx_chain u), (xx_op u), (xx_opA u), (xx_opB u), (xx_opC u), (xx_opD u), (xx_opE u), (xx_map u), (xx_picked u), (xx_register u), (xx_loopAt u), (xx_loopCode u), (xx_result u), (xx_order u)) (nI pos)
  refine And.intro hv ?_
  rw [fi_cl (by omega : pos < 4096), i1]
  intro x2 e2
  subst e2
  refine br_t (by decide) (br_f (by decide) (br_f (by decide) (br_f (by decide) (br_f (by decide) (br_f (by decide) (br_t rfl ?_))))))
  rw [i2, i3, i4, i5, fi_cl (by omega : B < 4096), fi_cl (by omega : D < 4096)]
  exact ⟨hv, hv, vp_in_nI hB (by decide), hv, hv, vp_in_nI hD (by decide), h⟩
theorem fx_pfNew {u : SX} {pos a : Nat} {B C D E : Int32} (post : Int32 → SX → Prop) (hpos : pos < 40) (hi : fx_ins u pos 9 (nI a) B C D E) (h : wpX_keepNew (fun u' => wpX_nextRow post u') u (nI a)) : wpX_perform post u (nI pos) := by
  obtain ⟨i1, i2, i3, i4, i5, i6⟩ := hi
  have hv := vp_in_nI (n := pos) hpos (by decide)
  show wpX_perform post ((xx_nodes u), (xx_root u), (xx_codeLength u), (xx_mapWidth u), (xx_registersUsed u), (xx_depth u), (xx_overflow u), (xx_resultWidth u), (xx_resultRows u), (xx_tableCells u), (xx_tableRows u), (xx_kindOf u), (xx_first u), (xx_second u), (xx_p u), (xx_q u), (xx_r u), (xx_widthOf u), (xx_parent u), (xx_inPlan u), (xx_given u), (xx_store u), (xx_storeRows u), (xx_heads u), (xx_chain u), (xx_op u), (xx_opA u), (xx_opB u), (xx_opC u), (xx_opD u), (xx_opE u), (xx_map u), (xx_picked u), (xx_register u), (xx_loopAt u), (xx_loopCode u), (xx_result u), (xx_order u)) (nI pos)
  refine And.intro hv ?_
  rw [fi_cl (by omega : pos < 4096), i1]
  intro x2 e2
  subst e2
  refine br_t (by decide) (br_f (by decide) (br_f (by decide) (br_f (by decide) (br_f (by decide) (br_f (by decide) (br_f (by decide) ?_))))))
  rw [i2]
  exact ⟨hv, h⟩
theorem fx_pfEach {u : SX} {pos d : Nat} {o A B C D E : Int32} (post : Int32 → SX → Prop) (hpos : pos < 40) (hi : fx_ins u pos o A B C D E) (ho : ¬ 2 < o) (ho2 : ¬ o = 2) (hd : xx_depth u = nI d) (hd16 : d < 16) (h : wpX_nextRow post ((xx_nodes u), (xx_root u), (xx_codeLength u), (xx_mapWidth u), (xx_registersUsed u), (nI (d + 1)), (xx_overflow u), (xx_resultWidth u), (xx_resultRows u), (xx_tableCells u), (xx_tableRows u), (xx_kindOf u), (xx_first u), (xx_second u), (xx_p u), (xx_q u), (xx_r u), (xx_widthOf u), (xx_parent u), (xx_inPlan u), (xx_given u), (xx_store u), (xx_storeRows u), (xx_heads u), (xx_chain u), (xx_op u), (xx_opA u), (xx_opB u), (xx_opC u), (xx_opD u), (xx_opE u), (xx_map u), (xx_picked u), (xx_register u), (upd (xx_loopAt u) d 0), (upd (xx_loopCode u) d (nI pos)), (xx_result u), (xx_order u))) : wpX_perform post u (nI pos) := by
  obtain ⟨i1, i2, i3, i4, i5, i6⟩ := hi
  have hv := vp_in_nI (n := pos) hpos (by decide)
  have hvd := vp_in_nI (n := d) hd16 (by decide)
  show wpX_perform post ((xx_nodes u), (xx_root u), (xx_codeLength u), (xx_mapWidth u), (xx_registersUsed u), (xx_depth u), (xx_overflow u), (xx_resultWidth u), (xx_resultRows u), (xx_tableCells u), (xx_tableRows u), (xx_kindOf u), (xx_first u), (xx_second u), (xx_p u), (xx_q u), (xx_r u), (xx_widthOf u), (xx_parent u), (xx_inPlan u), (xx_given u), (xx_store u), (xx_storeRows u), (xx_heads u), (xx_chain u), (xx_op u), (xx_opA u), (xx_opB u), (xx_opC u), (xx_opD u), (xx_opE u), (xx_map u), (xx_picked u), (xx_register u), (xx_loopAt u), (xx_loopCode u), (xx_result u), (xx_order u)) (nI pos)
  refine And.intro hv ?_
  rw [fi_cl (by omega : pos < 4096), i1, hd]
  intro x2 e2
  subst e2
  refine br_f ho (And.intro hvd ?_)
  rw [fi_cl (by omega : d < 4096)]
  intro lc elc
  subst elc
  refine br_f ho2 (And.intro hvd ?_)
  rw [fi_cl (by omega : d < 4096), nI_1]
  intro la ela dd edd
  subst ela edd
  exact h
theorem fx_pfMatch {u : SX} {pos d a B : Nat} {C D E : Int32} (post : Int32 → SX → Prop) (hpos : pos < 40) (hi : fx_ins u pos 2 (nI a) (nI B) C D E) (ha : a < 13) (hB : B < 96) (hd : xx_depth u = nI d) (hd16 : d < 16) (h : wpX_nextRow post ((xx_nodes u), (xx_root u), (xx_codeLength u), (xx_mapWidth u), (xx_registersUsed u), (nI (d + 1)), (xx_overflow u), (xx_resultWidth u), (xx_resultRows u), (xx_tableCells u), (xx_tableRows u), (xx_kindOf u), (xx_first u), (xx_second u), (xx_p u), (xx_q u), (xx_r u), (xx_widthOf u), (xx_parent u), (xx_inPlan u), (xx_given u), (xx_store u), (xx_storeRows u), (xx_heads u), (xx_chain u), (xx_op u), (xx_opA u), (xx_opB u), (xx_opC u), (xx_opD u), (xx_opE u), (xx_map u), (xx_picked u), (xx_register u), (upd (xx_loopAt u) d (xx_heads u (8 * a + fx_h (xx_register u B)))), (upd (xx_loopCode u) d (nI pos)), (xx_result u), (xx_order u))) : wpX_perform post u (nI pos) := by
  obtain ⟨i1, i2, i3, i4, i5, i6⟩ := hi
  have hv := vp_in_nI (n := pos) hpos (by decide)
  have hvd := vp_in_nI (n := d) hd16 (by decide)
  have h8 := fx_h8 (xx_register u B)
  show wpX_perform post ((xx_nodes u), (xx_root u), (xx_codeLength u), (xx_mapWidth u), (xx_registersUsed u), (xx_depth u), (xx_overflow u), (xx_resultWidth u), (xx_resultRows u), (xx_tableCells u), (xx_tableRows u), (xx_kindOf u), (xx_first u), (xx_second u), (xx_p u), (xx_q u), (xx_r u), (xx_widthOf u), (xx_parent u), (xx_inPlan u), (xx_given u), (xx_store u), (xx_storeRows u), (xx_heads u), (xx_chain u), (xx_op u), (xx_opA u), (xx_opB u), (xx_opC u), (xx_opD u), (xx_opE u), (xx_map u), (xx_picked u), (xx_register u), (xx_loopAt u), (xx_loopCode u), (xx_result u), (xx_order u)) (nI pos)
  refine And.intro hv ?_
  rw [fi_cl (by omega : pos < 4096), i1, hd]
  intro x2 e2
  subst e2
  refine br_f (by decide) (And.intro hvd ?_)
  rw [fi_cl (by omega : d < 4096)]
  intro lc elc
  subst elc
  refine br_t rfl ?_
  rw [i2, i3, fi_cl (by omega : B < 4096), fx_and, fi_h, fi_cl (by omega : 8 * a + fx_h (xx_register u B) < 4096)]
  refine ⟨hv, hv, vp_in_nI hB (by decide), vp_in_nI (by omega) (by decide), ?_⟩
  refine And.intro hvd ?_
  rw [fi_cl (by omega : d < 4096), nI_1]
  intro la ela dd edd
  subst ela edd
  exact h
/-! ## X: the next row -/
theorem fx_nr0 {u : SX} {kk nn : Nat} (post : Int32 → SX → Prop) (hd : xx_depth u = nI 0) (h : post (-1) u) : wX_nextRow_2 post (nn + 1) (nI kk) (xx_nodes u) (xx_root u) (xx_codeLength u) (xx_mapWidth u) (xx_registersUsed u) (xx_depth u) (xx_overflow u) (xx_resultWidth u) (xx_resultRows u) (xx_tableCells u) (xx_tableRows u) (xx_kindOf u) (xx_first u) (xx_second u) (xx_p u) (xx_q u) (xx_r u) (xx_widthOf u) (xx_parent u) (xx_inPlan u) (xx_given u) (xx_store u) (xx_storeRows u) (xx_heads u) (xx_chain u) (xx_op u) (xx_opA u) (xx_opB u) (xx_opC u) (xx_opD u) (xx_opE u) (xx_map u) (xx_picked u) (xx_register u) (xx_loopAt u) (xx_loopCode u) (xx_result u) (xx_order u) :=
  br_c (fun _ => h) (fun _ => br_t (by rw [hd]; decide) h)
theorem fx_nrS {u : SX} {kk nn d : Nat} (post : Int32 → SX → Prop) (hk : kk < 16) (hd : xx_depth u = nI (d + 1)) (hd16 : d < 16) (h : wpX_loadRow (fun r u' => (r = 0 → ∀ dd, dd = xx_depth u' - 1 → ∀ y, y = nI (kk + 1) → wX_nextRow_2 post nn y (xx_nodes u') (xx_root u') (xx_codeLength u') (xx_mapWidth u') (xx_registersUsed u') dd (xx_overflow u') (xx_resultWidth u') (xx_resultRows u') (xx_tableCells u') (xx_tableRows u') (xx_kindOf u') (xx_first u') (xx_second u') (xx_p u') (xx_q u') (xx_r u') (xx_widthOf u') (xx_parent u') (xx_inPlan u') (xx_given u') (xx_store u') (xx_storeRows u') (xx_heads u') (xx_chain u') (xx_op u') (xx_opA u') (xx_opB u') (xx_opC u') (xx_opD u') (xx_opE u') (xx_map u') (xx_picked u') (xx_register u') (xx_loopAt u') (xx_loopCode u') (xx_result u') (xx_order u')) ∧ (¬ r = 0 → vp_in (xx_depth u' - 1) 16 ∧ post (xx_loopCode u' (xx_depth u' - 1).toNatClampNeg + 1) u')) u (nI d)) : wX_nextRow_2 post (nn + 1) (nI kk) (xx_nodes u) (xx_root u) (xx_codeLength u) (xx_mapWidth u) (xx_registersUsed u) (xx_depth u) (xx_overflow u) (xx_resultWidth u) (xx_resultRows u) (xx_tableCells u) (xx_tableRows u) (xx_kindOf u) (xx_first u) (xx_second u) (xx_p u) (xx_q u) (xx_r u) (xx_widthOf u) (xx_parent u) (xx_inPlan u) (xx_given u) (xx_store u) (xx_storeRows u) (xx_heads u) (xx_chain u) (xx_op u) (xx_opA u) (xx_opB u) (xx_opC u) (xx_opD u) (xx_opE u) (xx_map u) (xx_picked u) (xx_register u) (xx_loopAt u) (xx_loopCode u) (xx_result u) (xx_order u) := by
  refine br_f (nI_ge (b := 16) hk (by decide)) (br_f (by rw [hd]; exact nI_nle (by omega) (by omega)) ?_)
  rw [hd, nI_pred, nI_1, ← hd]
  exact h
theorem fx_lr47 {u : SX} {d t i : Nat} (post : Int32 → SX → Prop) (hd : d < 16) (ht : t < 3) (hi : i < 6) : ∀ e c reg, c + e = 3 → (∀ reg', (∀ j, (j < c ∨ 3 ≤ j) → reg' j = reg j) → (∀ j, c ≤ j → j < 3 → reg' j = xx_tableCells u (18 * t + 3 * i + j)) → post 1 ((xx_nodes u), (xx_root u), (xx_codeLength u), (xx_mapWidth u), (xx_registersUsed u), (xx_depth u), (xx_overflow u), (xx_resultWidth u), (xx_resultRows u), (xx_tableCells u), (xx_tableRows u), (xx_kindOf u), (xx_first u), (xx_second u), (xx_p u), (xx_q u), (xx_r u), (xx_widthOf u), (xx_parent u), (xx_inPlan u), (xx_given u), (xx_store u), (xx_storeRows u), (xx_heads u), (xx_chain u), (xx_op u), (xx_opA u), (xx_opB u), (xx_opC u), (xx_opD u), (xx_opE u), (xx_map u), (xx_picked u), reg', (upd (xx_loopAt u) d (nI (i + 1))), (xx_loopCode u), (xx_result u), (xx_order u))) → wX_loadRow_47 post (nI d) (nI i) (nI t) (xx_nodes u) (xx_root u) (xx_codeLength u) (xx_mapWidth u) (xx_registersUsed u) (xx_depth u) (xx_overflow u) (xx_resultWidth u) (xx_resultRows u) (e + 1) (nI c) (xx_tableCells u) (xx_tableRows u) (xx_kindOf u) (xx_first u) (xx_second u) (xx_p u) (xx_q u) (xx_r u) (xx_widthOf u) (xx_parent u) (xx_inPlan u) (xx_given u) (xx_store u) (xx_storeRows u) (xx_heads u) (xx_chain u) (xx_op u) (xx_opA u) (xx_opB u) (xx_opC u) (xx_opD u) (xx_opE u) (xx_map u) (xx_picked u) reg (xx_loopAt u) (xx_loopCode u) (xx_result u) (xx_order u) := by
  intro e
  induction e with
  | zero =>
    intro c reg hc h
    have ec : c = 3 := by omega
    subst ec
    refine br_t (nI_le (a := 3) (b := 3) (Nat.le_refl _) (by decide)) (And.intro (vp_in_nI hd (by decide)) ?_)
    rw [fi_cl (by omega : d < 4096), nI_1]
    intro la ela
    subst ela
    exact h reg (fun j _ => rfl) (fun j h1 h2 => by omega)
  | succ e ih =>
    intro c reg hc h
    refine br_f (nI_ge (b := 3) (by omega) (by decide)) ?_
    rw [fi_t, fi_cl (by omega : 18 * t + 3 * i + c < 4096), fi_cl (by omega : c < 4096), nI_1]
    refine And.intro (vp_in_nI (by omega) (by decide)) (And.intro (vp_in_nI (by omega) (by decide)) ?_)
    intro reg2 e2 c2 ec2
    subst e2 ec2
    refine ih (c + 1) _ (by omega) fun reg' h1 h2 => h reg' (fun j hj => ?_) (fun j hj1 hj2 => ?_)
    · rw [h1 j (by omega), fi_un (by omega)]
    · by_cases z : j = c
      · subst z
        rw [h1 _ (by omega), fi_us]
      · exact h2 j (by omega) hj2
theorem fx_lrTable {u : SX} {d pos t i n : Nat} {B C D E : Int32} (post : Int32 → SX → Prop) (hd : d < 16) (hpos : pos < 40) (ht : t < 3) (hlc : xx_loopCode u d = nI pos) (hla : xx_loopAt u d = nI i) (hi : fx_ins u pos 0 (nI t) B C D E) (hn : xx_tableRows u t = nI n) (hn6 : n ≤ 6) (hin : i ≤ n)
    (h0 : i = n → post 0 u) (h1 : i < n → ∀ reg', (∀ j, 3 ≤ j → reg' j = xx_register u j) → (∀ j, j < 3 → reg' j = xx_tableCells u (18 * t + 3 * i + j)) → post 1 ((xx_nodes u), (xx_root u), (xx_codeLength u), (xx_mapWidth u), (xx_registersUsed u), (xx_depth u), (xx_overflow u), (xx_resultWidth u), (xx_resultRows u), (xx_tableCells u), (xx_tableRows u), (xx_kindOf u), (xx_first u), (xx_second u), (xx_p u), (xx_q u), (xx_r u), (xx_widthOf u), (xx_parent u), (xx_inPlan u), (xx_given u), (xx_store u), (xx_storeRows u), (xx_heads u), (xx_chain u), (xx_op u), (xx_opA u), (xx_opB u), (xx_opC u), (xx_opD u), (xx_opE u), (xx_map u), (xx_picked u), reg', (upd (xx_loopAt u) d (nI (i + 1))), (xx_loopCode u), (xx_result u), (xx_order u))) : wpX_loadRow post u (nI d) := by
  obtain ⟨i1, i2, i3, i4, i5, i6⟩ := hi
  have hvd := vp_in_nI (n := d) hd (by decide)
  have hv := vp_in_nI (n := pos) hpos (by decide)
  show wpX_loadRow post ((xx_nodes u), (xx_root u), (xx_codeLength u), (xx_mapWidth u), (xx_registersUsed u), (xx_depth u), (xx_overflow u), (xx_resultWidth u), (xx_resultRows u), (xx_tableCells u), (xx_tableRows u), (xx_kindOf u), (xx_first u), (xx_second u), (xx_p u), (xx_q u), (xx_r u), (xx_widthOf u), (xx_parent u), (xx_inPlan u), (xx_given u), (xx_store u), (xx_storeRows u), (xx_heads u), (xx_chain u), (xx_op u), (xx_opA u), (xx_opB u), (xx_opC u), (xx_opD u), (xx_opE u), (xx_map u), (xx_picked u), (xx_register u), (xx_loopAt u), (xx_loopCode u), (xx_result u), (xx_order u)) (nI d)
  unfold wpX_loadRow
  dsimp only
  rw [fi_cl (by omega : d < 4096), hlc, hla]
  refine ⟨hvd, ?_⟩
  intro x2 e2
  subst e2
  refine ⟨hvd, ?_⟩
  intro x3 e3
  subst e3
  rw [fi_cl (by omega : pos < 4096), i1, i2]
  refine ⟨hv, br_t rfl ⟨hv, ?_⟩⟩
  intro x4 e4
  subst e4
  rw [fi_cl (by omega : t < 4096), hn]
  refine ⟨vp_in_nI ht (by decide), ?_⟩
  by_cases c : i < n
  · refine br_t (nI_lt c (by omega)) ⟨4, ?_⟩
    exact fx_lr47 post hd ht (by omega) 3 0 (xx_register u) (by omega) fun reg' g1 g2 => h1 c reg' (fun j hj => g1 j (Or.inr hj)) (fun j hj => g2 j (by omega) hj)
  · exact br_f (nI_nlt (by omega) (by omega)) (h0 (by omega))
theorem fx_lrStored {u : SX} {d pos a i w n : Nat} {C D E : Int32} (post : Int32 → SX → Prop) (hd : d < 16) (hpos : pos < 40) (ha : a < 13) (hw : w ≤ 6) (hlc : xx_loopCode u d = nI pos) (hla : xx_loopAt u d = nI i) (hi : fx_ins u pos 1 (nI a) (nI w) C D E) (hn : xx_storeRows u a = nI n) (hn20 : n ≤ 20) (hin : i ≤ n)
    (h0 : i = n → post 0 u) (h1 : i < n → ∀ reg', (∀ j, w ≤ j → reg' j = xx_register u j) → (∀ j, j < w → reg' j = xx_store u (120 * a + 6 * i + j)) → post 1 ((xx_nodes u), (xx_root u), (xx_codeLength u), (xx_mapWidth u), (xx_registersUsed u), (xx_depth u), (xx_overflow u), (xx_resultWidth u), (xx_resultRows u), (xx_tableCells u), (xx_tableRows u), (xx_kindOf u), (xx_first u), (xx_second u), (xx_p u), (xx_q u), (xx_r u), (xx_widthOf u), (xx_parent u), (xx_inPlan u), (xx_given u), (xx_store u), (xx_storeRows u), (xx_heads u), (xx_chain u), (xx_op u), (xx_opA u), (xx_opB u), (xx_opC u), (xx_opD u), (xx_opE u), (xx_map u), (xx_picked u), reg', (upd (xx_loopAt u) d (nI (i + 1))), (xx_loopCode u), (xx_result u), (xx_order u))) : wpX_loadRow post u (nI d) := by
  obtain ⟨i1, i2, i3, i4, i5, i6⟩ := hi
  have hvd := vp_in_nI (n := d) hd (by decide)
  have hv := vp_in_nI (n := pos) hpos (by decide)
  show wpX_loadRow post ((xx_nodes u), (xx_root u), (xx_codeLength u), (xx_mapWidth u), (xx_registersUsed u), (xx_depth u), (xx_overflow u), (xx_resultWidth u), (xx_resultRows u), (xx_tableCells u), (xx_tableRows u), (xx_kindOf u), (xx_first u), (xx_second u), (xx_p u), (xx_q u), (xx_r u), (xx_widthOf u), (xx_parent u), (xx_inPlan u), (xx_given u), (xx_store u), (xx_storeRows u), (xx_heads u), (xx_chain u), (xx_op u), (xx_opA u), (xx_opB u), (xx_opC u), (xx_opD u), (xx_opE u), (xx_map u), (xx_picked u), (xx_register u), (xx_loopAt u), (xx_loopCode u), (xx_result u), (xx_order u)) (nI d)
  unfold wpX_loadRow
  dsimp only
  rw [fi_cl (by omega : d < 4096), hlc, hla]
  refine ⟨hvd, ?_⟩
  intro x2 e2
  subst e2
  refine ⟨hvd, ?_⟩
  intro x3 e3
  subst e3
  rw [fi_cl (by omega : pos < 4096), i1, i2, i3]
  refine ⟨hv, br_f (by decide) ⟨hv, ?_⟩⟩
  intro x4 e4
  subst e4
  refine ⟨hv, br_t rfl ?_⟩
  rw [fi_cl (by omega : a < 4096), hn]
  refine ⟨vp_in_nI ha (by decide), ?_⟩
  by_cases c : i < n
  · refine br_t (nI_lt c (by omega)) ⟨hv, ?_⟩
    refine fx_loadStored (u := u) (b := 0) _ ha (by omega) hw (by omega) fun reg' g1 g2 => ?_
    refine And.intro hvd ?_
    intro la ela
    rw [nI_1] at ela
    subst ela
    exact h1 c reg' (fun j hj => g1 j (by omega)) (fun j hj => by have := g2 j hj; rw [Nat.zero_add] at this; exact this)
  · exact br_f (nI_nlt (by omega) (by omega)) (h0 (by omega))
theorem fx_lrMatch {u : SX} {d pos a B N w kc R : Nat} {S : List fp_Row} (post : Int32 → SX → Prop) (hd : d < 16) (hpos : pos < 40) (ha : a < 13) (hw : w ≤ 6) (hkc : kc < w) (hB : B < 96) (hR : R + w ≤ 96) (hlc : xx_loopCode u d = nI pos) (hla : xx_loopAt u d = fx_li (fx_hs S kc) N (fx_h (xx_register u B))) (hi : fx_ins u pos 2 (nI a) (nI B) (nI kc) (nI R) (nI w)) (hA : fx_AR (xx_store u) (xx_storeRows u) (xx_heads u) (xx_chain u) a S w kc) (hN : N ≤ S.length)
    (h0 : fp_fm (fp_cl S kc) (xx_register u B) N = none → post 0 u) (h1 : ∀ i, fp_fm (fp_cl S kc) (xx_register u B) N = some i → ∀ reg', (∀ j, (j < R ∨ R + w ≤ j) → reg' j = xx_register u j) → (∀ j, j < w → reg' (R + j) = (S.getD i []).getD j 0) → post 1 ((xx_nodes u), (xx_root u), (xx_codeLength u), (xx_mapWidth u), (xx_registersUsed u), (xx_depth u), (xx_overflow u), (xx_resultWidth u), (xx_resultRows u), (xx_tableCells u), (xx_tableRows u), (xx_kindOf u), (xx_first u), (xx_second u), (xx_p u), (xx_q u), (xx_r u), (xx_widthOf u), (xx_parent u), (xx_inPlan u), (xx_given u), (xx_store u), (xx_storeRows u), (xx_heads u), (xx_chain u), (xx_op u), (xx_opA u), (xx_opB u), (xx_opC u), (xx_opD u), (xx_opE u), (xx_map u), (xx_picked u), reg', (upd (xx_loopAt u) d (fx_li (fx_hs S kc) i (fx_h (xx_register u B)))), (xx_loopCode u), (xx_result u), (xx_order u))) : wpX_loadRow post u (nI d) := by
  obtain ⟨i1, i2, i3, i4, i5, i6⟩ := hi
  have hvd := vp_in_nI (n := d) hd (by decide)
  have hv := vp_in_nI (n := pos) hpos (by decide)
  have h20 := hA.1
  show wpX_loadRow post ((xx_nodes u), (xx_root u), (xx_codeLength u), (xx_mapWidth u), (xx_registersUsed u), (xx_depth u), (xx_overflow u), (xx_resultWidth u), (xx_resultRows u), (xx_tableCells u), (xx_tableRows u), (xx_kindOf u), (xx_first u), (xx_second u), (xx_p u), (xx_q u), (xx_r u), (xx_widthOf u), (xx_parent u), (xx_inPlan u), (xx_given u), (xx_store u), (xx_storeRows u), (xx_heads u), (xx_chain u), (xx_op u), (xx_opA u), (xx_opB u), (xx_opC u), (xx_opD u), (xx_opE u), (xx_map u), (xx_picked u), (xx_register u), (xx_loopAt u), (xx_loopCode u), (xx_result u), (xx_order u)) (nI d)
  unfold wpX_loadRow
  dsimp only
  rw [fi_cl (by omega : d < 4096), hlc, hla]
  refine ⟨hvd, ?_⟩
  intro x2 e2
  subst e2
  refine ⟨hvd, ?_⟩
  intro x3 e3
  subst e3
  rw [fi_cl (by omega : pos < 4096), i1, i2, i3, i4, i5, i6, fi_cl (by omega : B < 4096)]
  refine ⟨hv, br_f (by decide) ⟨hv, ?_⟩⟩
  intro x4 e4
  subst e4
  refine ⟨hv, br_f (by decide) ⟨hv, vp_in_nI hB (by decide), hv, ?_⟩⟩
  refine fx_findMatch (u := u) _ ha hw hkc hA hN ?_
  cases e : fp_fm (fp_cl S kc) (xx_register u B) N with
  | none => exact br_f (show ¬ (0 : Int32) ≤ -1 by decide) (h0 e)
  | some i =>
    obtain ⟨g1, g2, _⟩ := fp_fm_some e
    refine br_t (nI_pos' (n := i) (by omega)) ⟨hv, hv, ?_⟩
    refine fx_loadStored (u := u) _ ha (by omega : i < 20) hw hR fun reg' q1 q2 => ?_
    refine And.intro (show vp_in ((20 : Int32) * nI a + nI i) 260 by rw [fi_c]; exact vp_in_nI (by omega) (by decide)) (And.intro hvd ?_)
    intro la ela
    have ela0 : la = upd (xx_loopAt u) d (xx_chain u ((20 : Int32) * nI a + nI i).toNatClampNeg) := ela
    rw [fi_c, fi_cl (by omega : 20 * a + i < 4096)] at ela0
    have ek : fx_hs S kc i = fx_h (xx_register u B) := by unfold fx_hs; rw [g2]
    have hch : xx_chain u (20 * a + i) = fx_li (fx_hs S kc) i (fx_h (xx_register u B)) := by
      rw [hA.2.2.2.2 i (by omega), ek]
    have ela' : la = upd (xx_loopAt u) d (fx_li (fx_hs S kc) i (fx_h (xx_register u B))) := by rw [← hch]; exact ela0
    subst ela'
    exact h1 i e reg' q1 fun j hj => (q2 j hj).trans ((hA.2.2.1 i (by omega)).2 j hj)
end
section
/-! ## X: the code of a pipeline, the state of a run -/
abbrev fx_e (v : SX) : Int32 × Int32 × Int32 × Int32 × Int32 × Int32 × Int32 × (Nat → Int32) × (Nat → Int32) × (Nat → Int32) × (Nat → Int32) × (Nat → Int32) × (Nat → Int32) × (Nat → Int32) × (Nat → Int32) × (Nat → Int32) × (Nat → Int32) × (Nat → Int32) × (Nat → Int32) × (Nat → Int32) × (Nat → Int32) × (Nat → Int32) × (Nat → Int32) × (Nat → Int32) × (Nat → Int32) × (Nat → Int32) × (Nat → Int32) × (Nat → Int32) := (xx_nodes v, xx_root v, xx_codeLength v, xx_mapWidth v, xx_registersUsed v, xx_resultWidth v, xx_resultRows v, xx_tableCells v, xx_tableRows v, xx_kindOf v, xx_first v, xx_second v, xx_p v, xx_q v, xx_r v, xx_widthOf v, xx_parent v, xx_inPlan v, xx_op v, xx_opA v, xx_opB v, xx_opC v, xx_opD v, xx_opE v, xx_map v, xx_picked v, xx_result v, xx_order v)
theorem fx_e_nodes {v v' : SX} (h : fx_e v' = fx_e v) : xx_nodes v' = xx_nodes v := congrArg (fun e => e.1) h
theorem fx_e_root {v v' : SX} (h : fx_e v' = fx_e v) : xx_root v' = xx_root v := congrArg (fun e => e.2.1) h
theorem fx_e_codeLength {v v' : SX} (h : fx_e v' = fx_e v) : xx_codeLength v' = xx_codeLength v := congrArg (fun e => e.2.2.1) h
theorem fx_e_mapWidth {v v' : SX} (h : fx_e v' = fx_e v) : xx_mapWidth v' = xx_mapWidth v := congrArg (fun e => e.2.2.2.1) h
theorem fx_e_registersUsed {v v' : SX} (h : fx_e v' = fx_e v) : xx_registersUsed v' = xx_registersUsed v := congrArg (fun e => e.2.2.2.2.1) h
theorem fx_e_resultWidth {v v' : SX} (h : fx_e v' = fx_e v) : xx_resultWidth v' = xx_resultWidth v := congrArg (fun e => e.2.2.2.2.2.1) h
theorem fx_e_resultRows {v v' : SX} (h : fx_e v' = fx_e v) : xx_resultRows v' = xx_resultRows v := congrArg (fun e => e.2.2.2.2.2.2.1) h
theorem fx_e_tableCells {v v' : SX} (h : fx_e v' = fx_e v) : xx_tableCells v' = xx_tableCells v := congrArg (fun e => e.2.2.2.2.2.2.2.1) h
theorem fx_e_tableRows {v v' : SX} (h : fx_e v' = fx_e v) : xx_tableRows v' = xx_tableRows v := congrArg (fun e => e.2.2.2.2.2.2.2.2.1) h
theorem fx_e_kindOf {v v' : SX} (h : fx_e v' = fx_e v) : xx_kindOf v' = xx_kindOf v := congrArg (fun e => e.2.2.2.2.2.2.2.2.2.1) h
theorem fx_e_first {v v' : SX} (h : fx_e v' = fx_e v) : xx_first v' = xx_first v := congrArg (fun e => e.2.2.2.2.2.2.2.2.2.2.1) h
theorem fx_e_second {v v' : SX} (h : fx_e v' = fx_e v) : xx_second v' = xx_second v := congrArg (fun e => e.2.2.2.2.2.2.2.2.2.2.2.1) h
theorem fx_e_p {v v' : SX} (h : fx_e v' = fx_e v) : xx_p v' = xx_p v := congrArg (fun e => e.2.2.2.2.2.2.2.2.2.2.2.2.1) h
theorem fx_e_q {v v' : SX} (h : fx_e v' = fx_e v) : xx_q v' = xx_q v := congrArg (fun e => e.2.2.2.2.2.2.2.2.2.2.2.2.2.1) h
theorem fx_e_r {v v' : SX} (h : fx_e v' = fx_e v) : xx_r v' = xx_r v := congrArg (fun e => e.2.2.2.2.2.2.2.2.2.2.2.2.2.2.1) h
theorem fx_e_widthOf {v v' : SX} (h : fx_e v' = fx_e v) : xx_widthOf v' = xx_widthOf v := congrArg (fun e => e.2.2.2.2.2.2.2.2.2.2.2.2.2.2.2.1) h
theorem fx_e_parent {v v' : SX} (h : fx_e v' = fx_e v) : xx_parent v' = xx_parent v := congrArg (fun e => e.2.2.2.2.2.2.2.2.2.2.2.2.2.2.2.2.1) h
theorem fx_e_inPlan {v v' : SX} (h : fx_e v' = fx_e v) : xx_inPlan v' = xx_inPlan v := congrArg (fun e => e.2.2.2.2.2.2.2.2.2.2.2.2.2.2.2.2.2.1) h
theorem fx_e_op {v v' : SX} (h : fx_e v' = fx_e v) : xx_op v' = xx_op v := congrArg (fun e => e.2.2.2.2.2.2.2.2.2.2.2.2.2.2.2.2.2.2.1) h
theorem fx_e_opA {v v' : SX} (h : fx_e v' = fx_e v) : xx_opA v' = xx_opA v := congrArg (fun e => e.2.2.2.2.2.2.2.2.2.2.2.2.2.2.2.2.2.2.2.1) h
theorem fx_e_opB {v v' : SX} (h : fx_e v' = fx_e v) : xx_opB v' = xx_opB v := congrArg (fun e => e.2.2.2.2.2.2.2.2.2.2.2.2.2.2.2.2.2.2.2.2.1) h
theorem fx_e_opC {v v' : SX} (h : fx_e v' = fx_e v) : xx_opC v' = xx_opC v := congrArg (fun e => e.2.2.2.2.2.2.2.2.2.2.2.2.2.2.2.2.2.2.2.2.2.1) h
theorem fx_e_opD {v v' : SX} (h : fx_e v' = fx_e v) : xx_opD v' = xx_opD v := congrArg (fun e => e.2.2.2.2.2.2.2.2.2.2.2.2.2.2.2.2.2.2.2.2.2.2.1) h
theorem fx_e_opE {v v' : SX} (h : fx_e v' = fx_e v) : xx_opE v' = xx_opE v := congrArg (fun e => e.2.2.2.2.2.2.2.2.2.2.2.2.2.2.2.2.2.2.2.2.2.2.2.1) h
theorem fx_e_map {v v' : SX} (h : fx_e v' = fx_e v) : xx_map v' = xx_map v := congrArg (fun e => e.2.2.2.2.2.2.2.2.2.2.2.2.2.2.2.2.2.2.2.2.2.2.2.2.1) h
theorem fx_e_picked {v v' : SX} (h : fx_e v' = fx_e v) : xx_picked v' = xx_picked v := congrArg (fun e => e.2.2.2.2.2.2.2.2.2.2.2.2.2.2.2.2.2.2.2.2.2.2.2.2.2.1) h
theorem fx_e_result {v v' : SX} (h : fx_e v' = fx_e v) : xx_result v' = xx_result v := congrArg (fun e => e.2.2.2.2.2.2.2.2.2.2.2.2.2.2.2.2.2.2.2.2.2.2.2.2.2.2.1) h
theorem fx_e_order {v v' : SX} (h : fx_e v' = fx_e v) : xx_order v' = xx_order v := congrArg (fun e => e.2.2.2.2.2.2.2.2.2.2.2.2.2.2.2.2.2.2.2.2.2.2.2.2.2.2.2) h
def fx_w (π : fp_Pl) (root a : Nat) : Nat := min 6 (if a = 12 then fp_wd π root else if fp_kd π (fp_par π a) = 7 then 2 else fp_wd π a)
def fx_kc (π : fp_Pl) (a : Nat) : Nat := if a = 12 then 0 else if fp_kd π (fp_par π a) = 7 ∨ fp_kd π (fp_par π a) = 8 then 0 else (fp_q π (fp_par π a)).toNatClampNeg
def fx_A1 (π : fp_Pl) (root : Nat) (u : SX) (XS : Nat → List fp_Row) (a : Nat) : Prop := fx_AR (xx_store u) (xx_storeRows u) (xx_heads u) (xx_chain u) a (XS a) (fx_w π root a) (fx_kc π a)
def fx_MS (π : fp_Pl) (root : Nat) (u : SX) (s : fp_St) : Prop := (∀ c, c < 12 → xx_given u c = nI (s.1 c)) ∧ ∀ a, a < 13 → fx_A1 π root u s.2 a
def fx_sum (G : Nat → Nat) : Nat := G 0 + G 1 + G 2 + G 3 + G 4 + G 5 + G 6 + G 7 + G 8 + G 9 + G 10 + G 11
def fx_pot (s : fp_St) (q : Nat) : Nat := q + 13 * (252 - fx_sum s.1)
theorem fx_sum_s (G : Nat → Nat) {c : Nat} (hc : c < 12) : fx_sum (fun j => if j = c then G j + 1 else G j) = fx_sum G + 1 := by
  have h : c = 0 ∨ c = 1 ∨ c = 2 ∨ c = 3 ∨ c = 4 ∨ c = 5 ∨ c = 6 ∨ c = 7 ∨ c = 8 ∨ c = 9 ∨ c = 10 ∨ c = 11 := by omega
  unfold fx_sum
  rcases h with h | h | h | h | h | h | h | h | h | h | h | h <;> subst h <;> simp <;> omega
theorem fx_sum_le {G : Nat → Nat} (h : ∀ c, c < 12 → G c ≤ 20) : fx_sum G ≤ 240 := by
  have h0 := h 0 (by decide)
  have h1 := h 1 (by decide)
  have h2 := h 2 (by decide)
  have h3 := h 3 (by decide)
  have h4 := h 4 (by decide)
  have h5 := h 5 (by decide)
  have h6 := h 6 (by decide)
  have h7 := h 7 (by decide)
  have h8 := h 8 (by decide)
  have h9 := h 9 (by decide)
  have h10 := h 10 (by decide)
  have h11 := h 11 (by decide)
  unfold fx_sum
  omega
theorem fx_w6 (π : fp_Pl) (root a : Nat) : fx_w π root a ≤ 6 := Nat.min_le_left _ _
def fx_mg (mp : List Nat) (c : Int32) : Nat := mp.getD c.toNatClampNeg 0
def fx_pm (π : fp_Pl) (c : Nat) (mp : List Nat) : List Nat := fx_mg mp (fp_p π c) :: ((if fp_q π c < 0 then [] else [fx_mg mp (fp_q π c)]) ++ (if fp_r π c < 0 then [] else [fx_mg mp (fp_r π c)]))
def fx_sc (u : SX) (π : fp_Pl) (root t pos : Nat) (mp : List Nat) : Prop :=
  fx_MP u mp ∧
  (t = root → fx_ins u pos 7 (nI 12) (nI 0) 0 0 0) ∧
  (t ≠ root → fp_kd π (fp_par π t) = 7 → fx_ins u pos 8 (nI t) (nI (fx_mg mp (fp_p π (fp_par π t)))) (fp_q π (fp_par π t)) (nI (fx_mg mp (fp_r π (fp_par π t)))) 0) ∧
  (t ≠ root → fp_kd π (fp_par π t) = 8 → fx_ins u pos 9 (nI t) 0 0 0 0) ∧
  (t ≠ root → fp_kd π (fp_par π t) ≠ 7 → fp_kd π (fp_par π t) ≠ 8 → fx_ins u pos 7 (nI t) (fp_q π (fp_par π t)) 0 0 0)
def fx_CD (u : SX) (π : fp_Pl) (root : Nat) : Nat → Nat → Nat → List Nat → Nat → Prop
  | 0 => fun n pos mp _ => fx_sc u π root n pos mp
  | k + 1 => fun n pos mp R => (fp_tp π root n = true → fx_sc u π root n pos mp) ∧ (¬ fp_tp π root n = true →
    (fp_kd π (fp_par π n) = 1 → fx_ins u pos 3 (nI (fx_mg mp (fp_p π (fp_par π n)))) (fp_q π (fp_par π n)) (fp_r π (fp_par π n)) 0 0 ∧ fx_CD u π root k (fp_par π n) (pos + 1) mp R) ∧
    (fp_kd π (fp_par π n) = 2 → fx_ins u pos 4 (fp_p π (fp_par π n)) (nI (fx_mg mp (fp_q π (fp_par π n)))) (nI (fx_mg mp (fp_r π (fp_par π n)))) (nI R) 0 ∧ fx_CD u π root k (fp_par π n) (pos + 1) (mp ++ [R]) (R + 1)) ∧
    (fp_kd π (fp_par π n) = 3 → fx_CD u π root k (fp_par π n) pos (fx_pm π (fp_par π n) mp) R) ∧
    (fp_kd π (fp_par π n) = 4 → fx_ins u pos 2 (nI (fp_sb π (fp_par π n))) (nI (fx_mg mp (fp_p π (fp_par π n)))) (fp_q π (fp_par π n)) (nI R) (nI (fp_wd π (fp_sb π (fp_par π n)))) ∧ fx_ins u (pos + 1) 6 (nI (fp_par π n)) 0 0 0 0 ∧ fx_CD u π root k (fp_par π n) (pos + 2) (mp ++ List.range' R (fp_wd π (fp_sb π (fp_par π n)))) (R + fp_wd π (fp_sb π (fp_par π n)))) ∧
    (fp_kd π (fp_par π n) = 9 → fx_ins u pos 6 (nI (fp_par π n)) 0 0 0 0 ∧ fx_CD u π root k (fp_par π n) (pos + 1) mp R) ∧
    (fp_kd π (fp_par π n) = 5 ∨ fp_kd π (fp_par π n) = 6 → fx_ins u pos 5 (nI (fp_sb π (fp_par π n))) (nI (fx_mg mp (fp_p π (fp_par π n)))) (fp_q π (fp_par π n)) (if fp_kd π (fp_par π n) = 5 then 1 else 0) 0 ∧ fx_CD u π root k (fp_par π n) (pos + 1) mp R))
theorem fx_ins_e {u u0 : SX} (h : fx_e u = fx_e u0) {pos : Nat} {o a b c d e : Int32} (hi : fx_ins u0 pos o a b c d e) : fx_ins u pos o a b c d e := by
  unfold fx_ins
  rw [fx_e_op h, fx_e_opA h, fx_e_opB h, fx_e_opC h, fx_e_opD h, fx_e_opE h]; exact hi
theorem fx_MP_e {u u0 : SX} (h : fx_e u = fx_e u0) {mp : List Nat} (hi : fx_MP u0 mp) : fx_MP u mp := by
  unfold fx_MP
  rw [fx_e_mapWidth h, fx_e_map h]; exact hi
/-- the other areas, which a pipeline only reads -/
def fx_AO (π : fp_Pl) (root t : Nat) (u : SX) (XS0 : Nat → List fp_Row) : Prop := ∀ a, a < 13 → a ≠ fp_ar root t → fx_A1 π root u XS0 a
/-- after some events: all well, or too much -/
def fx_O (π : fp_Pl) (root t : Nat) (XS0 : Nat → List fp_Row) (b : Nat) (u : SX) (s : fp_St) (q : Nat) : Prop :=
  (xx_overflow u = 0 ∧ fp_ok root t s ∧ fx_MS π root u s ∧ fx_pot s q ≤ b) ∨ (xx_overflow u = 1 ∧ ¬ fp_ok root t s ∧ fx_AO π root t u XS0 ∧ q ≤ 6000)
def fx_K (π : fp_Pl) (root t : Nat) (XS0 : Nat → List fp_Row) (post : SX → Prop) (u0 : SX) (d R : Nat) (u : SX) (s : fp_St) (b : Nat) : Prop :=
  ∀ u' q nf, fx_e u' = fx_e u0 → xx_depth u' = nI d → (∀ j, j < d → xx_loopAt u' j = xx_loopAt u j ∧ xx_loopCode u' j = xx_loopCode u j) → (∀ j, j < R → xx_register u' j = xx_register u j) → fx_O π root t XS0 b u' s q → 6000 < nf + q → ∀ kk nn, kk + d ≤ 15 → d < nn → wX_nextRow_2 (fx_C post nf q) nn (nI kk) (xx_nodes u') (xx_root u') (xx_codeLength u') (xx_mapWidth u') (xx_registersUsed u') (xx_depth u') (xx_overflow u') (xx_resultWidth u') (xx_resultRows u') (xx_tableCells u') (xx_tableRows u') (xx_kindOf u') (xx_first u') (xx_second u') (xx_p u') (xx_q u') (xx_r u') (xx_widthOf u') (xx_parent u') (xx_inPlan u') (xx_given u') (xx_store u') (xx_storeRows u') (xx_heads u') (xx_chain u') (xx_op u') (xx_opA u') (xx_opB u') (xx_opC u') (xx_opD u') (xx_opE u') (xx_map u') (xx_picked u') (xx_register u') (xx_loopAt u') (xx_loopCode u') (xx_result u') (xx_order u')
def fx_SIM (π : fp_Pl) (root t : Nat) (XS0 : Nat → List fp_Row) (post : SX → Prop) (u0 : SX) (k : Nat) : Prop :=
  ∀ n pos mp R x u s step nf d, n ≤ root → root ≤ n + k → fp_pl π root n = true → fp_to π root n = t →
  fx_CD u0 π root k n pos mp R → pos ≤ 2 * n + 1 → R ≤ 6 * (n + 1) → mp.length = fp_wd π n → (∀ j, j < mp.length → mp.getD j 0 < R) →
  fx_RP (xx_register u) mp x → fx_e u = fx_e u0 → xx_depth u = nI d → d ≤ n + 1 → xx_overflow u = 0 → fx_MS π root u s → fp_ok root t s → (∀ a, a ≠ fp_ar root t → s.2 a = XS0 a) →
  fx_pot s step + (12 - n) ≤ 6000 → 6000 < nf + step →
  fx_K π root t XS0 post u0 d R u (fp_app π root t s (fp_ev π root (fp_rt XS0) k n x)) (fx_pot s step + (12 - n)) →
  (∀ u', fx_e u' = fx_e u0 → xx_overflow u' = 1 → ¬ fp_ok root t (fp_app π root t s (fp_ev π root (fp_rt XS0) k n x)) → post u') →
  wX_execute_9 post nf (nI pos) (nI step) (xx_nodes u) (xx_root u) (xx_codeLength u) (xx_mapWidth u) (xx_registersUsed u) (xx_depth u) (xx_overflow u) (xx_resultWidth u) (xx_resultRows u) (xx_tableCells u) (xx_tableRows u) (xx_kindOf u) (xx_first u) (xx_second u) (xx_p u) (xx_q u) (xx_r u) (xx_widthOf u) (xx_parent u) (xx_inPlan u) (xx_given u) (xx_store u) (xx_storeRows u) (xx_heads u) (xx_chain u) (xx_op u) (xx_opA u) (xx_opB u) (xx_opC u) (xx_opD u) (xx_opE u) (xx_map u) (xx_picked u) (xx_register u) (xx_loopAt u) (xx_loopCode u) (xx_result u) (xx_order u)
theorem fx_AO_MS {π : fp_Pl} {root t : Nat} {u : SX} {s : fp_St} {XS0 : Nat → List fp_Row} (h : fx_MS π root u s) (hx : ∀ a, a ≠ fp_ar root t → s.2 a = XS0 a) : fx_AO π root t u XS0 := by
  intro a ha hne
  have := h.2 a ha
  unfold fx_A1 at this ⊢
  rw [hx a hne] at this
  exact this
theorem fx_MS_snk {π : fp_Pl} {root t : Nat} {u : SX} {s : fp_St} {x : fp_Row} {st' sr' hd' ch' : Nat → Int32} (h : fx_MS π root u s) (hF : fx_FA (fp_ar root t) (xx_store u) (xx_storeRows u) (xx_heads u) (xx_chain u) st' sr' hd' ch')
    (hA : fx_AR st' sr' hd' ch' (fp_ar root t) (fp_snk π root t (s.2 (fp_ar root t)) x) (fx_w π root (fp_ar root t)) (fx_kc π (fp_ar root t))) : fx_MS π root ((xx_nodes u), (xx_root u), (xx_codeLength u), (xx_mapWidth u), (xx_registersUsed u), (xx_depth u), (xx_overflow u), (xx_resultWidth u), (xx_resultRows u), (xx_tableCells u), (xx_tableRows u), (xx_kindOf u), (xx_first u), (xx_second u), (xx_p u), (xx_q u), (xx_r u), (xx_widthOf u), (xx_parent u), (xx_inPlan u), (xx_given u), st', sr', hd', ch', (xx_op u), (xx_opA u), (xx_opB u), (xx_opC u), (xx_opD u), (xx_opE u), (xx_map u), (xx_picked u), (xx_register u), (xx_loopAt u), (xx_loopCode u), (xx_result u), (xx_order u)) (fp_app1 π root t s (Sum.inr x)) := by
  refine ⟨h.1, fun a ha => ?_⟩
  show fx_AR st' sr' hd' ch' a (if a = fp_ar root t then fp_snk π root t (s.2 a) x else s.2 a) _ _
  by_cases e : a = fp_ar root t
  · subst e; rw [if_pos rfl]; exact hA
  · rw [if_neg e]
    exact fx_AR_fr e (fx_w6 _ _ _) hF.1 hF.2.1 hF.2.2.1 hF.2.2.2 (h.2 a ha)
theorem fx_RP_mg {reg : Nat → Int32} {mp : List Nat} {x : fp_Row} {c : Int32} (h : fx_RP reg mp x) (hc : c.toNatClampNeg < mp.length) : reg (fx_mg mp c) = fp_at x c := h.2 _ hc
theorem fx_ok_app1 {π : fp_Pl} {root t : Nat} {s : fp_St} {x : fp_Row} (hok : fp_ok root t s) : fp_ok root t (fp_app1 π root t s (Sum.inr x)) ↔ (fp_snk π root t (s.2 (fp_ar root t)) x).length ≤ 20 := by
  have e : (fp_app1 π root t s (Sum.inr x)).2 (fp_ar root t) = fp_snk π root t (s.2 (fp_ar root t)) x := by
    show (if fp_ar root t = fp_ar root t then _ else _) = _
    rw [if_pos rfl]
  unfold fp_ok
  rw [e]
  exact ⟨fun h => h.2, fun h => ⟨hok.1, h⟩⟩
/-! ## X: the sink -/
theorem fx_simS {π : fp_Pl} {m root : Nat} (C : fp_cx π m root) {XS0 : Nat → List fp_Row} (post : SX → Prop) (u0 : SX) {n pos : Nat} {mp : List Nat} {R : Nat} {x : fp_Row} {u : SX} {s : fp_St} {step nf d : Nat}
    (hn : n ≤ root) (hpl : fp_pl π root n = true) (htp : fp_tp π root n = true) (hsc : fx_sc u0 π root n pos mp) (hpos : pos ≤ 2 * n + 1) (hR6 : R ≤ 6 * (n + 1)) (hmp : mp.length = fp_wd π n) (hmR : ∀ j, j < mp.length → mp.getD j 0 < R)
    (hRP : fx_RP (xx_register u) mp x) (he : fx_e u = fx_e u0) (hd : xx_depth u = nI d) (hdn : d ≤ n + 1) (hov : xx_overflow u = 0) (hMS : fx_MS π root u s) (hok : fp_ok root n s) (hXS : ∀ a, a ≠ fp_ar root n → s.2 a = XS0 a)
    (hpot : fx_pot s step + (12 - n) ≤ 6000) (hnf : 6000 < nf + step) (hK : fx_K π root n XS0 post u0 d R u (fp_app1 π root n s (Sum.inr x)) (fx_pot s step + (12 - n))) :
    wX_execute_9 post nf (nI pos) (nI step) (xx_nodes u) (xx_root u) (xx_codeLength u) (xx_mapWidth u) (xx_registersUsed u) (xx_depth u) (xx_overflow u) (xx_resultWidth u) (xx_resultRows u) (xx_tableCells u) (xx_tableRows u) (xx_kindOf u) (xx_first u) (xx_second u) (xx_p u) (xx_q u) (xx_r u) (xx_widthOf u) (xx_parent u) (xx_inPlan u) (xx_given u) (xx_store u) (xx_storeRows u) (xx_heads u) (xx_chain u) (xx_op u) (xx_opA u) (xx_opB u) (xx_opC u) (xx_opD u) (xx_opE u) (xx_map u) (xx_picked u) (xx_register u) (xx_loopAt u) (xx_loopCode u) (xx_result u) (xx_order u) := by
  have hm := C.1.1
  have hr := C.2
  have hnm : n < m := by omega
  obtain ⟨_, _, _, hw1, hw6, _⟩ := C.1.2 n hnm
  have hsum := fx_sum_le hok.1
  have hstep : step < 6000 := by unfold fx_pot at hpot; omega
  obtain ⟨hMP0, c0, c7, c8, cr⟩ := hsc
  have hMP := fx_MP_e he hMP0
  obtain ⟨nf, rfl⟩ : ∃ nf', nf = nf' + 1 := ⟨nf - 1, by omega⟩
  refine fx_ex post hstep hov (by omega) ?_
  have hxw : x.length = fp_wd π n := hRP.1.trans hmp
  have goOk : ∀ st' sr' hd' ch', (fp_snk π root n (s.2 (fp_ar root n)) x).length ≤ 20 → fx_FA (fp_ar root n) (xx_store u) (xx_storeRows u) (xx_heads u) (xx_chain u) st' sr' hd' ch' → fx_AR st' sr' hd' ch' (fp_ar root n) (fp_snk π root n (s.2 (fp_ar root n)) x) (fx_w π root (fp_ar root n)) (fx_kc π (fp_ar root n)) → wpX_nextRow (fx_C post nf (step + 1)) ((xx_nodes u), (xx_root u), (xx_codeLength u), (xx_mapWidth u), (xx_registersUsed u), (xx_depth u), (xx_overflow u), (xx_resultWidth u), (xx_resultRows u), (xx_tableCells u), (xx_tableRows u), (xx_kindOf u), (xx_first u), (xx_second u), (xx_p u), (xx_q u), (xx_r u), (xx_widthOf u), (xx_parent u), (xx_inPlan u), (xx_given u), st', sr', hd', ch', (xx_op u), (xx_opA u), (xx_opB u), (xx_opC u), (xx_opD u), (xx_opE u), (xx_map u), (xx_picked u), (xx_register u), (xx_loopAt u), (xx_loopCode u), (xx_result u), (xx_order u)) := by
    intro st' sr' hd' ch' hl hF hA
    refine ⟨d + 1, ?_⟩
    refine hK ((xx_nodes u), (xx_root u), (xx_codeLength u), (xx_mapWidth u), (xx_registersUsed u), (xx_depth u), (xx_overflow u), (xx_resultWidth u), (xx_resultRows u), (xx_tableCells u), (xx_tableRows u), (xx_kindOf u), (xx_first u), (xx_second u), (xx_p u), (xx_q u), (xx_r u), (xx_widthOf u), (xx_parent u), (xx_inPlan u), (xx_given u), st', sr', hd', ch', (xx_op u), (xx_opA u), (xx_opB u), (xx_opC u), (xx_opD u), (xx_opE u), (xx_map u), (xx_picked u), (xx_register u), (xx_loopAt u), (xx_loopCode u), (xx_result u), (xx_order u)) (step + 1) nf he hd (fun j _ => ⟨rfl, rfl⟩) (fun j _ => rfl) (Or.inl ⟨hov, (fx_ok_app1 hok).mpr hl, fx_MS_snk hMS hF hA, ?_⟩) (by omega) 0 (d + 1) (by omega) (by omega)
    show step + 1 + 13 * (252 - fx_sum s.1) ≤ _
    unfold fx_pot; omega
  have goOv : ¬ (fp_snk π root n (s.2 (fp_ar root n)) x).length ≤ 20 → wpX_nextRow (fx_C post nf (step + 1)) ((xx_nodes u), (xx_root u), (xx_codeLength u), (xx_mapWidth u), (xx_registersUsed u), (xx_depth u), 1, (xx_resultWidth u), (xx_resultRows u), (xx_tableCells u), (xx_tableRows u), (xx_kindOf u), (xx_first u), (xx_second u), (xx_p u), (xx_q u), (xx_r u), (xx_widthOf u), (xx_parent u), (xx_inPlan u), (xx_given u), (xx_store u), (xx_storeRows u), (xx_heads u), (xx_chain u), (xx_op u), (xx_opA u), (xx_opB u), (xx_opC u), (xx_opD u), (xx_opE u), (xx_map u), (xx_picked u), (xx_register u), (xx_loopAt u), (xx_loopCode u), (xx_result u), (xx_order u)) := by
    intro hl
    refine ⟨d + 1, ?_⟩
    exact hK ((xx_nodes u), (xx_root u), (xx_codeLength u), (xx_mapWidth u), (xx_registersUsed u), (xx_depth u), 1, (xx_resultWidth u), (xx_resultRows u), (xx_tableCells u), (xx_tableRows u), (xx_kindOf u), (xx_first u), (xx_second u), (xx_p u), (xx_q u), (xx_r u), (xx_widthOf u), (xx_parent u), (xx_inPlan u), (xx_given u), (xx_store u), (xx_storeRows u), (xx_heads u), (xx_chain u), (xx_op u), (xx_opA u), (xx_opB u), (xx_opC u), (xx_opD u), (xx_opE u), (xx_map u), (xx_picked u), (xx_register u), (xx_loopAt u), (xx_loopCode u), (xx_result u), (xx_order u)) (step + 1) nf he hd (fun j _ => ⟨rfl, rfl⟩) (fun j _ => rfl) (Or.inr ⟨rfl, fun z => hl ((fx_ok_app1 hok).mp z), fx_AO_MS hMS hXS, by omega⟩) (by omega) 0 (d + 1) (by omega) (by omega)
  by_cases hroot : n = root
  · have har : fp_ar root n = 12 := by unfold fp_ar; rw [if_pos hroot]
    have hsn : fp_snk π root n (s.2 (fp_ar root n)) x = s.2 12 ++ [x] := by unfold fp_snk; rw [if_pos hroot, har]
    have hw : fx_w π root 12 = fp_wd π n := by unfold fx_w; rw [if_pos rfl, ← hroot]; omega
    have hkc : fx_kc π 12 = 0 := by unfold fx_kc; rw [if_pos rfl]
    rw [hsn, har, hw, hkc] at goOk
    rw [hsn] at goOv
    have hA := hMS.2 12 (by decide)
    unfold fx_A1 at hA
    rw [hw, hkc] at hA
    refine fx_pfKeep _ (by omega) (fx_ins_e he (c0 hroot)) ?_
    refine fx_keep (u := u) _ (by decide) hw6 (by omega) hA hxw hMP hRP (fun hl st' sr' hd' ch' hF hAR => goOk st' sr' hd' ch' (by rw [List.length_append]; show _ + 1 ≤ 20; omega) hF hAR) (fun hl => goOv (by rw [List.length_append]; show ¬ _ + 1 ≤ 20; omega))
  · have har : fp_ar root n = n := fp_ar_ne hroot
    obtain ⟨a1, a2⟩ := fp_pl_up C.1 hnm hpl hroot
    obtain ⟨b1, b2, b3, b4⟩ := fp_chup C.1 hnm a1
    obtain ⟨_, _, _, _, _, _, _, _, _, _, hprm⟩ := C.1.2 _ b2
    have hA := hMS.2 n (by omega)
    unfold fx_A1 at hA
    by_cases h7 : fp_kd π (fp_par π n) = 7
    · have hsn : fp_snk π root n (s.2 (fp_ar root n)) x = fp_gst (fp_q π (fp_par π n)) (s.2 n) (fp_at x (fp_p π (fp_par π n))) (fp_at x (fp_r π (fp_par π n))) := by
        unfold fp_snk; rw [if_neg hroot, if_pos h7, har]
      have hw : fx_w π root n = 2 := by unfold fx_w; rw [if_neg (by omega), if_pos h7]; rfl
      have hkc : fx_kc π n = 0 := by unfold fx_kc; rw [if_neg (by omega), if_pos (Or.inl h7)]
      rw [hsn, har, hw, hkc] at goOk
      rw [hsn] at goOv
      rw [hw, hkc] at hA
      obtain ⟨_, _, _, _, _, _, q7, _⟩ := hprm
      obtain ⟨p1, p2, p3, p4⟩ := q7 h7
      have hfa : fp_fa π (fp_par π n) = n := by
        rcases b4 with ⟨_, e⟩ | ⟨e, _⟩
        · exact e
        · unfold fp_two at e; omega
      rw [hfa] at p1 p3
      have p1' := p1.2
      have p3' := p3.2
      have hB := hmR _ (by omega : (fp_p π (fp_par π n)).toNatClampNeg < mp.length)
      have hD := hmR _ (by omega : (fp_r π (fp_par π n)).toNatClampNeg < mp.length)
      have hB' : fx_mg mp (fp_p π (fp_par π n)) < 96 := by unfold fx_mg; omega
      have hD' : fx_mg mp (fp_r π (fp_par π n)) < 96 := by unfold fx_mg; omega
      refine fx_pfGroup _ (by omega) (fx_ins_e he (c7 hroot h7)) hB' hD' ?_
      rw [fx_RP_mg hRP (by omega), fx_RP_mg hRP (by omega)]
      exact fx_keepGroup (u := u) _ (by omega) hA (fun hl st' sr' hd' ch' hF hAR => goOk st' sr' hd' ch' hl hF hAR) goOv
    · by_cases h8 : fp_kd π (fp_par π n) = 8
      · have hsn : fp_snk π root n (s.2 (fp_ar root n)) x = if x ∈ s.2 n then s.2 n else s.2 n ++ [x] := by
          unfold fp_snk; rw [if_neg hroot, if_neg h7, if_pos h8, har]
        have hw : fx_w π root n = fp_wd π n := by unfold fx_w; rw [if_neg (by omega), if_neg h7]; omega
        have hkc : fx_kc π n = 0 := by unfold fx_kc; rw [if_neg (by omega), if_pos (Or.inr h8)]
        rw [hsn, har, hw, hkc] at goOk
        rw [hsn] at goOv
        rw [hw, hkc] at hA
        refine fx_pfNew _ (by omega) (fx_ins_e he (c8 hroot h8)) ?_
        refine fx_keepNew (u := u) _ (by omega) hw6 (by omega) hA hxw hMP hRP (fun hin => ?_) (fun hno hl st' sr' hd' ch' hF hAR => ?_) (fun hno hl => ?_)
        · rw [if_pos hin] at goOk
          exact goOk _ _ _ _ hA.1 ⟨fun _ _ => rfl, fun _ _ => rfl, fun _ _ => rfl, fun _ _ => rfl⟩ hA
        · rw [if_neg hno] at goOk
          exact goOk st' sr' hd' ch' (by rw [List.length_append]; show _ + 1 ≤ 20; omega) hF hAR
        · rw [if_neg hno] at goOv
          exact goOv (by rw [List.length_append]; show ¬ _ + 1 ≤ 20; omega)
      · have hsn : fp_snk π root n (s.2 (fp_ar root n)) x = s.2 n ++ [x] := by
          unfold fp_snk; rw [if_neg hroot, if_neg h7, if_neg h8, har]
        have hw : fx_w π root n = fp_wd π n := by unfold fx_w; rw [if_neg (by omega), if_neg h7]; omega
        have hkc : fx_kc π n = (fp_q π (fp_par π n)).toNatClampNeg := by unfold fx_kc; rw [if_neg (by omega), if_neg (by omega)]
        have hq : fp_col (fp_q π (fp_par π n)) (fp_wd π n) := by
          have ht := (fp_tp_iff _ _ _).mp htp
          have h46 : 4 ≤ fp_kd π (fp_par π n) ∧ fp_kd π (fp_par π n) ≤ 6 ∧ fp_sb π (fp_par π n) = n := by
            rcases ht with e | e | e | e
            · exact absurd e hroot
            · exact absurd e h7
            · exact absurd e h8
            · exact e
          obtain ⟨e1, e2, e3⟩ := h46
          obtain ⟨_, _, _, _, q4, q5, _⟩ := hprm
          by_cases h4 : fp_kd π (fp_par π n) = 4
          · have := (q4 h4).2.1; rw [e3] at this; exact this
          · have := (q5 (by omega)).2.1; rw [e3] at this; exact this
        rw [hsn, har, hw, hkc] at goOk
        rw [hsn] at goOv
        rw [hw, hkc] at hA
        have hi := fx_ins_e he (cr hroot h7 h8)
        rw [hq.1] at hi
        refine fx_pfKeep _ (by omega) hi ?_
        exact fx_keep (u := u) _ (by omega) hw6 hq.2 hA hxw hMP hRP (fun hl st' sr' hd' ch' hF hAR => goOk st' sr' hd' ch' (by rw [List.length_append]; show _ + 1 ≤ 20; omega) hF hAR) (fun hl => goOv (by rw [List.length_append]; show ¬ _ + 1 ≤ 20; omega))
end
section
/-! ## X: the loop over matches -/
def fp_ml (π : fp_Pl) (c : Nat) (x : fp_Row) (S : List fp_Row) (N : Nat) : List fp_Row := ((S.take N).reverse.filter (fp_mt π c x)).map (fun y => x ++ y)
theorem fp_ml_s (π : fp_Pl) (c : Nat) (x : fp_Row) (S : List fp_Row) {N : Nat} (h : N < S.length) : fp_ml π c x S (N + 1) = if fp_cl S (fp_q π c).toNatClampNeg N = fp_at x (fp_p π c) then (x ++ S.getD N []) :: fp_ml π c x S N else fp_ml π c x S N := by
  unfold fp_ml
  rw [fp_take_s S [] h, List.reverse_append, List.reverse_singleton, List.singleton_append, List.filter_cons]
  unfold fp_mt fp_cl
  by_cases e : (S.getD N []).getD (fp_q π c).toNatClampNeg 0 = fp_at x (fp_p π c)
  · rw [if_pos e, if_pos (decide_eq_true (show fp_at (S.getD N []) (fp_q π c) = fp_at x (fp_p π c) from e)), List.map_cons]
  · rw [if_neg e, if_neg (c := decide (fp_at (S.getD N []) (fp_q π c) = fp_at x (fp_p π c)) = true) (fun z => e (of_decide_eq_true z))]
theorem fp_ml_none (π : fp_Pl) (c : Nat) (x : fp_Row) (S : List fp_Row) : ∀ N, N ≤ S.length → fp_fm (fp_cl S (fp_q π c).toNatClampNeg) (fp_at x (fp_p π c)) N = none → fp_ml π c x S N = [] := by
  intro N
  induction N with
  | zero => intro _ _; rfl
  | succ N ih =>
    intro h hf
    rw [fp_ml_s π c x S (by omega)]
    unfold fp_fm at hf
    by_cases e : fp_cl S (fp_q π c).toNatClampNeg N = fp_at x (fp_p π c)
    · rw [if_pos e] at hf; cases hf
    · rw [if_neg e] at hf ⊢; exact ih (by omega) hf
theorem fp_ml_some (π : fp_Pl) (c : Nat) (x : fp_Row) (S : List fp_Row) {i : Nat} : ∀ N, N ≤ S.length → fp_fm (fp_cl S (fp_q π c).toNatClampNeg) (fp_at x (fp_p π c)) N = some i → fp_ml π c x S N = (x ++ S.getD i []) :: fp_ml π c x S i := by
  intro N
  induction N with
  | zero => intro _ hf; cases hf
  | succ N ih =>
    intro h hf
    rw [fp_ml_s π c x S (by omega)]
    unfold fp_fm at hf
    by_cases e : fp_cl S (fp_q π c).toNatClampNeg N = fp_at x (fp_p π c)
    · rw [if_pos e] at hf ⊢; cases hf; rfl
    · rw [if_neg e] at hf ⊢; exact ih (by omega) hf
/-- the events of the matches among the first N rows -/
def fp_evN (π : fp_Pl) (root : Nat) (rt : Nat → List fp_Row) (k c : Nat) (x : fp_Row) (S : List fp_Row) (N : Nat) : List fp_Ev := (fp_ml π c x S N).flatMap (fun y => Sum.inl c :: fp_ev π root rt k c y)
theorem fx_areaR {π : fp_Pl} {m root : Nat} (C : fp_cx π m root) {c t : Nat} (hc : c ≤ root) (hp : fp_pl π root c = true) (h4 : 4 ≤ fp_kd π c) (h6 : fp_kd π c ≤ 6) (hto : fp_to π root c = t) : fp_sb π c < c ∧ fp_sb π c ≠ fp_ar root t ∧ fx_w π root (fp_sb π c) = fp_wd π (fp_sb π c) ∧ fx_kc π (fp_sb π c) = (fp_q π c).toNatClampNeg ∧ fp_wd π (fp_sb π c) ≤ 6 ∧ 1 ≤ fp_wd π (fp_sb π c) := by
  have hm := C.1.1
  have hr := C.2
  obtain ⟨s1, s2, s3, s4⟩ := fp_sb_tp C hc hp h4 h6
  have hle := (fp_to_all C hc hp).2.1
  obtain ⟨_, _, _, w1, w6, _⟩ := C.1.2 (fp_sb π c) (by omega)
  refine ⟨s1, ?_, ?_, ?_, w6, w1⟩
  · unfold fp_ar; split <;> omega
  · unfold fx_w; rw [if_neg (by omega), s2, if_neg (by omega)]; omega
  · unfold fx_kc; rw [if_neg (by omega), s2, if_neg (by omega)]
theorem fx_RP_app {reg : Nat → Int32} {mp : List Nat} {x y : fp_Row} {R w : Nat} (h : fx_RP reg mp x) (hy : y.length = w) (hr : ∀ j, j < w → reg (R + j) = y.getD j 0) : fx_RP reg (mp ++ List.range' R w) (x ++ y) := by
  refine ⟨by rw [List.length_append, List.length_append, h.1, hy, List.length_range'], fun k hk => ?_⟩
  by_cases hk1 : k < mp.length
  · rw [fp_gd_app _ _ _ hk1, fp_gd_app _ _ _ (by rw [h.1]; exact hk1)]
    exact h.2 k hk1
  · rw [List.length_append, List.length_range'] at hk
    have e1 : k = mp.length + (k - mp.length) := by omega
    have e2 : (mp ++ List.range' R w).getD k 0 = R + (k - mp.length) := by
      rw [e1, fp_gd_app2, fp_gd _ _ (by rw [List.length_range']; omega), List.getElem_range']; omega
    have e3 : (x ++ y).getD k 0 = y.getD (k - mp.length) 0 := by
      rw [e1, ← h.1, fp_gd_app2]
      exact congrArg (fun z => y.getD z 0) (by omega)
    rw [e2, e3]
    exact hr _ (by omega)
theorem fx_RP_cg {reg reg' : Nat → Int32} {mp : List Nat} {x : fp_Row} {R : Nat} (h : fx_RP reg mp x) (hm : ∀ j, j < mp.length → mp.getD j 0 < R) (hr : ∀ j, j < R → reg' j = reg j) : fx_RP reg' mp x :=
  ⟨h.1, fun k hk => (hr _ (hm k hk)).trans (h.2 k hk)⟩
theorem fx_simJ {π : fp_Pl} {m root : Nat} (C : fp_cx π m root) {XS0 : Nat → List fp_Row} (post : SX → Prop) (u0 : SX) {t k n pos R d : Nat} {mp : List Nat} {x : fp_Row}
    (hIH : fx_SIM π root t XS0 post u0 k) (hn : n ≤ root) (hpl : fp_pl π root n = true) (hto : fp_to π root n = t) (htp : ¬ fp_tp π root n = true) (hk : root ≤ n + (k + 1)) (h4 : fp_kd π (fp_par π n) = 4)
    (i1 : fx_ins u0 pos 2 (nI (fp_sb π (fp_par π n))) (nI (fx_mg mp (fp_p π (fp_par π n)))) (fp_q π (fp_par π n)) (nI R) (nI (fp_wd π (fp_sb π (fp_par π n))))) (i2 : fx_ins u0 (pos + 1) 6 (nI (fp_par π n)) 0 0 0 0) (hcd : fx_CD u0 π root k (fp_par π n) (pos + 2) (mp ++ List.range' R (fp_wd π (fp_sb π (fp_par π n)))) (R + fp_wd π (fp_sb π (fp_par π n))))
    (hpos : pos ≤ 2 * n + 1) (hR6 : R ≤ 6 * (n + 1)) (hmp : mp.length = fp_wd π n) (hmR : ∀ j, j < mp.length → mp.getD j 0 < R) (hdn : d ≤ n + 1) (ub : SX) (hRP : fx_RP (xx_register ub) mp x) (bd : Nat) (hbd : bd ≤ 6000) :
    ∀ N u s q, N ≤ (XS0 (fp_sb π (fp_par π n))).length → fx_e u = fx_e u0 → xx_depth u = nI (d + 1) → xx_loopCode u d = nI pos → xx_loopAt u d = fx_li (fx_hs (XS0 (fp_sb π (fp_par π n))) (fp_q π (fp_par π n)).toNatClampNeg) N (fx_h (fp_at x (fp_p π (fp_par π n)))) →
      (∀ j, j < d → xx_loopAt u j = xx_loopAt ub j ∧ xx_loopCode u j = xx_loopCode ub j) → (∀ j, j < R → xx_register u j = xx_register ub j) → fx_O π root t XS0 bd u s q → (∀ a, a ≠ fp_ar root t → s.2 a = XS0 a) →
      fx_K π root t XS0 post u0 d R ub (fp_app π root t s (fp_evN π root (fp_rt XS0) k (fp_par π n) x (XS0 (fp_sb π (fp_par π n))) N)) bd →
      (∀ u', fx_e u' = fx_e u0 → xx_overflow u' = 1 → ¬ fp_ok root t (fp_app π root t s (fp_evN π root (fp_rt XS0) k (fp_par π n) x (XS0 (fp_sb π (fp_par π n))) N)) → post u') →
      ∀ nf kk nn, 6000 < nf + q → kk + (d + 1) ≤ 15 → d + 1 < nn → wX_nextRow_2 (fx_C post nf q) nn (nI kk) (xx_nodes u) (xx_root u) (xx_codeLength u) (xx_mapWidth u) (xx_registersUsed u) (xx_depth u) (xx_overflow u) (xx_resultWidth u) (xx_resultRows u) (xx_tableCells u) (xx_tableRows u) (xx_kindOf u) (xx_first u) (xx_second u) (xx_p u) (xx_q u) (xx_r u) (xx_widthOf u) (xx_parent u) (xx_inPlan u) (xx_given u) (xx_store u) (xx_storeRows u) (xx_heads u) (xx_chain u) (xx_op u) (xx_opA u) (xx_opB u) (xx_opC u) (xx_opD u) (xx_opE u) (xx_map u) (xx_picked u) (xx_register u) (xx_loopAt u) (xx_loopCode u) (xx_result u) (xx_order u) := by
  have hm := C.1.1
  have hr := C.2
  obtain ⟨s1, s2, s3, s4, s5, s6, s7⟩ := fp_stepU C hn hpl htp
  have htoc : fp_to π root (fp_par π n) = t := (fp_to_up C hn hpl htp).symm.trans hto
  obtain ⟨r1, r2, r3, r4, r5, r6⟩ := fx_areaR C s2 s3 (by omega) (by omega) htoc
  obtain ⟨_, _, _, _, _, _, _, _, _, _, hprm⟩ := C.1.2 (fp_par π n) (by omega)
  obtain ⟨_, _, _, _, q4, _⟩ := hprm
  obtain ⟨p1, p2, p3⟩ := q4 h4
  have hfa : fp_fa π (fp_par π n) = n := by
    rcases s7 with e | e
    · exact e
    · omega
  rw [hfa] at p1 p3
  have p1' := p1.2
  have p2' := p2.2
  have hB := hmR _ (by omega : (fp_p π (fp_par π n)).toNatClampNeg < mp.length)
  have hBR : fx_mg mp (fp_p π (fp_par π n)) < R := hB
  have hkey0 : xx_register ub (fx_mg mp (fp_p π (fp_par π n))) = fp_at x (fp_p π (fp_par π n)) := fx_RP_mg hRP (by omega)
  generalize hS : XS0 (fp_sb π (fp_par π n)) = S
  generalize hc : fp_par π n = c at *
  intro N
  induction N using Nat.strongRecOn with
  | ind N ih =>
  intro u s q hN he hd hlc hla hfr hrg hO hXS hK hP nf kk nn hnf hkk hnn
  have hkey : xx_register u (fx_mg mp (fp_p π c)) = fp_at x (fp_p π c) := (hrg _ hBR).trans hkey0
  have hA : fx_AR (xx_store u) (xx_storeRows u) (xx_heads u) (xx_chain u) (fp_sb π c) S (fp_wd π (fp_sb π c)) (fp_q π c).toNatClampNeg := by
    have h1 : fx_A1 π root u XS0 (fp_sb π c) := by
      rcases hO with ⟨_, _, o3, _⟩ | ⟨_, _, o3, _⟩
      · exact fx_AO_MS o3 hXS _ (by omega) r2
      · exact o3 _ (by omega) r2
    unfold fx_A1 at h1
    rw [r3, r4, hS] at h1
    exact h1
  have hq6 : q ≤ 6000 := by
    rcases hO with ⟨_, _, _, o4⟩ | ⟨_, _, _, o4⟩
    · unfold fx_pot at o4; omega
    · exact o4
  obtain ⟨nn, rfl⟩ : ∃ z, nn = z + 1 := ⟨nn - 1, by omega⟩
  obtain ⟨nf, rfl⟩ : ∃ z, nf = z + 1 := ⟨nf - 1, by omega⟩
  have hi1 := fx_ins_e he i1
  rw [p2.1] at hi1
  refine fx_nrS _ (by omega) hd (by omega) ?_
  refine fx_lrMatch (u := u) (S := S) (N := N) _ (by omega) (by omega) (by omega) r5 p2' (by omega) (by omega) hlc (by rw [hkey]; exact hla) hi1 hA hN (fun hnone => ?_) (fun i hsome reg' g1 g2 => ?_)
  · rw [hkey] at hnone
    have hev : fp_evN π root (fp_rt XS0) k c x S N = [] := by
      unfold fp_evN; rw [fp_ml_none π c x S N hN hnone]; rfl
    rw [hev, fp_app_nil] at hK
    refine br_t rfl ?_
    intro dd edd y ey
    rw [hd, nI_pred] at edd
    subst edd ey
    exact hK ((xx_nodes u), (xx_root u), (xx_codeLength u), (xx_mapWidth u), (xx_registersUsed u), (nI d), (xx_overflow u), (xx_resultWidth u), (xx_resultRows u), (xx_tableCells u), (xx_tableRows u), (xx_kindOf u), (xx_first u), (xx_second u), (xx_p u), (xx_q u), (xx_r u), (xx_widthOf u), (xx_parent u), (xx_inPlan u), (xx_given u), (xx_store u), (xx_storeRows u), (xx_heads u), (xx_chain u), (xx_op u), (xx_opA u), (xx_opB u), (xx_opC u), (xx_opD u), (xx_opE u), (xx_map u), (xx_picked u), (xx_register u), (xx_loopAt u), (xx_loopCode u), (xx_result u), (xx_order u)) q (nf + 1) he rfl hfr hrg hO hnf (kk + 1) nn (by omega) (by omega)
  · rw [hkey] at hsome
    obtain ⟨f1, f2, _⟩ := fp_fm_some hsome
    have hev : fp_evN π root (fp_rt XS0) k c x S N = (Sum.inl c :: fp_ev π root (fp_rt XS0) k c (x ++ S.getD i [])) ++ fp_evN π root (fp_rt XS0) k c x S i := by
      unfold fp_evN; rw [fp_ml_some π c x S N hN hsome, List.flatMap_cons]
    rw [hev, fp_app_app, fp_app_cons] at hK hP
    refine br_f (by decide) ?_
    show vp_in (xx_depth u - 1) 16 ∧ fx_C post (nf + 1) q (xx_loopCode u (xx_depth u - 1).toNatClampNeg + 1) ((xx_nodes u), (xx_root u), (xx_codeLength u), (xx_mapWidth u), (xx_registersUsed u), (xx_depth u), (xx_overflow u), (xx_resultWidth u), (xx_resultRows u), (xx_tableCells u), (xx_tableRows u), (xx_kindOf u), (xx_first u), (xx_second u), (xx_p u), (xx_q u), (xx_r u), (xx_widthOf u), (xx_parent u), (xx_inPlan u), (xx_given u), (xx_store u), (xx_storeRows u), (xx_heads u), (xx_chain u), (xx_op u), (xx_opA u), (xx_opB u), (xx_opC u), (xx_opD u), (xx_opE u), (xx_map u), (xx_picked u), reg', (upd (xx_loopAt u) d (fx_li (fx_hs S (fp_q π c).toNatClampNeg) i (fx_h (xx_register u (fx_mg mp (fp_p π c)))))), (xx_loopCode u), (xx_result u), (xx_order u))
    have er : xx_loopCode u (xx_depth u - 1).toNatClampNeg + 1 = nI (pos + 1) := by rw [hd, nI_pred, fi_cl (by omega : d < 4096), hlc, nI_1]
    have hdv : vp_in (xx_depth u - 1) 16 := by rw [hd, nI_pred]; exact vp_in_nI (by omega) (by decide)
    rw [er, hkey]
    refine ⟨hdv, ?_⟩
    intro y ey
    subst ey
    rcases hO with ⟨o1, o2, o3, o4⟩ | ⟨o1, o2, o3, o4⟩
    · have hsum := fx_sum_le o2.1
      have hq5 : q + 13 * (252 - fx_sum s.1) ≤ bd := o4
      refine fx_ex (u := ((xx_nodes u), (xx_root u), (xx_codeLength u), (xx_mapWidth u), (xx_registersUsed u), (xx_depth u), (xx_overflow u), (xx_resultWidth u), (xx_resultRows u), (xx_tableCells u), (xx_tableRows u), (xx_kindOf u), (xx_first u), (xx_second u), (xx_p u), (xx_q u), (xx_r u), (xx_widthOf u), (xx_parent u), (xx_inPlan u), (xx_given u), (xx_store u), (xx_storeRows u), (xx_heads u), (xx_chain u), (xx_op u), (xx_opA u), (xx_opB u), (xx_opC u), (xx_opD u), (xx_opE u), (xx_map u), (xx_picked u), reg', (upd (xx_loopAt u) d (fx_li (fx_hs S (fp_q π c).toNatClampNeg) i (fx_h (fp_at x (fp_p π c))))), (xx_loopCode u), (xx_result u), (xx_order u))) post (by omega) o1 (by omega) ?_
      have hg : xx_given u c = nI (s.1 c) := o3.1 c (by omega)
      have hg20 := o2.1 c (by omega)
      refine fx_pfCount (g := s.1 c) _ (by omega) (fx_ins_e (u0 := u0) he i2) (by omega) hg hg20 (fun hle => ?_) (fun hle => ?_)
      · intro y ey
        subst ey
        have hMS1 : fx_MS π root ((xx_nodes u), (xx_root u), (xx_codeLength u), (xx_mapWidth u), (xx_registersUsed u), (xx_depth u), 0, (xx_resultWidth u), (xx_resultRows u), (xx_tableCells u), (xx_tableRows u), (xx_kindOf u), (xx_first u), (xx_second u), (xx_p u), (xx_q u), (xx_r u), (xx_widthOf u), (xx_parent u), (xx_inPlan u), (upd (xx_given u) c (nI (s.1 c + 1))), (xx_store u), (xx_storeRows u), (xx_heads u), (xx_chain u), (xx_op u), (xx_opA u), (xx_opB u), (xx_opC u), (xx_opD u), (xx_opE u), (xx_map u), (xx_picked u), reg', (upd (xx_loopAt u) d (fx_li (fx_hs S (fp_q π c).toNatClampNeg) i (fx_h (fp_at x (fp_p π c))))), (xx_loopCode u), (xx_result u), (xx_order u)) (fp_app1 π root t s (Sum.inl c)) := by
          refine ⟨fun j hj => ?_, fun a ha => o3.2 a ha⟩
          show upd (xx_given u) c (nI (s.1 c + 1)) j = nI (if j = c then s.1 j + 1 else s.1 j)
          by_cases e : j = c
          · subst e; rw [fi_us, if_pos rfl]
          · rw [fi_un e, if_neg e]; exact o3.1 j hj
        have hok1 : fp_ok root t (fp_app1 π root t s (Sum.inl c)) := by
          refine ⟨fun j hj => ?_, o2.2⟩
          show (if j = c then s.1 j + 1 else s.1 j) ≤ 20
          by_cases e : j = c
          · subst e; rw [if_pos rfl]; exact hle
          · rw [if_neg e]; exact o2.1 j hj
        have hpot1 : fx_pot (fp_app1 π root t s (Sum.inl c)) (q + 1) + (12 - c) ≤ q + 13 * (252 - fx_sum s.1) := by
          show q + 1 + 13 * (252 - fx_sum (fun j => if j = c then s.1 j + 1 else s.1 j)) + (12 - c) ≤ _
          rw [fx_sum_s s.1 (by omega)]
          omega
        have hRPu : fx_RP reg' mp x := by
          refine fx_RP_cg hRP hmR fun j hj => ?_
          rw [g1 j (Or.inl hj)]; exact hrg j hj
        have hyl : (S.getD i []).length = fp_wd π (fp_sb π c) := (hA.2.2.1 i (by omega)).1
        refine hIH c (pos + 2) (mp ++ List.range' R (fp_wd π (fp_sb π c))) (R + fp_wd π (fp_sb π c)) (x ++ S.getD i []) ((xx_nodes u), (xx_root u), (xx_codeLength u), (xx_mapWidth u), (xx_registersUsed u), (xx_depth u), 0, (xx_resultWidth u), (xx_resultRows u), (xx_tableCells u), (xx_tableRows u), (xx_kindOf u), (xx_first u), (xx_second u), (xx_p u), (xx_q u), (xx_r u), (xx_widthOf u), (xx_parent u), (xx_inPlan u), (upd (xx_given u) c (nI (s.1 c + 1))), (xx_store u), (xx_storeRows u), (xx_heads u), (xx_chain u), (xx_op u), (xx_opA u), (xx_opB u), (xx_opC u), (xx_opD u), (xx_opE u), (xx_map u), (xx_picked u), reg', (upd (xx_loopAt u) d (fx_li (fx_hs S (fp_q π c).toNatClampNeg) i (fx_h (fp_at x (fp_p π c))))), (xx_loopCode u), (xx_result u), (xx_order u)) (fp_app1 π root t s (Sum.inl c)) (q + 1) nf (d + 1) s2 (by omega) s3 htoc hcd (by omega) (by omega) ?_ ?_ (fx_RP_app hRPu hyl g2) he hd (by omega) rfl hMS1 hok1 hXS (by omega) (by omega) ?_ ?_
        · rw [List.length_append, List.length_range', hmp, p3]
        · intro j hj
          rw [List.length_append, List.length_range'] at hj
          by_cases hj1 : j < mp.length
          · rw [fp_gd_app _ _ _ hj1]; have := hmR j hj1; omega
          · have e1 : j = mp.length + (j - mp.length) := by omega
            rw [e1, fp_gd_app2, fp_gd _ _ (by rw [List.length_range']; omega), List.getElem_range']; omega
        · intro u3 q3 nf3 e3 d3 f3 rg3 O3 hnf3 kk3 nn3 hk3 hn3
          refine ih i f1 u3 (fp_app π root t (fp_app1 π root t s (Sum.inl c)) (fp_ev π root (fp_rt XS0) k c (x ++ S.getD i []))) q3 (by omega) e3 d3 ?_ ?_ ?_ ?_ ?_ ?_ hK hP nf3 kk3 nn3 hnf3 hk3 hn3
          · rw [(f3 d (by omega)).2]; exact hlc
          · rw [(f3 d (by omega)).1]; exact fi_us
          · intro j hj
            obtain ⟨y1, y2⟩ := f3 j (by omega)
            rw [y1, y2]
            refine ⟨?_, (hfr j hj).2⟩
            show upd (xx_loopAt u) d _ j = _
            rw [fi_un (by omega)]; exact (hfr j hj).1
          · intro j hj
            rw [rg3 j (by omega)]
            show reg' j = _
            rw [g1 j (Or.inl hj)]; exact hrg j hj
          · rcases O3 with ⟨z1, z2, z3, z4⟩ | z
            · exact Or.inl ⟨z1, z2, z3, by omega⟩
            · exact Or.inr z
          · intro a ha
            rw [fp_app_N π root t ha]
            exact hXS a ha
        · intro u3 e3 o3' hno
          refine hP u3 e3 o3' fun z => hno ?_
          exact fp_ok_mono π root t _ _ z
      · intro y ey
        subst ey
        obtain ⟨nf, rfl⟩ : ∃ z, nf = z + 1 := ⟨nf - 1, by omega⟩
        refine fx_exov (u := ((xx_nodes u), (xx_root u), (xx_codeLength u), (xx_mapWidth u), (xx_registersUsed u), (xx_depth u), 1, (xx_resultWidth u), (xx_resultRows u), (xx_tableCells u), (xx_tableRows u), (xx_kindOf u), (xx_first u), (xx_second u), (xx_p u), (xx_q u), (xx_r u), (xx_widthOf u), (xx_parent u), (xx_inPlan u), (upd (xx_given u) c (nI (s.1 c + 1))), (xx_store u), (xx_storeRows u), (xx_heads u), (xx_chain u), (xx_op u), (xx_opA u), (xx_opB u), (xx_opC u), (xx_opD u), (xx_opE u), (xx_map u), (xx_picked u), reg', (upd (xx_loopAt u) d (fx_li (fx_hs S (fp_q π c).toNatClampNeg) i (fx_h (fp_at x (fp_p π c))))), (xx_loopCode u), (xx_result u), (xx_order u))) post _ _ (by show ¬ (1 : Int32) = 0; decide) ?_
        refine hP _ he rfl fun z => ?_
        have z1 := (fp_ok_mono π root t _ _ (fp_ok_mono π root t _ _ z)).1 c (by omega)
        have z2 : (fp_app1 π root t s (Sum.inl c)).1 c = s.1 c + 1 := by
          show (if c = c then s.1 c + 1 else s.1 c) = _
          rw [if_pos rfl]
        omega
    · refine fx_exov (u := ((xx_nodes u), (xx_root u), (xx_codeLength u), (xx_mapWidth u), (xx_registersUsed u), (xx_depth u), (xx_overflow u), (xx_resultWidth u), (xx_resultRows u), (xx_tableCells u), (xx_tableRows u), (xx_kindOf u), (xx_first u), (xx_second u), (xx_p u), (xx_q u), (xx_r u), (xx_widthOf u), (xx_parent u), (xx_inPlan u), (xx_given u), (xx_store u), (xx_storeRows u), (xx_heads u), (xx_chain u), (xx_op u), (xx_opA u), (xx_opB u), (xx_opC u), (xx_opD u), (xx_opE u), (xx_map u), (xx_picked u), reg', (upd (xx_loopAt u) d (fx_li (fx_hs S (fp_q π c).toNatClampNeg) i (fx_h (fp_at x (fp_p π c))))), (xx_loopCode u), (xx_result u), (xx_order u))) post _ _ (by show ¬ xx_overflow u = 0; rw [o1]; decide) ?_
      refine hP _ he o1 fun z => o2 ?_
      have z1 := fp_ok_mono π root t _ _ (fp_ok_mono π root t _ _ z)
      refine ⟨fun j hj => ?_, z1.2⟩
      have z3 := z1.1 j hj
      have z2 : s.1 j ≤ (fp_app1 π root t s (Sum.inl c)).1 j := by
        show s.1 j ≤ (if j = c then s.1 j + 1 else s.1 j)
        split <;> omega
      omega
end
section
/-! ## X: the simulation -/
theorem fx_K_mono {π : fp_Pl} {root t : Nat} {XS0 : Nat → List fp_Row} {post : SX → Prop} {u0 : SX} {d R R' : Nat} {u u' : SX} {s : fp_St} {b b' : Nat} (hR : R ≤ R') (hb : b' ≤ b) (hl : ∀ j, j < d → xx_loopAt u' j = xx_loopAt u j ∧ xx_loopCode u' j = xx_loopCode u j) (hr : ∀ j, j < R → xx_register u' j = xx_register u j) (h : fx_K π root t XS0 post u0 d R u s b) : fx_K π root t XS0 post u0 d R' u' s b' := by
  intro u3 q nf e3 d3 f3 r3 O3 hnf kk nn hk hn
  refine h u3 q nf e3 d3 (fun j hj => ?_) (fun j hj => ?_) ?_ hnf kk nn hk hn
  · exact ⟨(f3 j hj).1.trans (hl j hj).1, (f3 j hj).2.trans (hl j hj).2⟩
  · exact (r3 j (by omega)).trans (hr j hj)
  · rcases O3 with ⟨z1, z2, z3, z4⟩ | z
    · exact Or.inl ⟨z1, z2, z3, by omega⟩
    · exact Or.inr z
theorem fp_ev_1 {π : fp_Pl} {root : Nat} {rt : Nat → List fp_Row} {k n : Nat} {x y : fp_Row} (t : ¬ fp_tp π root n = true) (h : fp_phi π rt (fp_par π n) x = [y]) : fp_ev π root rt (k + 1) n x = fp_cn π (fp_par π n) ++ fp_ev π root rt k (fp_par π n) y := by
  rw [fp_ev_s, if_neg t, h, List.flatMap_cons, List.flatMap_nil, List.append_nil]
theorem fp_ev_0 {π : fp_Pl} {root : Nat} {rt : Nat → List fp_Row} {k n : Nat} {x : fp_Row} (t : ¬ fp_tp π root n = true) (h : fp_phi π rt (fp_par π n) x = []) : fp_ev π root rt (k + 1) n x = [] := by
  rw [fp_ev_s, if_neg t, h, List.flatMap_nil]
theorem fp_cn_n {π : fp_Pl} {c : Nat} (h4 : fp_kd π c ≠ 4) (h9 : fp_kd π c ≠ 9) : fp_cn π c = [] := by
  unfold fp_cn; rw [if_neg (by omega)]
theorem fx_pmlen {π : fp_Pl} {c : Nat} {mp : List Nat} : (fx_pm π c mp).length = 1 + (if fp_q π c < 0 then 0 else 1) + (if fp_r π c < 0 then 0 else 1) := by
  unfold fx_pm
  rw [List.length_cons, List.length_append]
  split <;> split <;> rfl
theorem fx_RP_pm {π : fp_Pl} {c : Nat} {reg : Nat → Int32} {mp : List Nat} {x : fp_Row} (h : fx_RP reg mp x) (hp : (fp_p π c).toNatClampNeg < mp.length) (hq : ¬ fp_q π c < 0 → (fp_q π c).toNatClampNeg < mp.length) (hr : ¬ fp_r π c < 0 → (fp_r π c).toNatClampNeg < mp.length) : fx_RP reg (fx_pm π c mp) (fp_pick π c x) := by
  have e1 := fx_RP_mg h hp
  unfold fx_pm fp_pick
  by_cases cq : fp_q π c < 0
  · by_cases cr : fp_r π c < 0
    · simp only [cq, cr, if_true]
      refine ⟨rfl, fun k hk => ?_⟩
      match k, hk with
      | 0, _ => exact e1
    · have e3 := fx_RP_mg h (hr cr)
      simp only [cq, cr, if_true, if_false]
      refine ⟨rfl, fun k hk => ?_⟩
      match k, hk with
      | 0, _ => exact e1
      | 1, _ => exact e3
  · have e2 := fx_RP_mg h (hq cq)
    by_cases cr : fp_r π c < 0
    · simp only [cq, cr, if_true, if_false]
      refine ⟨rfl, fun k hk => ?_⟩
      match k, hk with
      | 0, _ => exact e1
      | 1, _ => exact e2
    · have e3 := fx_RP_mg h (hr cr)
      simp only [cq, cr, if_false]
      refine ⟨rfl, fun k hk => ?_⟩
      match k, hk with
      | 0, _ => exact e1
      | 1, _ => exact e2
      | 2, _ => exact e3
theorem fx_pmR {π : fp_Pl} {c R : Nat} {mp : List Nat} (hmR : ∀ j, j < mp.length → mp.getD j 0 < R) (hp : (fp_p π c).toNatClampNeg < mp.length) (hq : ¬ fp_q π c < 0 → (fp_q π c).toNatClampNeg < mp.length) (hr : ¬ fp_r π c < 0 → (fp_r π c).toNatClampNeg < mp.length) : ∀ j, j < (fx_pm π c mp).length → (fx_pm π c mp).getD j 0 < R := by
  intro j hj
  have hin := fp_gd_mem (fx_pm π c mp) 0 hj
  revert hin
  generalize (fx_pm π c mp).getD j 0 = z
  intro hin
  unfold fx_pm at hin
  rcases List.mem_cons.mp hin with e | e
  · subst e; exact hmR _ hp
  · rcases List.mem_append.mp e with e | e
    · by_cases cq : fp_q π c < 0
      · rw [if_pos cq] at e; exact absurd e (by simp)
      · rw [if_neg cq, List.mem_singleton] at e; subst e; exact hmR _ (hq cq)
    · by_cases cr : fp_r π c < 0
      · rw [if_pos cr] at e; exact absurd e (by simp)
      · rw [if_neg cr, List.mem_singleton] at e; subst e; exact hmR _ (hr cr)
/-- hides a statement from omega -/
def fx_id (p : Prop) : Prop := p
theorem fx_sim {π : fp_Pl} {m root : Nat} (C : fp_cx π m root) {XS0 : Nat → List fp_Row} (post : SX → Prop) (u0 : SX) (t : Nat) : ∀ k, fx_SIM π root t XS0 post u0 k := by
  have hm := C.1.1
  have hr := C.2
  intro k
  induction k with
  | zero =>
    intro n pos mp R x u s step nf d hn hk hpl hto hcd hpos hR6 hmp hmR hRP he hd hdn hov hMS hok hXS hpot hnf hK hP
    have e : n = root := by omega
    have htp : fp_tp π root n = true := by rw [e]; exact fp_tproot π root
    have et : t = n := hto.symm.trans (fp_to_tp htp)
    subst et
    exact fx_simS C post u0 hn hpl htp hcd hpos hR6 hmp hmR hRP he hd hdn hov hMS hok hXS hpot hnf hK
  | succ k ih =>
    intro n pos mp R x u s step nf d hn hk hpl hto hcd hpos hR6 hmp hmR hRP he hd hdn hov hMS hok hXS hpot hnf hK hP
    by_cases htp : fp_tp π root n = true
    · have et : t = n := hto.symm.trans (fp_to_tp htp)
      subst et
      rw [fp_ev_s, if_pos htp] at hK
      exact fx_simS C post u0 hn hpl htp (hcd.1 htp) hpos hR6 hmp hmR hRP he hd hdn hov hMS hok hXS hpot hnf hK
    · have D : fx_id _ := hcd.2 htp
      clear hcd
      obtain ⟨s1, s2, s3, s4, s5, s6, s7'⟩ := fp_stepU C hn hpl htp
      have s7 : fx_id _ := s7'
      clear s7'
      have htoc : fp_to π root (fp_par π n) = t := (fp_to_up C hn hpl htp).symm.trans hto
      obtain ⟨_, hk9, _, _, wc6, _, _, _, _, _, hprm⟩ := C.1.2 (fp_par π n) (by omega)
      have hsum := fx_sum_le hok.1
      have hpot' : step + 13 * (252 - fx_sum s.1) + (12 - n) ≤ 6000 := hpot
      have hstep : step < 6000 := by omega
      have hpotS : ∀ q, fx_pot s q = q + 13 * (252 - fx_sum s.1) := fun q => rfl
      have hrefl : ∀ j, j < d → xx_loopAt u j = xx_loopAt u j ∧ xx_loopCode u j = xx_loopCode u j := fun j _ => ⟨rfl, rfl⟩
      obtain ⟨nf, rfl⟩ : ∃ z, nf = z + 1 := ⟨nf - 1, by omega⟩
      have hfa : fx_id (fp_kd π (fp_par π n) ≠ 9 → fp_fa π (fp_par π n) = n) := fun h9 => Or.resolve_right s7 (fun z => h9 z.1)
      generalize hc : fp_par π n = c at *
      have hphi0 : fp_phi π (fp_rt XS0) c x = fp_phi π (fp_rt XS0) (fp_par π n) x := by rw [hc]
      by_cases h1 : fp_kd π c = 1
      · obtain ⟨i1, cd⟩ := D.1 h1
        obtain ⟨c1, c2⟩ := hprm.2.1 h1
        rw [hfa (by omega)] at c1 c2
        have c1' := c1.2
        have hB := hmR _ (by omega : (fp_p π c).toNatClampNeg < mp.length)
        have hkey : xx_register u (fx_mg mp (fp_p π c)) = fp_at x (fp_p π c) := fx_RP_mg hRP (by omega)
        refine fx_ex post hstep hov (by omega) ?_
        refine fx_pfTest _ (by omega) (fx_ins_e he i1) (by unfold fx_mg; omega) (fun ht => ?_) (fun hf => ?_)
        · rw [hkey] at ht
          have hphi : fp_phi π (fp_rt XS0) (fp_par π n) x = [x] := by rw [← hphi0]; unfold fp_phi; rw [if_pos h1, if_pos ht]
          have hev := fp_ev_1 (k := k) htp hphi
          rw [hc, fp_cn_n (by omega) (by omega), List.nil_append] at hev
          rw [hev] at hK hP
          intro y ey
          subst ey
          refine ih c (pos + 1) mp R x u s (step + 1) nf d s2 (by omega) s3 htoc cd (by omega) (by omega) (by omega) hmR hRP he hd (by omega) hov hMS hok hXS (by rw [hpotS]; omega) (by omega) (fx_K_mono (Nat.le_refl _) (by rw [hpotS, hpotS]; omega) hrefl (fun _ _ => rfl) hK) hP
        · rw [hkey] at hf
          have hphi : fp_phi π (fp_rt XS0) (fp_par π n) x = [] := by rw [← hphi0]; unfold fp_phi; rw [if_pos h1, hf]; rfl
          rw [fp_ev_0 htp hphi, fp_app_nil] at hK
          exact ⟨d + 1, hK u (step + 1) nf he hd hrefl (fun _ _ => rfl) (Or.inl ⟨hov, hok, hMS, by rw [hpotS, hpotS]; omega⟩) (by omega) 0 (d + 1) (by omega) (by omega)⟩
      · by_cases h2 : fp_kd π c = 2
        · obtain ⟨i1, cd⟩ := D.2.1 h2
          obtain ⟨c0, c1, c2, c3⟩ := hprm.2.2.1 h2
          rw [hfa (by omega)] at c1 c2 c3
          have c1' := c1.2
          have c2' := c2.2
          have hB := hmR _ (by omega : (fp_q π c).toNatClampNeg < mp.length)
          have hC := hmR _ (by omega : (fp_r π c).toNatClampNeg < mp.length)
          have hkq : xx_register u (fx_mg mp (fp_q π c)) = fp_at x (fp_q π c) := fx_RP_mg hRP (by omega)
          have hkr : xx_register u (fx_mg mp (fp_r π c)) = fp_at x (fp_r π c) := fx_RP_mg hRP (by omega)
          have hphi : fp_phi π (fp_rt XS0) (fp_par π n) x = [x ++ [fp_calc (fp_p π c) (fp_at x (fp_q π c)) (fp_at x (fp_r π c))]] := by
            rw [← hphi0]; unfold fp_phi; rw [if_neg h1, if_pos h2]
          have hev := fp_ev_1 (k := k) htp hphi
          rw [hc, fp_cn_n (by omega) (by omega), List.nil_append] at hev
          rw [hev] at hK hP
          refine fx_ex post hstep hov (by omega) ?_
          refine fx_pfComp _ (by omega) (fx_ins_e he i1) (by unfold fx_mg; omega) (by unfold fx_mg; omega) (by omega) ?_
          rw [hkq, hkr]
          intro y ey
          subst ey
          have hreg : ∀ j, j < R → upd (xx_register u) R (fp_calc (fp_p π c) (fp_at x (fp_q π c)) (fp_at x (fp_r π c))) j = xx_register u j := fun j hj => fi_un (by omega)
          have hRP2 : fx_RP (upd (xx_register u) R (fp_calc (fp_p π c) (fp_at x (fp_q π c)) (fp_at x (fp_r π c)))) (mp ++ [R]) (x ++ [fp_calc (fp_p π c) (fp_at x (fp_q π c)) (fp_at x (fp_r π c))]) := by
            refine fx_RP_app (R := R) (w := 1) (fx_RP_cg hRP hmR hreg) rfl fun j hj => ?_
            have : j = 0 := by omega
            subst this
            rw [Nat.add_zero, fi_us]; rfl
          refine ih c (pos + 1) (mp ++ [R]) (R + 1) _ ((xx_nodes u), (xx_root u), (xx_codeLength u), (xx_mapWidth u), (xx_registersUsed u), (xx_depth u), (xx_overflow u), (xx_resultWidth u), (xx_resultRows u), (xx_tableCells u), (xx_tableRows u), (xx_kindOf u), (xx_first u), (xx_second u), (xx_p u), (xx_q u), (xx_r u), (xx_widthOf u), (xx_parent u), (xx_inPlan u), (xx_given u), (xx_store u), (xx_storeRows u), (xx_heads u), (xx_chain u), (xx_op u), (xx_opA u), (xx_opB u), (xx_opC u), (xx_opD u), (xx_opE u), (xx_map u), (xx_picked u), (upd (xx_register u) R (fp_calc (fp_p π c) (fp_at x (fp_q π c)) (fp_at x (fp_r π c)))), (xx_loopAt u), (xx_loopCode u), (xx_result u), (xx_order u)) s (step + 1) nf d s2 (by omega) s3 htoc cd (by omega) (by omega) (by rw [List.length_append, hmp, c3]; rfl) ?_ hRP2 he hd (by omega) hov hMS hok hXS (by rw [hpotS]; omega) (by omega) (fx_K_mono (by omega) (by rw [hpotS, hpotS]; omega) hrefl hreg hK) hP
          intro j hj
          rw [List.length_append] at hj
          by_cases hj1 : j < mp.length
          · rw [fp_gd_app _ _ _ hj1]; have := hmR j hj1; omega
          · have e1 : j = mp.length := by
              have : [R].length = 1 := rfl
              omega
            rw [e1, fp_gd_last]; omega
        · by_cases h3 : fp_kd π c = 3
          · have cd := D.2.2.1 h3
            obtain ⟨c1, c2, c3, c4⟩ := hprm.2.2.2.1 h3
            rw [hfa (by omega)] at c1 c2 c3
            have hp' : (fp_p π c).toNatClampNeg < mp.length := by have := c1.2; omega
            have hq' : ¬ fp_q π c < 0 → (fp_q π c).toNatClampNeg < mp.length := fun z => by have := (c2 z).2; omega
            have hr' : ¬ fp_r π c < 0 → (fp_r π c).toNatClampNeg < mp.length := fun z => by have := (c3 z).2; omega
            have hphi : fp_phi π (fp_rt XS0) (fp_par π n) x = [fp_pick π c x] := by
              rw [← hphi0]; unfold fp_phi; rw [if_neg h1, if_neg h2, if_pos h3]
            have hev := fp_ev_1 (k := k) htp hphi
            rw [hc, fp_cn_n (by omega) (by omega), List.nil_append] at hev
            rw [hev] at hK hP
            exact ih c pos (fx_pm π c mp) R _ u s step (nf + 1) d s2 (by omega) s3 htoc cd (by omega) (by omega) (by rw [fx_pmlen, c4]) (fx_pmR hmR hp' hq' hr') (fx_RP_pm hRP hp' hq' hr') he hd (by omega) hov hMS hok hXS (by rw [hpotS]; omega) (by omega) (fx_K_mono (Nat.le_refl _) (by rw [hpotS]; omega) hrefl (fun _ _ => rfl) hK) hP
          · by_cases h4 : fp_kd π c = 4
            · obtain ⟨i1, i2, cd⟩ := D.2.2.2.1 h4
              obtain ⟨p1, p2, p3⟩ := hprm.2.2.2.2.1 h4
              rw [hfa (by omega)] at p1
              have p1' := p1.2
              have p2' := p2.2
              obtain ⟨r1, r2, r3, r4, r5, r6⟩ := fx_areaR C s2 s3 (by omega) (by omega) htoc
              have hB := hmR _ (by omega : (fp_p π c).toNatClampNeg < mp.length)
              have hkey : xx_register u (fx_mg mp (fp_p π c)) = fp_at x (fp_p π c) := fx_RP_mg hRP (by omega)
              have hA : fx_AR (xx_store u) (xx_storeRows u) (xx_heads u) (xx_chain u) (fp_sb π c) (XS0 (fp_sb π c)) (fp_wd π (fp_sb π c)) (fp_q π c).toNatClampNeg := by
                have h1 := fx_AO_MS hMS hXS _ (by omega) r2
                unfold fx_A1 at h1
                rw [r3, r4] at h1
                exact h1
              have h8 := fx_h8 (fp_at x (fp_p π c))
              have hphi : fp_phi π (fp_rt XS0) (fp_par π n) x = fp_ml π c x (XS0 (fp_sb π c)) (XS0 (fp_sb π c)).length := by
                rw [← hphi0]; unfold fp_phi fp_ml; rw [if_neg h1, if_neg h2, if_neg h3, if_pos h4, List.take_length]; rfl
              have hcn : fp_cn π c = [Sum.inl c] := by unfold fp_cn; rw [if_pos (Or.inl h4)]
              have hev : fp_ev π root (fp_rt XS0) (k + 1) n x = fp_evN π root (fp_rt XS0) k c x (XS0 (fp_sb π c)) (XS0 (fp_sb π c)).length := by
                rw [fp_ev_s, if_neg htp, hphi, hc, hcn]; rfl
              rw [hev] at hK hP
              refine fx_ex post hstep hov (by omega) ?_
              refine fx_pfMatch _ (by omega) (fx_ins_e he i1) (by omega) (by unfold fx_mg; omega) hd (by omega) ?_
              rw [hkey, hA.2.2.2.1 _ h8]
              refine ⟨d + 2, ?_⟩
              have hfr : ∀ j, j < d → upd (xx_loopAt u) d (fx_li (fx_hs (XS0 (fp_sb π c)) (fp_q π c).toNatClampNeg) (XS0 (fp_sb π c)).length (fx_h (fp_at x (fp_p π c)))) j = xx_loopAt u j ∧ upd (xx_loopCode u) d (nI pos) j = xx_loopCode u j := fun j hj => ⟨fi_un (by omega), fi_un (by omega)⟩
              have hJ := fx_simJ C (XS0 := XS0) post u0 (t := t) (k := k) (n := n) (pos := pos) (R := R) (d := d) (mp := mp) (x := x) ih hn hpl hto htp hk
              rw [hc] at hJ
              exact hJ h4 i1 i2 cd hpos hR6 hmp hmR hdn u hRP (fx_pot s step + (12 - n)) hpot (XS0 (fp_sb π c)).length ((xx_nodes u), (xx_root u), (xx_codeLength u), (xx_mapWidth u), (xx_registersUsed u), (nI (d + 1)), (xx_overflow u), (xx_resultWidth u), (xx_resultRows u), (xx_tableCells u), (xx_tableRows u), (xx_kindOf u), (xx_first u), (xx_second u), (xx_p u), (xx_q u), (xx_r u), (xx_widthOf u), (xx_parent u), (xx_inPlan u), (xx_given u), (xx_store u), (xx_storeRows u), (xx_heads u), (xx_chain u), (xx_op u), (xx_opA u), (xx_opB u), (xx_opC u), (xx_opD u), (xx_opE u), (xx_map u), (xx_picked u), (xx_register u), (upd (xx_loopAt u) d (fx_li (fx_hs (XS0 (fp_sb π c)) (fp_q π c).toNatClampNeg) (XS0 (fp_sb π c)).length (fx_h (fp_at x (fp_p π c))))), (upd (xx_loopCode u) d (nI pos)), (xx_result u), (xx_order u)) s (step + 1) (Nat.le_refl _) he rfl fi_us fi_us hfr (fun _ _ => rfl) (Or.inl ⟨hov, hok, hMS, by rw [hpotS, hpotS]; omega⟩) hXS hK hP nf 0 (d + 2) (by omega) (by omega) (by omega)
            · by_cases h9 : fp_kd π c = 9
              · obtain ⟨i1, cd⟩ := D.2.2.2.2.1 h9
                obtain ⟨w1, w2⟩ := hprm.2.2.2.2.2.2.2.2 h9
                have hwn : fp_wd π c = fp_wd π n := by
                  rcases (id s7 : fp_fa π c = n ∨ (fp_kd π c = 9 ∧ fp_sb π c = n)) with e | ⟨_, e⟩
                  · rw [w1, e]
                  · rw [w2, e]
                have hphi : fp_phi π (fp_rt XS0) (fp_par π n) x = [x] := by
                  rw [← hphi0]; unfold fp_phi; rw [if_neg h1, if_neg h2, if_neg h3, if_neg h4, if_neg (by omega), if_neg (by omega)]
                have hcn : fp_cn π c = [Sum.inl c] := by unfold fp_cn; rw [if_pos (Or.inr h9)]
                have hev := fp_ev_1 (k := k) htp hphi
                rw [hc, hcn, List.singleton_append] at hev
                rw [hev, fp_app_cons] at hK hP
                have hg : xx_given u c = nI (s.1 c) := hMS.1 c (by omega)
                have hg20 := hok.1 c (by omega)
                refine fx_ex post hstep hov (by omega) ?_
                refine fx_pfCount (g := s.1 c) _ (by omega) (fx_ins_e he i1) (by omega) hg hg20 (fun hle => ?_) (fun hle => ?_)
                · intro y ey
                  subst ey
                  have hMS1 : fx_MS π root ((xx_nodes u), (xx_root u), (xx_codeLength u), (xx_mapWidth u), (xx_registersUsed u), (xx_depth u), 0, (xx_resultWidth u), (xx_resultRows u), (xx_tableCells u), (xx_tableRows u), (xx_kindOf u), (xx_first u), (xx_second u), (xx_p u), (xx_q u), (xx_r u), (xx_widthOf u), (xx_parent u), (xx_inPlan u), (upd (xx_given u) c (nI (s.1 c + 1))), (xx_store u), (xx_storeRows u), (xx_heads u), (xx_chain u), (xx_op u), (xx_opA u), (xx_opB u), (xx_opC u), (xx_opD u), (xx_opE u), (xx_map u), (xx_picked u), (xx_register u), (xx_loopAt u), (xx_loopCode u), (xx_result u), (xx_order u)) (fp_app1 π root t s (Sum.inl c)) := by
                    refine ⟨fun j hj => ?_, fun a ha => hMS.2 a ha⟩
                    show upd (xx_given u) c (nI (s.1 c + 1)) j = nI (if j = c then s.1 j + 1 else s.1 j)
                    by_cases e : j = c
                    · subst e; rw [fi_us, if_pos rfl]
                    · rw [fi_un e, if_neg e]; exact hMS.1 j hj
                  have hok1 : fp_ok root t (fp_app1 π root t s (Sum.inl c)) := by
                    refine ⟨fun j hj => ?_, hok.2⟩
                    show (if j = c then s.1 j + 1 else s.1 j) ≤ 20
                    by_cases e : j = c
                    · subst e; rw [if_pos rfl]; exact hle
                    · rw [if_neg e]; exact hok.1 j hj
                  have hpot1 : fx_pot (fp_app1 π root t s (Sum.inl c)) (step + 1) + (12 - c) ≤ fx_pot s step + (12 - n) := by
                    show step + 1 + 13 * (252 - fx_sum (fun j => if j = c then s.1 j + 1 else s.1 j)) + (12 - c) ≤ step + 13 * (252 - fx_sum s.1) + (12 - n)
                    rw [fx_sum_s s.1 (by omega)]
                    omega
                  exact ih c (pos + 1) mp R x ((xx_nodes u), (xx_root u), (xx_codeLength u), (xx_mapWidth u), (xx_registersUsed u), (xx_depth u), 0, (xx_resultWidth u), (xx_resultRows u), (xx_tableCells u), (xx_tableRows u), (xx_kindOf u), (xx_first u), (xx_second u), (xx_p u), (xx_q u), (xx_r u), (xx_widthOf u), (xx_parent u), (xx_inPlan u), (upd (xx_given u) c (nI (s.1 c + 1))), (xx_store u), (xx_storeRows u), (xx_heads u), (xx_chain u), (xx_op u), (xx_opA u), (xx_opB u), (xx_opC u), (xx_opD u), (xx_opE u), (xx_map u), (xx_picked u), (xx_register u), (xx_loopAt u), (xx_loopCode u), (xx_result u), (xx_order u)) (fp_app1 π root t s (Sum.inl c)) (step + 1) nf d s2 (by omega) s3 htoc cd (by omega) (by omega) (by omega) hmR hRP he hd (by omega) rfl hMS1 hok1 hXS (by omega) (by omega) (fx_K_mono (Nat.le_refl _) hpot1 hrefl (fun _ _ => rfl) hK) hP
                · intro y ey
                  subst ey
                  obtain ⟨nf, rfl⟩ : ∃ z, nf = z + 1 := ⟨nf - 1, by omega⟩
                  refine fx_exov (u := ((xx_nodes u), (xx_root u), (xx_codeLength u), (xx_mapWidth u), (xx_registersUsed u), (xx_depth u), 1, (xx_resultWidth u), (xx_resultRows u), (xx_tableCells u), (xx_tableRows u), (xx_kindOf u), (xx_first u), (xx_second u), (xx_p u), (xx_q u), (xx_r u), (xx_widthOf u), (xx_parent u), (xx_inPlan u), (upd (xx_given u) c (nI (s.1 c + 1))), (xx_store u), (xx_storeRows u), (xx_heads u), (xx_chain u), (xx_op u), (xx_opA u), (xx_opB u), (xx_opC u), (xx_opD u), (xx_opE u), (xx_map u), (xx_picked u), (xx_register u), (xx_loopAt u), (xx_loopCode u), (xx_result u), (xx_order u))) post _ _ (by show ¬ (1 : Int32) = 0; decide) ?_
                  refine hP _ he rfl fun z => ?_
                  have z1 := (fp_ok_mono π root t _ _ z).1 c (by omega)
                  have z2 : (fp_app1 π root t s (Sum.inl c)).1 c = s.1 c + 1 := by
                    show (if c = c then s.1 c + 1 else s.1 c) = _
                    rw [if_pos rfl]
                  omega
              · have h56 : fp_kd π c = 5 ∨ fp_kd π c = 6 := by omega
                obtain ⟨i1, cd⟩ := D.2.2.2.2.2 h56
                obtain ⟨p1, p2, p3⟩ := hprm.2.2.2.2.2.1 h56
                rw [hfa h9] at p1 p3
                have p1' := p1.2
                have p2' := p2.2
                obtain ⟨r1, r2, r3, r4, r5, r6⟩ := fx_areaR C s2 s3 (by omega) (by omega) htoc
                have hB := hmR _ (by omega : (fp_p π c).toNatClampNeg < mp.length)
                have hkey : xx_register u (fx_mg mp (fp_p π c)) = fp_at x (fp_p π c) := fx_RP_mg hRP (by omega)
                have hA : fx_AR (xx_store u) (xx_storeRows u) (xx_heads u) (xx_chain u) (fp_sb π c) (XS0 (fp_sb π c)) (fp_wd π (fp_sb π c)) (fp_q π c).toNatClampNeg := by
                  have h1 := fx_AO_MS hMS hXS _ (by omega) r2
                  unfold fx_A1 at h1
                  rw [r3, r4] at h1
                  exact h1
                have hany : (XS0 (fp_sb π c)).any (fun y => decide (y.getD (fp_q π c).toNatClampNeg 0 = xx_register u (fx_mg mp (fp_p π c)))) = (fp_rt XS0 (fp_sb π c)).any (fp_mt π c x) := by
                  unfold fp_rt; rw [List.any_reverse, hkey]; rfl
                have hphiT : ((fp_rt XS0 (fp_sb π c)).any (fp_mt π c x) = true ↔ (if fp_kd π c = 5 then (1 : Int32) else 0) = 1) → fp_phi π (fp_rt XS0) (fp_par π n) x = [x] := by
                  intro hh
                  rw [← hphi0]; unfold fp_phi; rw [if_neg h1, if_neg h2, if_neg h3, if_neg h4]
                  by_cases h5 : fp_kd π c = 5
                  · rw [if_pos h5] at hh ⊢
                    rw [if_pos (hh.mpr rfl)]
                  · rw [if_neg h5] at hh ⊢
                    rw [if_pos (by omega), if_neg (fun z => absurd (hh.mp z) (by decide))]
                have hphiF : ¬ ((fp_rt XS0 (fp_sb π c)).any (fp_mt π c x) = true ↔ (if fp_kd π c = 5 then (1 : Int32) else 0) = 1) → fp_phi π (fp_rt XS0) (fp_par π n) x = [] := by
                  intro hh
                  rw [← hphi0]; unfold fp_phi; rw [if_neg h1, if_neg h2, if_neg h3, if_neg h4]
                  by_cases h5 : fp_kd π c = 5
                  · rw [if_pos h5] at hh ⊢
                    rw [if_neg (fun z => hh ⟨fun _ => rfl, fun _ => z⟩)]
                  · rw [if_neg h5] at hh ⊢
                    rw [if_pos (by omega)]
                    by_cases z : (fp_rt XS0 (fp_sb π c)).any (fp_mt π c x) = true
                    · rw [if_pos z]
                    · exact absurd ⟨fun y => absurd y z, fun y => absurd y (by decide)⟩ hh
                have hi1 := fx_ins_e he i1
                rw [p2.1] at hi1
                refine fx_ex post hstep hov (by omega) ?_
                refine fx_pfExists (S := XS0 (fp_sb π c)) _ (by omega) hi1 (by omega) (by unfold fx_mg; omega) r5 p2' hA (fun ht => ?_) (fun hf => ?_)
                · rw [hany] at ht
                  have hev := fp_ev_1 (k := k) htp (hphiT ht)
                  rw [hc, fp_cn_n h4 h9, List.nil_append] at hev
                  rw [hev] at hK hP
                  intro y ey
                  subst ey
                  exact ih c (pos + 1) mp R x u s (step + 1) nf d s2 (by omega) s3 htoc cd (by omega) (by omega) (by omega) hmR hRP he hd (by omega) hov hMS hok hXS (by rw [hpotS]; omega) (by omega) (fx_K_mono (Nat.le_refl _) (by rw [hpotS, hpotS]; omega) hrefl (fun _ _ => rfl) hK) hP
                · rw [hany] at hf
                  rw [fp_ev_0 htp (hphiF hf), fp_app_nil] at hK
                  exact ⟨d + 1, hK u (step + 1) nf he hd hrefl (fun _ _ => rfl) (Or.inl ⟨hov, hok, hMS, by rw [hpotS, hpotS]; omega⟩) (by omega) 0 (d + 1) (by omega) (by omega)⟩
end
section
/-! ## X: a pipeline runs -/
def fx_LD (π : fp_Pl) (root t : Nat) (XS0 : Nat → List fp_Row) (u0 : SX) (D : List fp_Row) (w : Nat) : Prop :=
  ∀ (post : Int32 → SX → Prop) u i, fx_e u = fx_e u0 → fx_AO π root t u XS0 → xx_loopCode u 0 = nI 0 → xx_loopAt u 0 = nI i → i ≤ D.length → (i = D.length → post 0 u) →
  (i < D.length → ∀ reg', (∀ j, w ≤ j → reg' j = xx_register u j) → (∀ j, j < w → reg' j = (D.getD i []).getD j 0) → post 1 ((xx_nodes u), (xx_root u), (xx_codeLength u), (xx_mapWidth u), (xx_registersUsed u), (xx_depth u), (xx_overflow u), (xx_resultWidth u), (xx_resultRows u), (xx_tableCells u), (xx_tableRows u), (xx_kindOf u), (xx_first u), (xx_second u), (xx_p u), (xx_q u), (xx_r u), (xx_widthOf u), (xx_parent u), (xx_inPlan u), (xx_given u), (xx_store u), (xx_storeRows u), (xx_heads u), (xx_chain u), (xx_op u), (xx_opA u), (xx_opB u), (xx_opC u), (xx_opD u), (xx_opE u), (xx_map u), (xx_picked u), reg', (upd (xx_loopAt u) 0 (nI (i + 1))), (xx_loopCode u), (xx_result u), (xx_order u))) → wpX_loadRow post u (nI 0)
theorem fx_src_loop {π : fp_Pl} {m root : Nat} (C : fp_cx π m root) {XS0 : Nat → List fp_Row} (post : SX → Prop) (u0 : SX) {t n w : Nat} {D : List fp_Row} (hn : n ≤ root) (hpl : fp_pl π root n = true) (hto : fp_to π root n = t) (hw : fp_wd π n = w)
    (hcd : fx_CD u0 π root 12 n 1 (List.range' 0 w) w) (hLD : fx_LD π root t XS0 u0 D w) (hD20 : D.length ≤ 20) (hDw : ∀ i, i < D.length → (D.getD i []).length = w) (sF : fp_St)
    (h1 : fp_ok root t sF → ∀ u', fx_e u' = fx_e u0 → xx_overflow u' = 0 → fx_MS π root u' sF → post u') (h2 : ¬ fp_ok root t sF → ∀ u', fx_e u' = fx_e u0 → xx_overflow u' = 1 → post u') :
    ∀ e i u s q, i + e = D.length → fx_e u = fx_e u0 → xx_depth u = nI 1 → xx_loopCode u 0 = nI 0 → xx_loopAt u 0 = nI i → fx_O π root t XS0 (3300 + 12 * i) u s q → (∀ a, a ≠ fp_ar root t → s.2 a = XS0 a) →
      sF = fp_app π root t s ((D.drop i).flatMap (fun x => fp_ev π root (fp_rt XS0) 12 n x)) → ∀ nf kk nn, 6000 < nf + q → kk + 1 ≤ 15 → 1 < nn → wX_nextRow_2 (fx_C post nf q) nn (nI kk) (xx_nodes u) (xx_root u) (xx_codeLength u) (xx_mapWidth u) (xx_registersUsed u) (xx_depth u) (xx_overflow u) (xx_resultWidth u) (xx_resultRows u) (xx_tableCells u) (xx_tableRows u) (xx_kindOf u) (xx_first u) (xx_second u) (xx_p u) (xx_q u) (xx_r u) (xx_widthOf u) (xx_parent u) (xx_inPlan u) (xx_given u) (xx_store u) (xx_storeRows u) (xx_heads u) (xx_chain u) (xx_op u) (xx_opA u) (xx_opB u) (xx_opC u) (xx_opD u) (xx_opE u) (xx_map u) (xx_picked u) (xx_register u) (xx_loopAt u) (xx_loopCode u) (xx_result u) (xx_order u) := by
  have hm := C.1.1
  have hr := C.2
  obtain ⟨_, _, _, w1, w6, _⟩ := C.1.2 n (by omega)
  intro e
  induction e with
  | zero =>
    intro i u s q hi he hd hlc hla hO hXS hsF nf kk nn hnf hkk hnn
    have hAO : fx_AO π root t u XS0 := by
      rcases hO with ⟨_, _, o3, _⟩ | ⟨_, _, o3, _⟩
      · exact fx_AO_MS o3 hXS
      · exact o3
    have hq6 : q ≤ 6000 := by
      rcases hO with ⟨_, _, _, o4⟩ | ⟨_, _, _, o4⟩
      · unfold fx_pot at o4; omega
      · exact o4
    obtain ⟨nn, rfl⟩ : ∃ z, nn = z + 1 + 1 := ⟨nn - 2, by omega⟩
    obtain ⟨nf, rfl⟩ : ∃ z, nf = z + 1 := ⟨nf - 1, by omega⟩
    refine fx_nrS (d := 0) _ (by omega) hd (by omega) ?_
    refine hLD _ u i he hAO hlc hla (by omega) (fun _ => ?_) (fun hlt => by omega)
    refine br_t rfl ?_
    intro dd edd y ey
    rw [hd, nI_pred] at edd
    subst edd ey
    refine fx_nr0 (u := ((xx_nodes u), (xx_root u), (xx_codeLength u), (xx_mapWidth u), (xx_registersUsed u), (nI 0), (xx_overflow u), (xx_resultWidth u), (xx_resultRows u), (xx_tableCells u), (xx_tableRows u), (xx_kindOf u), (xx_first u), (xx_second u), (xx_p u), (xx_q u), (xx_r u), (xx_widthOf u), (xx_parent u), (xx_inPlan u), (xx_given u), (xx_store u), (xx_storeRows u), (xx_heads u), (xx_chain u), (xx_op u), (xx_opA u), (xx_opB u), (xx_opC u), (xx_opD u), (xx_opE u), (xx_map u), (xx_picked u), (xx_register u), (xx_loopAt u), (xx_loopCode u), (xx_result u), (xx_order u))) _ rfl ?_
    intro y ey
    refine fx_exneg (u := ((xx_nodes u), (xx_root u), (xx_codeLength u), (xx_mapWidth u), (xx_registersUsed u), (nI 0), (xx_overflow u), (xx_resultWidth u), (xx_resultRows u), (xx_tableCells u), (xx_tableRows u), (xx_kindOf u), (xx_first u), (xx_second u), (xx_p u), (xx_q u), (xx_r u), (xx_widthOf u), (xx_parent u), (xx_inPlan u), (xx_given u), (xx_store u), (xx_storeRows u), (xx_heads u), (xx_chain u), (xx_op u), (xx_opA u), (xx_opB u), (xx_opC u), (xx_opD u), (xx_opE u), (xx_map u), (xx_picked u), (xx_register u), (xx_loopAt u), (xx_loopCode u), (xx_result u), (xx_order u))) post _ ?_
    rw [List.drop_eq_nil_of_le (by omega), List.flatMap_nil, fp_app_nil] at hsF
    subst hsF
    rcases hO with ⟨o1, o2, o3, o4⟩ | ⟨o1, o2, o3, o4⟩
    · exact h1 o2 ((xx_nodes u), (xx_root u), (xx_codeLength u), (xx_mapWidth u), (xx_registersUsed u), (nI 0), (xx_overflow u), (xx_resultWidth u), (xx_resultRows u), (xx_tableCells u), (xx_tableRows u), (xx_kindOf u), (xx_first u), (xx_second u), (xx_p u), (xx_q u), (xx_r u), (xx_widthOf u), (xx_parent u), (xx_inPlan u), (xx_given u), (xx_store u), (xx_storeRows u), (xx_heads u), (xx_chain u), (xx_op u), (xx_opA u), (xx_opB u), (xx_opC u), (xx_opD u), (xx_opE u), (xx_map u), (xx_picked u), (xx_register u), (xx_loopAt u), (xx_loopCode u), (xx_result u), (xx_order u)) he o1 o3
    · exact h2 o2 ((xx_nodes u), (xx_root u), (xx_codeLength u), (xx_mapWidth u), (xx_registersUsed u), (nI 0), (xx_overflow u), (xx_resultWidth u), (xx_resultRows u), (xx_tableCells u), (xx_tableRows u), (xx_kindOf u), (xx_first u), (xx_second u), (xx_p u), (xx_q u), (xx_r u), (xx_widthOf u), (xx_parent u), (xx_inPlan u), (xx_given u), (xx_store u), (xx_storeRows u), (xx_heads u), (xx_chain u), (xx_op u), (xx_opA u), (xx_opB u), (xx_opC u), (xx_opD u), (xx_opE u), (xx_map u), (xx_picked u), (xx_register u), (xx_loopAt u), (xx_loopCode u), (xx_result u), (xx_order u)) he o1
  | succ e ih =>
    intro i u s q hi he hd hlc hla hO hXS hsF nf kk nn hnf hkk hnn
    have hAO : fx_AO π root t u XS0 := by
      rcases hO with ⟨_, _, o3, _⟩ | ⟨_, _, o3, _⟩
      · exact fx_AO_MS o3 hXS
      · exact o3
    have hq6 : q ≤ 6000 := by
      rcases hO with ⟨_, _, _, o4⟩ | ⟨_, _, _, o4⟩
      · unfold fx_pot at o4; omega
      · exact o4
    have hil : i < D.length := by omega
    obtain ⟨nn, rfl⟩ : ∃ z, nn = z + 1 := ⟨nn - 1, by omega⟩
    obtain ⟨nf, rfl⟩ : ∃ z, nf = z + 1 := ⟨nf - 1, by omega⟩
    rw [List.drop_eq_getElem_cons hil, ← fp_gd D [] hil, List.flatMap_cons, fp_app_app] at hsF
    refine fx_nrS (d := 0) _ (by omega) hd (by omega) ?_
    refine hLD _ u i he hAO hlc hla (by omega) (fun hlt => by omega) (fun _ reg' g1 g2 => ?_)
    refine br_f (by decide) ?_
    show vp_in (xx_depth u - 1) 16 ∧ fx_C post (nf + 1) q (xx_loopCode u (xx_depth u - 1).toNatClampNeg + 1) ((xx_nodes u), (xx_root u), (xx_codeLength u), (xx_mapWidth u), (xx_registersUsed u), (xx_depth u), (xx_overflow u), (xx_resultWidth u), (xx_resultRows u), (xx_tableCells u), (xx_tableRows u), (xx_kindOf u), (xx_first u), (xx_second u), (xx_p u), (xx_q u), (xx_r u), (xx_widthOf u), (xx_parent u), (xx_inPlan u), (xx_given u), (xx_store u), (xx_storeRows u), (xx_heads u), (xx_chain u), (xx_op u), (xx_opA u), (xx_opB u), (xx_opC u), (xx_opD u), (xx_opE u), (xx_map u), (xx_picked u), reg', (upd (xx_loopAt u) 0 (nI (i + 1))), (xx_loopCode u), (xx_result u), (xx_order u))
    have er : xx_loopCode u (xx_depth u - 1).toNatClampNeg + 1 = nI 1 := by rw [hd, nI_pred, fi_cl (by decide : 0 < 4096), hlc, nI_1]
    have hdv : vp_in (xx_depth u - 1) 16 := by rw [hd, nI_pred]; exact vp_in_nI (by decide) (by decide)
    rw [er]
    refine ⟨hdv, ?_⟩
    intro y ey
    subst ey
    rcases hO with ⟨o1, o2, o3, o4⟩ | ⟨o1, o2, o3, o4⟩
    · have hsum := fx_sum_le o2.1
      have hpotS : fx_pot s q = q + 13 * (252 - fx_sum s.1) := rfl
      have hRP : fx_RP reg' (List.range' 0 w) (D.getD i []) := by
        refine ⟨by rw [hDw i hil, List.length_range'], fun k hk => ?_⟩
        rw [List.length_range'] at hk
        rw [fp_gd _ _ (by rw [List.length_range']; exact hk), List.getElem_range']
        rw [show 0 + 1 * k = k by omega]
        exact g2 k hk
      refine fx_sim C (XS0 := XS0) post u0 t 12 n 1 (List.range' 0 w) w (D.getD i []) ((xx_nodes u), (xx_root u), (xx_codeLength u), (xx_mapWidth u), (xx_registersUsed u), (xx_depth u), (xx_overflow u), (xx_resultWidth u), (xx_resultRows u), (xx_tableCells u), (xx_tableRows u), (xx_kindOf u), (xx_first u), (xx_second u), (xx_p u), (xx_q u), (xx_r u), (xx_widthOf u), (xx_parent u), (xx_inPlan u), (xx_given u), (xx_store u), (xx_storeRows u), (xx_heads u), (xx_chain u), (xx_op u), (xx_opA u), (xx_opB u), (xx_opC u), (xx_opD u), (xx_opE u), (xx_map u), (xx_picked u), reg', (upd (xx_loopAt u) 0 (nI (i + 1))), (xx_loopCode u), (xx_result u), (xx_order u)) s q (nf + 1) 1 hn (by omega) hpl hto hcd (by omega) (by omega) (by rw [List.length_range', hw]) ?_ hRP he hd (by omega) o1 o3 o2 hXS (by omega) (by omega) ?_ ?_
      · intro j hj
        rw [List.length_range'] at hj
        rw [fp_gd _ _ (by rw [List.length_range']; exact hj), List.getElem_range']; omega
      · intro u3 q3 nf3 e3 d3 f3 rg3 O3 hnf3 kk3 nn3 hk3 hn3
        refine ih (i + 1) u3 _ q3 (by omega) e3 d3 ?_ ?_ ?_ ?_ hsF nf3 kk3 nn3 hnf3 hk3 hn3
        · rw [(f3 0 (by decide)).2]; exact hlc
        · rw [(f3 0 (by decide)).1]; exact (rfl : upd (xx_loopAt u) 0 (nI (i + 1)) 0 = nI (i + 1))
        · rcases O3 with ⟨z1, z2, z3, z4⟩ | z
          · exact Or.inl ⟨z1, z2, z3, by omega⟩
          · exact Or.inr z
        · intro a ha
          rw [fp_app_N π root t ha]
          exact hXS a ha
      · intro u3 e3 o3' hno
        refine h2 (fun z => hno ?_) u3 e3 o3'
        rw [hsF] at z
        exact fp_ok_mono π root t _ _ z
    · refine fx_exov (u := ((xx_nodes u), (xx_root u), (xx_codeLength u), (xx_mapWidth u), (xx_registersUsed u), (xx_depth u), (xx_overflow u), (xx_resultWidth u), (xx_resultRows u), (xx_tableCells u), (xx_tableRows u), (xx_kindOf u), (xx_first u), (xx_second u), (xx_p u), (xx_q u), (xx_r u), (xx_widthOf u), (xx_parent u), (xx_inPlan u), (xx_given u), (xx_store u), (xx_storeRows u), (xx_heads u), (xx_chain u), (xx_op u), (xx_opA u), (xx_opB u), (xx_opC u), (xx_opD u), (xx_opE u), (xx_map u), (xx_picked u), reg', (upd (xx_loopAt u) 0 (nI (i + 1))), (xx_loopCode u), (xx_result u), (xx_order u))) post _ _ (by show ¬ xx_overflow u = 0; rw [o1]; decide) ?_
      refine h2 (fun z => o2 ?_) _ he o1
      rw [hsF] at z
      exact fp_ok_mono π root t _ _ (fp_ok_mono π root t _ _ z)
theorem fx_LD_table {π : fp_Pl} {root t : Nat} {XS0 : Nat → List fp_Row} {u0 : SX} {tb : Nat} {B C D E : Int32} (htb : tb < 3) (hT : fp_TOK (xx_tableRows u0)) (hi : fx_ins u0 0 0 (nI tb) B C D E) : fx_LD π root t XS0 u0 (fp_TB (xx_tableCells u0) (xx_tableRows u0) tb) 3 := by
  intro post u i he hAO hlc hla hiD h0 h1
  obtain ⟨t1, t2⟩ := fp_TB_len (tb := xx_tableCells u0) hT htb
  refine fx_lrTable (u := u) (n := (fp_TB (xx_tableCells u0) (xx_tableRows u0) tb).length) post (by decide) (by decide) htb hlc hla (fx_ins_e he hi) (by rw [fx_e_tableRows he]; exact t2) t1 hiD h0 fun hlt reg' g1 g2 => h1 hlt reg' g1 fun j hj => ?_
  rw [g2 j hj, fx_e_tableCells he, fp_TB_get hlt]
  match j, hj with
  | 0, _ => rfl
  | 1, _ => rfl
  | 2, _ => rfl
theorem fx_LD_stored {π : fp_Pl} {root t : Nat} {XS0 : Nat → List fp_Row} {u0 : SX} {a w : Nat} {C D E : Int32} (ha : a < 13) (hat : a ≠ fp_ar root t) (hw : fx_w π root a = w) (hi : fx_ins u0 0 1 (nI a) (nI w) C D E) : fx_LD π root t XS0 u0 (XS0 a) w := by
  intro post u i he hAO hlc hla hiD h0 h1
  have hA := hAO a ha hat
  unfold fx_A1 at hA
  rw [hw] at hA
  have hw6 : w ≤ 6 := by rw [← hw]; exact fx_w6 _ _ _
  refine fx_lrStored (u := u) (n := (XS0 a).length) post (by decide) (by decide) ha hw6 hlc hla (fx_ins_e he hi) hA.2.1 hA.1 hiD h0 fun hlt reg' g1 g2 => h1 hlt reg' g1 fun j hj => ?_
  rw [g2 j hj]
  exact (hA.2.2.1 i hlt).2 j hj
/-- the first operation of a pipeline -/
def fx_so (u : SX) (π : fp_Pl) (n : Nat) : Prop := (fp_kd π n = 0 → fx_ins u 0 0 (fp_p π n) 0 0 0 0) ∧ (fp_kd π n ≠ 0 → fx_ins u 0 1 (nI (fp_fa π n)) (nI (fp_wd π n)) 0 0 0)
theorem fx_execute {π : fp_Pl} {m root : Nat} (C : fp_cx π m root) (post : SX → Prop) {u : SX} {t n : Nat} {s : fp_St} {XS0 : Nat → List fp_Row} (hn : n ≤ root) (hpl : fp_pl π root n = true) (hso : fp_so π n = true) (hto : fp_to π root n = t) (hT : fp_TOK (xx_tableRows u))
    (hc0 : fx_so u π n) (hcd : fx_CD u π root 12 n 1 (List.range' 0 (fp_wd π n)) (fp_wd π n)) (hov : xx_overflow u = 0) (hMS : fx_MS π root u s) (hok : fp_ok root t s) (hXS : ∀ a, a ≠ fp_ar root t → s.2 a = XS0 a)
    (h1 : fp_ok root t (fp_app π root t s (fp_evs π root (fp_TB (xx_tableCells u) (xx_tableRows u)) XS0 n)) → ∀ u', fx_e u' = fx_e u → xx_overflow u' = 0 → fx_MS π root u' (fp_app π root t s (fp_evs π root (fp_TB (xx_tableCells u) (xx_tableRows u)) XS0 n)) → post u')
    (h2 : ¬ fp_ok root t (fp_app π root t s (fp_evs π root (fp_TB (xx_tableCells u) (xx_tableRows u)) XS0 n)) → ∀ u', fx_e u' = fx_e u → xx_overflow u' = 1 → post u') : wpX_execute post u := by
  have hm := C.1.1
  have hr := C.2
  have hnm : n < m := by omega
  obtain ⟨_, _, _, w1, w6, _, _, _, _, _, hprm⟩ := C.1.2 n hnm
  have hle := (fp_to_all C hn hpl).2.1
  have hsum := fx_sum_le hok.1
  have key : ∀ (D : List fp_Row) (o A B C' D' E : Int32), ¬ 2 < o → ¬ o = 2 → fx_ins u 0 o A B C' D' E → fp_D π (fp_TB (xx_tableCells u) (xx_tableRows u)) XS0 n = D → D.length ≤ 20 → (∀ i, i < D.length → (D.getD i []).length = fp_wd π n) → fx_LD π root t XS0 u D (fp_wd π n) → wpX_execute post u := by
    intro D o A B C' D' E ho1 ho2 hins hD hD20 hDw hLD
    refine ⟨6001, ?_⟩
    refine fx_ex (u := ((xx_nodes u), (xx_root u), (xx_codeLength u), (xx_mapWidth u), (xx_registersUsed u), 0, (xx_overflow u), (xx_resultWidth u), (xx_resultRows u), (xx_tableCells u), (xx_tableRows u), (xx_kindOf u), (xx_first u), (xx_second u), (xx_p u), (xx_q u), (xx_r u), (xx_widthOf u), (xx_parent u), (xx_inPlan u), (xx_given u), (xx_store u), (xx_storeRows u), (xx_heads u), (xx_chain u), (xx_op u), (xx_opA u), (xx_opB u), (xx_opC u), (xx_opD u), (xx_opE u), (xx_map u), (xx_picked u), (xx_register u), (xx_loopAt u), (xx_loopCode u), (xx_result u), (xx_order u))) (pos := 0) (step := 0) (nf := 6000) post (by decide) hov (by decide) ?_
    refine fx_pfEach (u := ((xx_nodes u), (xx_root u), (xx_codeLength u), (xx_mapWidth u), (xx_registersUsed u), 0, (xx_overflow u), (xx_resultWidth u), (xx_resultRows u), (xx_tableCells u), (xx_tableRows u), (xx_kindOf u), (xx_first u), (xx_second u), (xx_p u), (xx_q u), (xx_r u), (xx_widthOf u), (xx_parent u), (xx_inPlan u), (xx_given u), (xx_store u), (xx_storeRows u), (xx_heads u), (xx_chain u), (xx_op u), (xx_opA u), (xx_opB u), (xx_opC u), (xx_opD u), (xx_opE u), (xx_map u), (xx_picked u), (xx_register u), (xx_loopAt u), (xx_loopCode u), (xx_result u), (xx_order u))) (d := 0) _ (by decide) hins ho1 ho2 rfl (by decide) ⟨2, ?_⟩
    refine fx_src_loop C (XS0 := XS0) post u (t := t) hn hpl hto rfl hcd hLD hD20 hDw _ h1 h2 D.length 0 ((xx_nodes u), (xx_root u), (xx_codeLength u), (xx_mapWidth u), (xx_registersUsed u), (nI 1), (xx_overflow u), (xx_resultWidth u), (xx_resultRows u), (xx_tableCells u), (xx_tableRows u), (xx_kindOf u), (xx_first u), (xx_second u), (xx_p u), (xx_q u), (xx_r u), (xx_widthOf u), (xx_parent u), (xx_inPlan u), (xx_given u), (xx_store u), (xx_storeRows u), (xx_heads u), (xx_chain u), (xx_op u), (xx_opA u), (xx_opB u), (xx_opC u), (xx_opD u), (xx_opE u), (xx_map u), (xx_picked u), (xx_register u), (upd (xx_loopAt u) 0 0), (upd (xx_loopCode u) 0 (nI 0)), (xx_result u), (xx_order u)) s 1 (by omega) rfl rfl rfl rfl (Or.inl ⟨hov, hok, hMS, ?_⟩) hXS ?_ 6000 0 2 (by omega) (by omega) (by omega)
    · show 1 + 13 * (252 - fx_sum s.1) ≤ _
      omega
    · unfold fp_evs; rw [hD, List.drop_zero]
  by_cases h0 : fp_kd π n = 0
  · obtain ⟨c1, c2⟩ := hprm.1 h0
    obtain ⟨t1, t2⟩ := fp_TB_len (tb := xx_tableCells u) hT c1.2
    have hins := hc0.1 h0
    refine key (fp_TB (xx_tableCells u) (xx_tableRows u) (fp_p π n).toNatClampNeg) 0 _ _ _ _ _ (by decide) (by decide) hins (by unfold fp_D; rw [if_pos h0]) (by omega) (fun i hi => ?_) ?_
    · rw [fp_TB_get hi, c2]; rfl
    · rw [c2]
      rw [c1.1] at hins
      exact fx_LD_table c1.2 hT hins
  · have h78 : fp_kd π n = 7 ∨ fp_kd π n = 8 := by
      have := (fp_so_iff π n).mp hso; omega
    obtain ⟨f1, f2, f3, f4⟩ := fp_fa_tp C hn hpl h78
    have hat : fp_fa π n ≠ fp_ar root t := by unfold fp_ar; split <;> omega
    have hwa : fx_w π root (fp_fa π n) = fp_wd π n := by
      obtain ⟨_, _, _, _, wa6, _⟩ := C.1.2 (fp_fa π n) (by omega)
      unfold fx_w
      rw [if_neg (by omega), f2]
      rcases h78 with h | h
      · rw [if_pos h, (hprm.2.2.2.2.2.2.1 h).2.2.2]; rfl
      · rw [if_neg (by omega), hprm.2.2.2.2.2.2.2.1 h]; omega
    have hA := fx_AO_MS hMS hXS (fp_fa π n) (by omega) hat
    unfold fx_A1 at hA
    rw [hwa] at hA
    have hins := hc0.2 h0
    refine key (XS0 (fp_fa π n)) 1 _ _ _ _ _ (by decide) (by decide) hins (by unfold fp_D; rw [if_neg h0]) hA.1 (fun i hi => (hA.2.2.1 i hi).1) ?_
    exact fx_LD_stored (by omega) hat hwa hins
end
section
/-! ## X: compiling -/
abbrev fx_c (v : SX) : Int32 × Int32 × Int32 × Int32 × Int32 × Int32 × (Nat → Int32) × (Nat → Int32) × (Nat → Int32) × (Nat → Int32) × (Nat → Int32) × (Nat → Int32) × (Nat → Int32) × (Nat → Int32) × (Nat → Int32) × (Nat → Int32) × (Nat → Int32) × (Nat → Int32) × (Nat → Int32) × (Nat → Int32) × (Nat → Int32) × (Nat → Int32) × (Nat → Int32) × (Nat → Int32) × (Nat → Int32) × (Nat → Int32) × (Nat → Int32) := (xx_nodes v, xx_root v, xx_depth v, xx_overflow v, xx_resultWidth v, xx_resultRows v, xx_tableCells v, xx_tableRows v, xx_kindOf v, xx_first v, xx_second v, xx_p v, xx_q v, xx_r v, xx_widthOf v, xx_parent v, xx_inPlan v, xx_given v, xx_store v, xx_storeRows v, xx_heads v, xx_chain v, xx_register v, xx_loopAt v, xx_loopCode v, xx_result v, xx_order v)
theorem fx_c_nodes {v v' : SX} (h : fx_c v' = fx_c v) : xx_nodes v' = xx_nodes v := congrArg (fun e => e.1) h
theorem fx_c_root {v v' : SX} (h : fx_c v' = fx_c v) : xx_root v' = xx_root v := congrArg (fun e => e.2.1) h
theorem fx_c_depth {v v' : SX} (h : fx_c v' = fx_c v) : xx_depth v' = xx_depth v := congrArg (fun e => e.2.2.1) h
theorem fx_c_overflow {v v' : SX} (h : fx_c v' = fx_c v) : xx_overflow v' = xx_overflow v := congrArg (fun e => e.2.2.2.1) h
theorem fx_c_resultWidth {v v' : SX} (h : fx_c v' = fx_c v) : xx_resultWidth v' = xx_resultWidth v := congrArg (fun e => e.2.2.2.2.1) h
theorem fx_c_resultRows {v v' : SX} (h : fx_c v' = fx_c v) : xx_resultRows v' = xx_resultRows v := congrArg (fun e => e.2.2.2.2.2.1) h
theorem fx_c_tableCells {v v' : SX} (h : fx_c v' = fx_c v) : xx_tableCells v' = xx_tableCells v := congrArg (fun e => e.2.2.2.2.2.2.1) h
theorem fx_c_tableRows {v v' : SX} (h : fx_c v' = fx_c v) : xx_tableRows v' = xx_tableRows v := congrArg (fun e => e.2.2.2.2.2.2.2.1) h
theorem fx_c_kindOf {v v' : SX} (h : fx_c v' = fx_c v) : xx_kindOf v' = xx_kindOf v := congrArg (fun e => e.2.2.2.2.2.2.2.2.1) h
theorem fx_c_first {v v' : SX} (h : fx_c v' = fx_c v) : xx_first v' = xx_first v := congrArg (fun e => e.2.2.2.2.2.2.2.2.2.1) h
theorem fx_c_second {v v' : SX} (h : fx_c v' = fx_c v) : xx_second v' = xx_second v := congrArg (fun e => e.2.2.2.2.2.2.2.2.2.2.1) h
theorem fx_c_p {v v' : SX} (h : fx_c v' = fx_c v) : xx_p v' = xx_p v := congrArg (fun e => e.2.2.2.2.2.2.2.2.2.2.2.1) h
theorem fx_c_q {v v' : SX} (h : fx_c v' = fx_c v) : xx_q v' = xx_q v := congrArg (fun e => e.2.2.2.2.2.2.2.2.2.2.2.2.1) h
theorem fx_c_r {v v' : SX} (h : fx_c v' = fx_c v) : xx_r v' = xx_r v := congrArg (fun e => e.2.2.2.2.2.2.2.2.2.2.2.2.2.1) h
theorem fx_c_widthOf {v v' : SX} (h : fx_c v' = fx_c v) : xx_widthOf v' = xx_widthOf v := congrArg (fun e => e.2.2.2.2.2.2.2.2.2.2.2.2.2.2.1) h
theorem fx_c_parent {v v' : SX} (h : fx_c v' = fx_c v) : xx_parent v' = xx_parent v := congrArg (fun e => e.2.2.2.2.2.2.2.2.2.2.2.2.2.2.2.1) h
theorem fx_c_inPlan {v v' : SX} (h : fx_c v' = fx_c v) : xx_inPlan v' = xx_inPlan v := congrArg (fun e => e.2.2.2.2.2.2.2.2.2.2.2.2.2.2.2.2.1) h
theorem fx_c_given {v v' : SX} (h : fx_c v' = fx_c v) : xx_given v' = xx_given v := congrArg (fun e => e.2.2.2.2.2.2.2.2.2.2.2.2.2.2.2.2.2.1) h
theorem fx_c_store {v v' : SX} (h : fx_c v' = fx_c v) : xx_store v' = xx_store v := congrArg (fun e => e.2.2.2.2.2.2.2.2.2.2.2.2.2.2.2.2.2.2.1) h
theorem fx_c_storeRows {v v' : SX} (h : fx_c v' = fx_c v) : xx_storeRows v' = xx_storeRows v := congrArg (fun e => e.2.2.2.2.2.2.2.2.2.2.2.2.2.2.2.2.2.2.2.1) h
theorem fx_c_heads {v v' : SX} (h : fx_c v' = fx_c v) : xx_heads v' = xx_heads v := congrArg (fun e => e.2.2.2.2.2.2.2.2.2.2.2.2.2.2.2.2.2.2.2.2.1) h
theorem fx_c_chain {v v' : SX} (h : fx_c v' = fx_c v) : xx_chain v' = xx_chain v := congrArg (fun e => e.2.2.2.2.2.2.2.2.2.2.2.2.2.2.2.2.2.2.2.2.2.1) h
theorem fx_c_register {v v' : SX} (h : fx_c v' = fx_c v) : xx_register v' = xx_register v := congrArg (fun e => e.2.2.2.2.2.2.2.2.2.2.2.2.2.2.2.2.2.2.2.2.2.2.1) h
theorem fx_c_loopAt {v v' : SX} (h : fx_c v' = fx_c v) : xx_loopAt v' = xx_loopAt v := congrArg (fun e => e.2.2.2.2.2.2.2.2.2.2.2.2.2.2.2.2.2.2.2.2.2.2.2.1) h
theorem fx_c_loopCode {v v' : SX} (h : fx_c v' = fx_c v) : xx_loopCode v' = xx_loopCode v := congrArg (fun e => e.2.2.2.2.2.2.2.2.2.2.2.2.2.2.2.2.2.2.2.2.2.2.2.2.1) h
theorem fx_c_result {v v' : SX} (h : fx_c v' = fx_c v) : xx_result v' = xx_result v := congrArg (fun e => e.2.2.2.2.2.2.2.2.2.2.2.2.2.2.2.2.2.2.2.2.2.2.2.2.2.1) h
theorem fx_c_order {v v' : SX} (h : fx_c v' = fx_c v) : xx_order v' = xx_order v := congrArg (fun e => e.2.2.2.2.2.2.2.2.2.2.2.2.2.2.2.2.2.2.2.2.2.2.2.2.2.2) h
abbrev fx_pl (u : SX) : fp_Pl := (xx_kindOf u, xx_first u, xx_second u, xx_p u, xx_q u, xx_r u, xx_widthOf u, xx_parent u)
theorem fx_pl_c {u u' : SX} (h : fx_c u' = fx_c u) : fx_pl u' = fx_pl u := by
  show (xx_kindOf u', xx_first u', xx_second u', xx_p u', xx_q u', xx_r u', xx_widthOf u', xx_parent u') = _
  rw [fx_c_kindOf h, fx_c_first h, fx_c_second h, fx_c_p h, fx_c_q h, fx_c_r h, fx_c_widthOf h, fx_c_parent h]
def fx_pre (L : Nat) (u u' : SX) : Prop := ∀ j, j < L → xx_op u' j = xx_op u j ∧ xx_opA u' j = xx_opA u j ∧ xx_opB u' j = xx_opB u j ∧ xx_opC u' j = xx_opC u j ∧ xx_opD u' j = xx_opD u j ∧ xx_opE u' j = xx_opE u j
def fx_CS (u : SX) (L : Nat) (mp : List Nat) (R : Nat) : Prop := xx_codeLength u = nI L ∧ xx_mapWidth u = nI mp.length ∧ xx_registersUsed u = nI R ∧ ∀ k, k < mp.length → xx_map u k = nI (mp.getD k 0)
theorem fx_pre_trans {L L' : Nat} {u u' u'' : SX} (h : L ≤ L') (h1 : fx_pre L u u') (h2 : fx_pre L' u' u'') : fx_pre L u u'' := by
  intro j hj
  obtain ⟨a1, a2, a3, a4, a5, a6⟩ := h1 j hj
  obtain ⟨b1, b2, b3, b4, b5, b6⟩ := h2 j (by omega)
  exact ⟨b1.trans a1, b2.trans a2, b3.trans a3, b4.trans a4, b5.trans a5, b6.trans a6⟩
theorem fx_ins_pre {L pos : Nat} {u u' : SX} {o a b c d e : Int32} (hp : pos < L) (h : fx_pre L u u') (hi : fx_ins u pos o a b c d e) : fx_ins u' pos o a b c d e := by
  obtain ⟨a1, a2, a3, a4, a5, a6⟩ := h pos hp
  obtain ⟨b1, b2, b3, b4, b5, b6⟩ := hi
  exact ⟨a1.trans b1, a2.trans b2, a3.trans b3, a4.trans b4, a5.trans b5, a6.trans b6⟩
theorem fx_put {u : SX} {L R : Nat} {mp : List Nat} (post : SX → Prop) (hL : L < 40) (hS : fx_CS u L mp R) (p0 p1 p2 p3 p4 p5 : Int32) (h : ∀ u', fx_c u' = fx_c u → fx_CS u' (L + 1) mp R → fx_ins u' L p0 p1 p2 p3 p4 p5 → fx_pre L u u' → post u') : wpX_put post u p0 p1 p2 p3 p4 p5 := by
  have hv := vp_in_nI (n := L) hL (by decide)
  show wpX_put post ((xx_nodes u), (xx_root u), (xx_codeLength u), (xx_mapWidth u), (xx_registersUsed u), (xx_depth u), (xx_overflow u), (xx_resultWidth u), (xx_resultRows u), (xx_tableCells u), (xx_tableRows u), (xx_kindOf u), (xx_first u), (xx_second u), (xx_p u), (xx_q u), (xx_r u), (xx_widthOf u), (xx_parent u), (xx_inPlan u), (xx_given u), (xx_store u), (xx_storeRows u), (xx_heads u), (xx_chain u), (xx_op u), (xx_opA u), (xx_opB u), (xx_opC u), (xx_opD u), (xx_opE u), (xx_map u), (xx_picked u), (xx_register u), (xx_loopAt u), (xx_loopCode u), (xx_result u), (xx_order u)) p0 p1 p2 p3 p4 p5
  unfold wpX_put
  dsimp only
  rw [hS.1, fi_cl (by omega : L < 4096), nI_1]
  refine ⟨hv, ?_⟩
  intro o eo
  refine ⟨hv, ?_⟩
  intro a ea
  refine ⟨hv, ?_⟩
  intro b eb
  refine ⟨hv, ?_⟩
  intro c ec
  refine ⟨hv, ?_⟩
  intro d ed
  refine ⟨hv, ?_⟩
  intro e ee cl ecl
  subst eo ea eb ec ed ee ecl
  exact h _ rfl ⟨rfl, hS.2.1, hS.2.2.1, hS.2.2.2⟩ ⟨fi_us, fi_us, fi_us, fi_us, fi_us, fi_us⟩ fun j hj => ⟨fi_un (by omega), fi_un (by omega), fi_un (by omega), fi_un (by omega), fi_un (by omega), fi_un (by omega)⟩
theorem fx_ac2 {u : SX} {n a R : Nat} (post : SX → Prop) (ha : a + n ≤ 6) (hR : R ≤ 96) : ∀ d c map, c + d = n → (∀ map', (∀ j, j < a + c → map' j = map j) → (∀ j, c ≤ j → j < n → map' (a + j) = nI (R + j)) → post ((xx_nodes u), (xx_root u), (xx_codeLength u), (nI (a + n)), (nI (R + n)), (xx_depth u), (xx_overflow u), (xx_resultWidth u), (xx_resultRows u), (xx_tableCells u), (xx_tableRows u), (xx_kindOf u), (xx_first u), (xx_second u), (xx_p u), (xx_q u), (xx_r u), (xx_widthOf u), (xx_parent u), (xx_inPlan u), (xx_given u), (xx_store u), (xx_storeRows u), (xx_heads u), (xx_chain u), (xx_op u), (xx_opA u), (xx_opB u), (xx_opC u), (xx_opD u), (xx_opE u), map', (xx_picked u), (xx_register u), (xx_loopAt u), (xx_loopCode u), (xx_result u), (xx_order u))) → wX_addColumns_2 post (nI n) (xx_nodes u) (xx_root u) (xx_codeLength u) (xx_depth u) (xx_overflow u) (xx_resultWidth u) (xx_resultRows u) (d + 1) (nI c) (nI (a + c)) (nI (R + c)) (xx_tableCells u) (xx_tableRows u) (xx_kindOf u) (xx_first u) (xx_second u) (xx_p u) (xx_q u) (xx_r u) (xx_widthOf u) (xx_parent u) (xx_inPlan u) (xx_given u) (xx_store u) (xx_storeRows u) (xx_heads u) (xx_chain u) (xx_op u) (xx_opA u) (xx_opB u) (xx_opC u) (xx_opD u) (xx_opE u) map (xx_picked u) (xx_register u) (xx_loopAt u) (xx_loopCode u) (xx_result u) (xx_order u) := by
  intro d
  induction d with
  | zero =>
    intro c map hc h
    have e : c = n := by omega
    subst e
    refine br_t (nI_le (Nat.le_refl _) (by omega)) ?_
    exact h map (fun _ _ => rfl) (fun j h1 h2 => by omega)
  | succ d ih =>
    intro c map hc h
    refine br_f (nI_ge (by omega) (by omega)) ?_
    rw [fi_cl (by omega : a + c < 4096), nI_1, nI_1, nI_1]
    refine And.intro (vp_in_nI (by omega) (by decide)) ?_
    intro map2 e2 mw emw ru eru c2 ec2
    subst e2 emw eru ec2
    refine ih (c + 1) _ (by omega) fun map' h1 h2 => h map' (fun j hj => ?_) (fun j hj1 hj2 => ?_)
    · rw [h1 j (by omega), fi_un (by omega)]
    · by_cases e : j = c
      · subst e
        rw [h1 _ (by omega), fi_us]
      · exact h2 j (by omega) hj2
theorem fx_addColumns {u : SX} {L R n : Nat} {mp : List Nat} (post : SX → Prop) (hn : mp.length + n ≤ 6) (hR : R ≤ 96) (hS : fx_CS u L mp R) (h : ∀ u', fx_c u' = fx_c u → fx_CS u' L (mp ++ List.range' R n) (R + n) → (∀ L', fx_pre L' u u') → post u') : wpX_addColumns post u (nI n) := by
  show wpX_addColumns post ((xx_nodes u), (xx_root u), (xx_codeLength u), (xx_mapWidth u), (xx_registersUsed u), (xx_depth u), (xx_overflow u), (xx_resultWidth u), (xx_resultRows u), (xx_tableCells u), (xx_tableRows u), (xx_kindOf u), (xx_first u), (xx_second u), (xx_p u), (xx_q u), (xx_r u), (xx_widthOf u), (xx_parent u), (xx_inPlan u), (xx_given u), (xx_store u), (xx_storeRows u), (xx_heads u), (xx_chain u), (xx_op u), (xx_opA u), (xx_opB u), (xx_opC u), (xx_opD u), (xx_opE u), (xx_map u), (xx_picked u), (xx_register u), (xx_loopAt u), (xx_loopCode u), (xx_result u), (xx_order u)) (nI n)
  refine ⟨n + 1, ?_⟩
  rw [hS.2.1, hS.2.2.1]
  refine fx_ac2 (u := u) (a := mp.length) (R := R) post hn hR n 0 (xx_map u) (by omega) fun map' h1 h2 => ?_
  refine h _ rfl ⟨hS.1, ?_, rfl, fun k hk => ?_⟩ (fun L' j hj => ⟨rfl, rfl, rfl, rfl, rfl, rfl⟩)
  · show nI (mp.length + n) = _
    rw [List.length_append, List.length_range']
  · show map' k = _
    rw [List.length_append, List.length_range'] at hk
    by_cases hk1 : k < mp.length
    · rw [fp_gd_app _ _ _ hk1, h1 k (by omega)]; exact hS.2.2.2 k hk1
    · have e1 : k = mp.length + (k - mp.length) := by omega
      have := h2 (k - mp.length) (Nat.zero_le _) (by omega)
      rw [← e1] at this
      rw [this]
      refine congrArg nI ?_
      rw [e1, fp_gd_app2, fp_gd _ _ (by rw [List.length_range']; omega), List.getElem_range']; omega
theorem fx_rn79 {u : SX} {w : Nat} (post : SX → Prop) (hw : w ≤ 6) : ∀ d k map, k + d = w → (∀ map', (∀ j, j < k → map' j = map j) → (∀ j, k ≤ j → j < w → map' j = xx_picked u j) → post ((xx_nodes u), (xx_root u), (xx_codeLength u), (nI w), (xx_registersUsed u), (xx_depth u), (xx_overflow u), (xx_resultWidth u), (xx_resultRows u), (xx_tableCells u), (xx_tableRows u), (xx_kindOf u), (xx_first u), (xx_second u), (xx_p u), (xx_q u), (xx_r u), (xx_widthOf u), (xx_parent u), (xx_inPlan u), (xx_given u), (xx_store u), (xx_storeRows u), (xx_heads u), (xx_chain u), (xx_op u), (xx_opA u), (xx_opB u), (xx_opC u), (xx_opD u), (xx_opE u), map', (xx_picked u), (xx_register u), (xx_loopAt u), (xx_loopCode u), (xx_result u), (xx_order u))) → wX_renameColumns_79 post (nI w) (xx_nodes u) (xx_root u) (xx_codeLength u) (xx_mapWidth u) (xx_registersUsed u) (xx_depth u) (xx_overflow u) (xx_resultWidth u) (xx_resultRows u) (d + 1) (nI k) (xx_tableCells u) (xx_tableRows u) (xx_kindOf u) (xx_first u) (xx_second u) (xx_p u) (xx_q u) (xx_r u) (xx_widthOf u) (xx_parent u) (xx_inPlan u) (xx_given u) (xx_store u) (xx_storeRows u) (xx_heads u) (xx_chain u) (xx_op u) (xx_opA u) (xx_opB u) (xx_opC u) (xx_opD u) (xx_opE u) map (xx_picked u) (xx_register u) (xx_loopAt u) (xx_loopCode u) (xx_result u) (xx_order u) := by
  intro d
  induction d with
  | zero =>
    intro k map hk h
    refine br_t (nI_le (by omega) (by omega)) ?_
    exact h map (fun _ _ => rfl) (fun j h1 h2 => by omega)
  | succ d ih =>
    intro k map hk h
    refine br_f (nI_ge (by omega) (by omega)) ?_
    rw [fi_cl (by omega : k < 4096), nI_1]
    refine And.intro (vp_in_nI (by omega) (by decide)) (And.intro (vp_in_nI (by omega) (by decide)) ?_)
    intro map2 e2 c2 ec2
    subst e2 ec2
    refine ih (k + 1) _ (by omega) fun map' h1 h2 => h map' (fun j hj => ?_) (fun j hj1 hj2 => ?_)
    · rw [h1 j (by omega), fi_un (by omega)]
    · by_cases e : j = k
      · subst e
        rw [h1 _ (by omega), fi_us]
      · exact h2 j (by omega) hj2
theorem fx_rn48 {u : SX} {π : fp_Pl} {c w : Nat} {pk mp : List Nat} {L R : Nat} (post : SX → Prop) (hc : c < 12) (hr0 : xx_r u c = fp_r π c) (hw : pk.length = w) (hw2 : w ≤ 2) (hpk : ∀ j, j < w → xx_picked u j = nI (pk.getD j 0)) (hS : fx_CS u L mp R) (hm6 : mp.length ≤ 6) (hr : ¬ fp_r π c < 0 → fp_col (fp_r π c) mp.length)
    (h : ∀ u', fx_c u' = fx_c u → fx_CS u' L (pk ++ (if fp_r π c < 0 then [] else [fx_mg mp (fp_r π c)])) R → (∀ L', fx_pre L' u u') → post u') : wX_renameColumns_48 post (nI c) (nI w) (xx_nodes u) (xx_root u) (xx_codeLength u) (xx_mapWidth u) (xx_registersUsed u) (xx_depth u) (xx_overflow u) (xx_resultWidth u) (xx_resultRows u) (xx_tableCells u) (xx_tableRows u) (xx_kindOf u) (xx_first u) (xx_second u) (xx_p u) (xx_q u) (xx_r u) (xx_widthOf u) (xx_parent u) (xx_inPlan u) (xx_given u) (xx_store u) (xx_storeRows u) (xx_heads u) (xx_chain u) (xx_op u) (xx_opA u) (xx_opB u) (xx_opC u) (xx_opD u) (xx_opE u) (xx_map u) (xx_picked u) (xx_register u) (xx_loopAt u) (xx_loopCode u) (xx_result u) (xx_order u) := by
  have hv := vp_in_nI (n := c) hc (by decide)
  refine And.intro hv ?_
  rw [fi_cl (by omega : c < 4096), hr0]
  refine br_c (fun e => ⟨w + 1, ?_⟩) (fun e => And.intro hv ?_)
  · rw [if_pos e, List.append_nil] at h
    refine fx_rn79 (u := u) post (by omega) w 0 (xx_map u) (by omega) fun map' h1 h2 => ?_
    refine h _ rfl ⟨hS.1, ?_, hS.2.2.1, fun k hk => ?_⟩ (fun L' j hj => ⟨rfl, rfl, rfl, rfl, rfl, rfl⟩)
    · show nI w = _
      rw [hw]
    · show map' k = _
      rw [h2 k (Nat.zero_le _) (by omega)]; exact hpk k (by omega)
  · rw [if_neg e] at h
    have hc3 := hr e
    have hc3' := hc3.2
    rw [hc3.1, fi_cl (by omega : (fp_r π c).toNatClampNeg < 4096), fi_cl (by omega : w < 4096), hS.2.2.2 _ hc3']
    refine And.intro (vp_in_nI (by omega) (by decide)) (And.intro (vp_in_nI (by omega) (by decide)) ?_)
    intro pk2 epk x2 ex2
    rw [nI_1] at ex2
    subst epk ex2
    refine ⟨w + 2, ?_⟩
    refine fx_rn79 (u := ((xx_nodes u), (xx_root u), (xx_codeLength u), (xx_mapWidth u), (xx_registersUsed u), (xx_depth u), (xx_overflow u), (xx_resultWidth u), (xx_resultRows u), (xx_tableCells u), (xx_tableRows u), (xx_kindOf u), (xx_first u), (xx_second u), (xx_p u), (xx_q u), (xx_r u), (xx_widthOf u), (xx_parent u), (xx_inPlan u), (xx_given u), (xx_store u), (xx_storeRows u), (xx_heads u), (xx_chain u), (xx_op u), (xx_opA u), (xx_opB u), (xx_opC u), (xx_opD u), (xx_opE u), (xx_map u), (upd (xx_picked u) w (nI (mp.getD (fp_r π c).toNatClampNeg 0))), (xx_register u), (xx_loopAt u), (xx_loopCode u), (xx_result u), (xx_order u))) post (by omega) (w + 1) 0 (xx_map u) (by omega) fun map' h1 h2 => ?_
    refine h _ rfl ⟨hS.1, ?_, hS.2.2.1, fun k hk => ?_⟩ (fun L' j hj => ⟨rfl, rfl, rfl, rfl, rfl, rfl⟩)
    · show nI (w + 1) = _
      rw [List.length_append, hw]; rfl
    · show map' k = _
      rw [List.length_append, hw] at hk
      have hk' : k < w + 1 := hk
      rw [h2 k (Nat.zero_le _) hk']
      show upd (xx_picked u) w _ k = _
      by_cases z : k = w
      · subst z
        rw [fi_us, ← hw, fp_gd_last]; rfl
      · rw [fi_un z, fp_gd_app _ _ _ (by omega)]; exact hpk k (by omega)
theorem fx_renameColumns {u : SX} {π : fp_Pl} {c : Nat} {mp : List Nat} {L R : Nat} (post : SX → Prop) (hc : c < 12) (hp0 : xx_p u c = fp_p π c) (hq0 : xx_q u c = fp_q π c) (hr0 : xx_r u c = fp_r π c) (hS : fx_CS u L mp R) (hm6 : mp.length ≤ 6) (hp : fp_col (fp_p π c) mp.length) (hq : ¬ fp_q π c < 0 → fp_col (fp_q π c) mp.length) (hr : ¬ fp_r π c < 0 → fp_col (fp_r π c) mp.length)
    (h : ∀ u', fx_c u' = fx_c u → fx_CS u' L (fx_pm π c mp) R → (∀ L', fx_pre L' u u') → post u') : wpX_renameColumns post u (nI c) := by
  have hv := vp_in_nI (n := c) hc (by decide)
  have hp' := hp.2
  show wpX_renameColumns post ((xx_nodes u), (xx_root u), (xx_codeLength u), (xx_mapWidth u), (xx_registersUsed u), (xx_depth u), (xx_overflow u), (xx_resultWidth u), (xx_resultRows u), (xx_tableCells u), (xx_tableRows u), (xx_kindOf u), (xx_first u), (xx_second u), (xx_p u), (xx_q u), (xx_r u), (xx_widthOf u), (xx_parent u), (xx_inPlan u), (xx_given u), (xx_store u), (xx_storeRows u), (xx_heads u), (xx_chain u), (xx_op u), (xx_opA u), (xx_opB u), (xx_opC u), (xx_opD u), (xx_opE u), (xx_map u), (xx_picked u), (xx_register u), (xx_loopAt u), (xx_loopCode u), (xx_result u), (xx_order u)) (nI c)
  unfold wpX_renameColumns
  dsimp only
  rw [fi_cl (by omega : c < 4096), hp0, hq0, hp.1, fi_cl (by omega : (fp_p π c).toNatClampNeg < 4096), hS.2.2.2 _ hp']
  refine ⟨hv, vp_in_nI (by omega) (by decide), ?_⟩
  intro pk epk
  refine ⟨hv, br_c (fun e => ?_) (fun e => ⟨hv, ?_⟩)⟩
  · subst epk
    unfold fx_pm at h
    rw [if_pos e] at h
    refine fx_rn48 (u := ((xx_nodes u), (xx_root u), (xx_codeLength u), (xx_mapWidth u), (xx_registersUsed u), (xx_depth u), (xx_overflow u), (xx_resultWidth u), (xx_resultRows u), (xx_tableCells u), (xx_tableRows u), (xx_kindOf u), (xx_first u), (xx_second u), (xx_p u), (xx_q u), (xx_r u), (xx_widthOf u), (xx_parent u), (xx_inPlan u), (xx_given u), (xx_store u), (xx_storeRows u), (xx_heads u), (xx_chain u), (xx_op u), (xx_opA u), (xx_opB u), (xx_opC u), (xx_opD u), (xx_opE u), (xx_map u), (upd (xx_picked u) 0 (nI (mp.getD (fp_p π c).toNatClampNeg 0))), (xx_register u), (xx_loopAt u), (xx_loopCode u), (xx_result u), (xx_order u))) (w := 1) (pk := [fx_mg mp (fp_p π c)]) post hc hr0 rfl (by decide) (fun j hj => ?_) hS hm6 hr h
    have : j = 0 := by omega
    subst this
    rfl
  · have hq' := (hq e).2
    rw [(hq e).1, fi_cl (by omega : (fp_q π c).toNatClampNeg < 4096), hS.2.2.2 _ hq']
    refine ⟨vp_in_nI (by omega) (by decide), ?_⟩
    intro pk2 epk2 x2 ex2
    subst epk epk2 ex2
    unfold fx_pm at h
    rw [if_neg e] at h
    refine fx_rn48 (u := ((xx_nodes u), (xx_root u), (xx_codeLength u), (xx_mapWidth u), (xx_registersUsed u), (xx_depth u), (xx_overflow u), (xx_resultWidth u), (xx_resultRows u), (xx_tableCells u), (xx_tableRows u), (xx_kindOf u), (xx_first u), (xx_second u), (xx_p u), (xx_q u), (xx_r u), (xx_widthOf u), (xx_parent u), (xx_inPlan u), (xx_given u), (xx_store u), (xx_storeRows u), (xx_heads u), (xx_chain u), (xx_op u), (xx_opA u), (xx_opB u), (xx_opC u), (xx_opD u), (xx_opE u), (xx_map u), (upd (upd (xx_picked u) 0 (nI (mp.getD (fp_p π c).toNatClampNeg 0))) 1 (nI (mp.getD (fp_q π c).toNatClampNeg 0))), (xx_register u), (xx_loopAt u), (xx_loopCode u), (xx_result u), (xx_order u))) (w := 2) (pk := [fx_mg mp (fp_p π c), fx_mg mp (fp_q π c)]) post hc hr0 rfl (by decide) (fun j hj => ?_) hS hm6 hr h
    match j, hj with
    | 0, _ => rfl
    | 1, _ => rfl
end
section
/-! ## X: compiling a node, a sink, a pipeline -/
theorem fx_nd {π : fp_Pl} {m n : Nat} {u : SX} (W : fp_WF π m) (hπ : fx_pl u = π) (hn : n < m) : n < 12 ∧ xx_kindOf u n = nI (fp_kd π n) ∧ fp_kd π n ≤ 9 ∧ xx_widthOf u n = nI (fp_wd π n) ∧ 1 ≤ fp_wd π n ∧ fp_wd π n ≤ 6 ∧ xx_p u n = fp_p π n ∧ xx_q u n = fp_q π n ∧ xx_r u n = fp_r π n ∧ xx_parent u n = fp_pa π n ∧ fp_prm π n := by
  subst hπ
  have := W.1
  obtain ⟨n1, n2, n3, n4, n5, _, _, _, _, _, n6⟩ := W.2 n hn
  exact ⟨by omega, n1, n2, n3, n4, n5, rfl, rfl, rfl, rfl, n6⟩
theorem fx_ndL {π : fp_Pl} {m n : Nat} {u : SX} (W : fp_WF π m) (hπ : fx_pl u = π) (hn : n < m) (h0 : fp_kd π n ≠ 0) : xx_first u n = nI (fp_fa π n) ∧ fp_fa π n < n := by
  subst hπ
  obtain ⟨_, _, _, _, _, _, n1, _⟩ := W.2 n hn
  exact ⟨(n1 h0).1, (n1 h0).2.1⟩
theorem fx_ndR {π : fp_Pl} {m n : Nat} {u : SX} (W : fp_WF π m) (hπ : fx_pl u = π) (hn : n < m) (h2 : fp_two π n) : xx_second u n = nI (fp_sb π n) ∧ fp_sb π n < n := by
  subst hπ
  obtain ⟨_, _, _, _, _, _, _, _, n1, _⟩ := W.2 n hn
  exact ⟨(n1 h2).1, (n1 h2).2.1⟩
theorem fx_par {π : fp_Pl} {m root n : Nat} {u : SX} (C : fp_cx π m root) (hπ : fx_pl u = π) (hn : n ≤ root) (hp : fp_pl π root n = true) (hr : n ≠ root) : xx_parent u n = nI (fp_par π n) ∧ n < fp_par π n ∧ fp_par π n < m := by
  have hm := C.2
  obtain ⟨a1, _⟩ := fp_pl_up C.1 (by omega : n < m) hp hr
  obtain ⟨b1, b2, b3, _⟩ := fp_chup C.1 (by omega : n < m) a1
  obtain ⟨_, _, _, _, _, _, _, _, _, p, _⟩ := fx_nd C.1 hπ (by omega : n < m)
  exact ⟨p.trans b3, b1, b2⟩
/-- what compiling the node above n has done -/
def fx_CN (π : fp_Pl) (root n L : Nat) (mp : List Nat) (R : Nat) (u u' : SX) (L' : Nat) (mp' : List Nat) (R' : Nat) : Prop :=
  fx_c u' = fx_c u ∧ fx_CS u' L' mp' R' ∧ L ≤ L' ∧ L' ≤ L + 2 ∧ fx_pre L u u' ∧ R' ≤ R + 6 ∧ mp'.length = fp_wd π (fp_par π n) ∧ (∀ j, j < mp'.length → mp'.getD j 0 < R') ∧
  ∀ uF k, fx_pre L' u' uF → fx_CD uF π root k (fp_par π n) L' mp' R' → fx_CD uF π root (k + 1) n L mp R
theorem fx_cNode {π : fp_Pl} {m root : Nat} (C : fp_cx π m root) {u : SX} (hπ : fx_pl u = π) {n L R : Nat} {mp : List Nat} (post : SX → Prop) (hn : n ≤ root) (hpl : fp_pl π root n = true) (htp : ¬ fp_tp π root n = true) (hS : fx_CS u L mp R) (hL : L ≤ 2 * n + 1) (hR6 : R ≤ 6 * (n + 1)) (hmp : mp.length = fp_wd π n) (hmR : ∀ j, j < mp.length → mp.getD j 0 < R)
    (h : ∀ u' L' mp' R', fx_CN π root n L mp R u u' L' mp' R' → post u') : wpX_compileNode post u (nI (fp_par π n)) := by
  have hm := C.1.1
  have hr := C.2
  obtain ⟨s1, s2, s3, s4, s5, s6, s7'⟩ := fp_stepU C hn hpl htp
  have s7 : fx_id _ := s7'
  clear s7'
  have hcm : fp_par π n < m := by omega
  obtain ⟨k1, k2, k3, k4, k5, k6, p1, p2, p3, p4, hprm⟩ := fx_nd C.1 hπ hcm
  obtain ⟨_, _, _, _, wn1, wn6, _⟩ := fx_nd C.1 hπ (by omega : n < m)
  have hv := vp_in_nI (n := fp_par π n) k1 (by decide)
  have hfa : fx_id (fp_kd π (fp_par π n) ≠ 9 → fp_fa π (fp_par π n) = n) := fun h9 => Or.resolve_right s7 (fun z => h9 z.1)
  have kne : ∀ c, c < 10 → fp_kd π (fp_par π n) ≠ c → ¬ nI (fp_kd π (fp_par π n)) = nI c := fun c hc hne e => hne ((nI_eq (by omega) (by omega)).mp e)
  show wpX_compileNode post ((xx_nodes u), (xx_root u), (xx_codeLength u), (xx_mapWidth u), (xx_registersUsed u), (xx_depth u), (xx_overflow u), (xx_resultWidth u), (xx_resultRows u), (xx_tableCells u), (xx_tableRows u), (xx_kindOf u), (xx_first u), (xx_second u), (xx_p u), (xx_q u), (xx_r u), (xx_widthOf u), (xx_parent u), (xx_inPlan u), (xx_given u), (xx_store u), (xx_storeRows u), (xx_heads u), (xx_chain u), (xx_op u), (xx_opA u), (xx_opB u), (xx_opC u), (xx_opD u), (xx_opE u), (xx_map u), (xx_picked u), (xx_register u), (xx_loopAt u), (xx_loopCode u), (xx_result u), (xx_order u)) (nI (fp_par π n))
  refine And.intro hv ?_
  rw [fi_cl (by omega : fp_par π n < 4096), k2, p1, p2, p3]
  intro x2 e2
  subst e2
  by_cases h1 : fp_kd π (fp_par π n) = 1
  · obtain ⟨c1, c2⟩ := hprm.2.1 h1
    rw [hfa (by omega)] at c1 c2
    have c1' := c1.2
    refine br_t (by rw [h1]; rfl) ?_
    have e1 : xx_map u (fp_p π (fp_par π n)).toNatClampNeg = nI (fx_mg mp (fp_p π (fp_par π n))) := hS.2.2.2 _ (by omega)
    rw [e1]
    refine ⟨hv, by rw [c1.1]; exact vp_in_nI (by omega) (by decide), hv, hv, ?_⟩
    refine fx_put (u := u) post (by omega) hS _ _ _ _ _ _ fun u' f1 f2 f3 f4 => h u' (L + 1) mp R ⟨f1, f2, by omega, by omega, f4, by omega, by omega, hmR, fun uF k g1 g2 => ⟨fun z => absurd z htp, fun _ => ⟨fun _ => ⟨fx_ins_pre (by omega) g1 f3, g2⟩, fun z => ?_, fun z => ?_, fun z => ?_, fun z => ?_, fun z => ?_⟩⟩⟩ <;> omega
  refine br_f (kne 1 (by decide) h1) ?_
  by_cases h2 : fp_kd π (fp_par π n) = 2
  · obtain ⟨c0, c1, c2, c3⟩ := hprm.2.2.1 h2
    rw [hfa (by omega)] at c1 c2 c3
    have c1' := c1.2
    have c2' := c2.2
    refine br_t (by rw [h2]; rfl) ?_
    have e1 : xx_map u (fp_q π (fp_par π n)).toNatClampNeg = nI (fx_mg mp (fp_q π (fp_par π n))) := hS.2.2.2 _ (by omega)
    have e3 : xx_map u (fp_r π (fp_par π n)).toNatClampNeg = nI (fx_mg mp (fp_r π (fp_par π n))) := hS.2.2.2 _ (by omega)
    rw [e1, e3, hS.2.2.1]
    refine ⟨hv, hv, by rw [c1.1]; exact vp_in_nI (by omega) (by decide), hv, by rw [c2.1]; exact vp_in_nI (by omega) (by decide), ?_⟩
    rw [← hS.2.2.1]
    refine fx_put (u := u) _ (by omega) hS _ _ _ _ _ _ fun u' f1 f2 f3 f4 => ?_
    rw [hS.2.2.1] at f3
    refine fx_addColumns (u := u') (n := 1) _ (by omega) (by omega) f2 fun u2 g1 g2 g3 => ?_
    refine h u2 (L + 1) (mp ++ [R]) (R + 1) ⟨g1.trans f1, g2, by omega, by omega, fx_pre_trans (Nat.le_refl _) f4 (g3 L), by omega, by rw [List.length_append, hmp, c3]; rfl, fun j hj => ?_, fun uF k z1 z2 => ⟨fun z => absurd z htp, fun _ => ⟨fun z => ?_, fun _ => ⟨fx_ins_pre (by omega) z1 (fx_ins_pre (L := L + 1) (by omega) (g3 _) f3), z2⟩, fun z => ?_, fun z => ?_, fun z => ?_, fun z => ?_⟩⟩⟩
    · rw [List.length_append] at hj
      by_cases hj1 : j < mp.length
      · rw [fp_gd_app _ _ _ hj1]; have := hmR j hj1; omega
      · have e1 : j = mp.length := by
          have : [R].length = 1 := rfl
          omega
        rw [e1, fp_gd_last]; omega
    all_goals omega
  refine br_f (kne 2 (by decide) h2) ?_
  by_cases h3 : fp_kd π (fp_par π n) = 3
  · obtain ⟨c1, c2, c3, c4⟩ := hprm.2.2.2.1 h3
    rw [hfa (by omega), ← hmp] at c1 c2 c3
    refine br_t (by rw [h3]; rfl) ?_
    refine fx_renameColumns (u := u) (π := π) post k1 p1 p2 p3 hS (by omega) c1 c2 c3 fun u' f1 f2 f3 => ?_
    refine h u' L (fx_pm π (fp_par π n) mp) R ⟨f1, f2, by omega, by omega, f3 L, by omega, by rw [fx_pmlen, c4], fx_pmR hmR c1.2 (fun z => (c2 z).2) (fun z => (c3 z).2), fun uF k z1 z2 => ⟨fun z => absurd z htp, fun _ => ⟨fun z => ?_, fun z => ?_, fun _ => z2, fun z => ?_, fun z => ?_, fun z => ?_⟩⟩⟩ <;> omega
  refine br_f (kne 3 (by decide) h3) ?_
  by_cases h4 : fp_kd π (fp_par π n) = 4
  · obtain ⟨c1, c2, c3⟩ := hprm.2.2.2.2.1 h4
    rw [hfa (by omega)] at c1 c3
    have c1' := c1.2
    obtain ⟨r1, r2⟩ := fx_ndR C.1 hπ hcm (Or.inl h4)
    obtain ⟨b1, _, _, b4, b5, b6, _⟩ := fx_nd C.1 hπ (by omega : fp_sb π (fp_par π n) < m)
    have hvb := vp_in_nI (n := fp_sb π (fp_par π n)) b1 (by decide)
    refine br_t (by rw [h4]; rfl) ⟨hv, ?_⟩
    rw [r1]
    intro x3 e3
    subst e3
    have e1 : xx_map u (fp_p π (fp_par π n)).toNatClampNeg = nI (fx_mg mp (fp_p π (fp_par π n))) := hS.2.2.2 _ (by omega)
    rw [e1, fi_cl (by omega : fp_sb π (fp_par π n) < 4096), b4]
    refine ⟨hv, by rw [c1.1]; exact vp_in_nI (by omega) (by decide), hv, hvb, ?_⟩
    refine fx_put (u := u) _ (by omega) hS _ _ _ _ _ _ fun u' f1 f2 f3 f4 => ?_
    rw [hS.2.2.1] at f3
    have hπ' : fx_pl u' = π := (fx_pl_c f1).trans hπ
    obtain ⟨_, _, _, b4', _⟩ := fx_nd C.1 hπ' (by omega : fp_sb π (fp_par π n) < m)
    refine And.intro hvb ?_
    show wpX_addColumns _ u' (xx_widthOf u' (fp_sb π (fp_par π n)))
    rw [b4']
    refine fx_addColumns (u := u') (n := fp_wd π (fp_sb π (fp_par π n))) _ (by omega) (by omega) f2 fun u2 g1 g2 g3 => ?_
    refine fx_put (u := u2) _ (by omega) g2 _ _ _ _ _ _ fun u3 i1 i2 i3 i4 => ?_
    refine h u3 (L + 1 + 1) _ _ ⟨i1.trans (g1.trans f1), i2, by omega, by omega, fx_pre_trans (L' := L + 1) (by omega) (fx_pre_trans (Nat.le_refl _) f4 (g3 L)) i4, by omega, by rw [List.length_append, List.length_range', hmp, c3], fun j hj => ?_, fun uF k z1 z2 => ⟨fun z => absurd z htp, fun _ => ⟨fun z => ?_, fun z => ?_, fun z => ?_, fun _ => ⟨fx_ins_pre (by omega) z1 (fx_ins_pre (L := L + 1) (by omega) i4 (fx_ins_pre (L := L + 1) (by omega) (g3 _) f3)), fx_ins_pre (by omega) z1 i3, z2⟩, fun z => ?_, fun z => ?_⟩⟩⟩
    · rw [List.length_append, List.length_range'] at hj
      by_cases hj1 : j < mp.length
      · rw [fp_gd_app _ _ _ hj1]; have := hmR j hj1; omega
      · have e1 : j = mp.length + (j - mp.length) := by omega
        rw [e1, fp_gd_app2, fp_gd _ _ (by rw [List.length_range']; omega), List.getElem_range']; omega
    all_goals omega
  refine br_f (kne 4 (by decide) h4) ?_
  by_cases h9 : fp_kd π (fp_par π n) = 9
  · obtain ⟨w1, w2⟩ := hprm.2.2.2.2.2.2.2.2 h9
    have hwn : fp_wd π (fp_par π n) = fp_wd π n := by
      rcases (id s7 : fp_fa π (fp_par π n) = n ∨ (fp_kd π (fp_par π n) = 9 ∧ fp_sb π (fp_par π n) = n)) with e | ⟨_, e⟩
      · rw [w1, e]
      · rw [w2, e]
    refine br_t (by rw [h9]; rfl) ?_
    refine fx_put (u := u) post (by omega) hS _ _ _ _ _ _ fun u' f1 f2 f3 f4 => h u' (L + 1) mp R ⟨f1, f2, by omega, by omega, f4, by omega, by omega, hmR, fun uF k g1 g2 => ⟨fun z => absurd z htp, fun _ => ⟨fun z => ?_, fun z => ?_, fun z => ?_, fun z => ?_, fun _ => ⟨fx_ins_pre (by omega) g1 f3, g2⟩, fun z => ?_⟩⟩⟩ <;> omega
  refine br_f (kne 9 (by decide) h9) ?_
  have h56 : fp_kd π (fp_par π n) = 5 ∨ fp_kd π (fp_par π n) = 6 := by omega
  obtain ⟨c1, c2, c3⟩ := hprm.2.2.2.2.2.1 h56
  rw [hfa h9] at c1 c3
  have c1' := c1.2
  obtain ⟨r1, r2⟩ := fx_ndR C.1 hπ hcm (by unfold fp_two; omega)
  have e1 : xx_map u (fp_p π (fp_par π n)).toNatClampNeg = nI (fx_mg mp (fp_p π (fp_par π n))) := hS.2.2.2 _ (by omega)
  rw [r1, e1]
  refine ⟨hv, hv, by rw [c1.1]; exact vp_in_nI (by omega) (by decide), hv, ?_⟩
  by_cases h5 : fp_kd π (fp_par π n) = 5
  · refine br_t (by rw [h5]; rfl) ?_
    refine fx_put (u := u) post (by omega) hS _ _ _ _ _ _ fun u' f1 f2 f3 f4 => h u' (L + 1) mp R ⟨f1, f2, by omega, by omega, f4, by omega, by omega, hmR, fun uF k g1 g2 => ⟨fun z => absurd z htp, fun _ => ⟨fun z => ?_, fun z => ?_, fun z => ?_, fun z => ?_, fun z => ?_, fun _ => ⟨by rw [if_pos h5]; exact fx_ins_pre (by omega) g1 f3, g2⟩⟩⟩⟩ <;> omega
  · refine br_f (kne 5 (by decide) h5) ?_
    refine fx_put (u := u) post (by omega) hS _ _ _ _ _ _ fun u' f1 f2 f3 f4 => h u' (L + 1) mp R ⟨f1, f2, by omega, by omega, f4, by omega, by omega, hmR, fun uF k g1 g2 => ⟨fun z => absurd z htp, fun _ => ⟨fun z => ?_, fun z => ?_, fun z => ?_, fun z => ?_, fun z => ?_, fun _ => ⟨by rw [if_neg h5]; exact fx_ins_pre (by omega) g1 f3, g2⟩⟩⟩⟩ <;> omega
end
section
/-! ## X: the sink's code, the whole of a pipeline's code -/
theorem fx_cSink {π : fp_Pl} {m root : Nat} (C : fp_cx π m root) {u : SX} (hπ : fx_pl u = π) (hroot : xx_root u = nI root) {n L R : Nat} {mp : List Nat} (post : SX → Prop) (hn : n ≤ root) (hpl : fp_pl π root n = true) (htp : fp_tp π root n = true) (hS : fx_CS u L mp R) (hL : L ≤ 2 * n + 1) (hR6 : R ≤ 6 * (n + 1)) (hmp : mp.length = fp_wd π n) (hmR : ∀ j, j < mp.length → mp.getD j 0 < R)
    (h : ∀ u', fx_c u' = fx_c u → fx_pre L u u' → fx_sc u' π root n L mp → post u') : wpX_compileSink post u (nI n) := by
  have hm := C.1.1
  have hr := C.2
  obtain ⟨n1, _, _, _, wn1, wn6, _⟩ := fx_nd C.1 hπ (by omega : n < m)
  have hMP : ∀ u' L', fx_CS u' L' mp R → fx_MP u' mp := fun u' L' hS' => ⟨hS'.2.1, by omega, fun k hk => ⟨hS'.2.2.2 k hk, by have := hmR k hk; omega⟩⟩
  show wpX_compileSink post ((xx_nodes u), (xx_root u), (xx_codeLength u), (xx_mapWidth u), (xx_registersUsed u), (xx_depth u), (xx_overflow u), (xx_resultWidth u), (xx_resultRows u), (xx_tableCells u), (xx_tableRows u), (xx_kindOf u), (xx_first u), (xx_second u), (xx_p u), (xx_q u), (xx_r u), (xx_widthOf u), (xx_parent u), (xx_inPlan u), (xx_given u), (xx_store u), (xx_storeRows u), (xx_heads u), (xx_chain u), (xx_op u), (xx_opA u), (xx_opB u), (xx_opC u), (xx_opD u), (xx_opE u), (xx_map u), (xx_picked u), (xx_register u), (xx_loopAt u), (xx_loopCode u), (xx_result u), (xx_order u)) (nI n)
  by_cases e : n = root
  · refine br_t (by rw [hroot, e]) ?_
    refine fx_put (u := u) post (by omega) hS _ _ _ _ _ _ fun u' f1 f2 f3 f4 => h u' f1 f4 ⟨hMP u' _ f2, fun _ => f3, fun z => absurd e z, fun z => absurd e z, fun z => absurd e z⟩
  · obtain ⟨q1, q2, q3⟩ := fx_par C hπ hn hpl e
    obtain ⟨k1, k2, k3, k4, k5, k6, p1, p2, p3, p4, hprm⟩ := fx_nd C.1 hπ q3
    have hvn := vp_in_nI (n := n) n1 (by decide)
    have hv := vp_in_nI (n := fp_par π n) k1 (by decide)
    have kne : ∀ c, c < 10 → fp_kd π (fp_par π n) ≠ c → ¬ nI (fp_kd π (fp_par π n)) = nI c := fun c hc hne e => hne ((nI_eq (by omega) (by omega)).mp e)
    refine br_f (by rw [hroot]; exact fun z => e ((nI_eq (by omega) (by omega)).mp z)) (And.intro hvn ?_)
    rw [fi_cl (by omega : n < 4096), q1]
    intro x2 e2
    subst e2
    rw [fi_cl (by omega : fp_par π n < 4096), k2, p1, p2, p3]
    refine And.intro hv ?_
    by_cases h7 : fp_kd π (fp_par π n) = 7
    · obtain ⟨c1, c2, c3, c4⟩ := hprm.2.2.2.2.2.2.1 h7
      have hfa : fp_fa π (fp_par π n) = n := by
        obtain ⟨a1, _⟩ := fp_pl_up C.1 (by omega : n < m) hpl e
        obtain ⟨_, _, _, b4⟩ := fp_chup C.1 (by omega : n < m) a1
        rcases b4 with ⟨_, z⟩ | ⟨z, _⟩
        · exact z
        · unfold fp_two at z; omega
      rw [hfa] at c1 c3
      have c1' := c1.2
      have c3' := c3.2
      refine br_t (by rw [h7]; rfl) ?_
      have e1 : xx_map u (fp_p π (fp_par π n)).toNatClampNeg = nI (fx_mg mp (fp_p π (fp_par π n))) := hS.2.2.2 _ (by omega)
      have e3 : xx_map u (fp_r π (fp_par π n)).toNatClampNeg = nI (fx_mg mp (fp_r π (fp_par π n))) := hS.2.2.2 _ (by omega)
      rw [e1, e3]
      refine ⟨hv, by rw [c1.1]; exact vp_in_nI (by omega) (by decide), hv, hv, by rw [c3.1]; exact vp_in_nI (by omega) (by decide), ?_⟩
      exact fx_put (u := u) post (by omega) hS _ _ _ _ _ _ fun u' f1 f2 f3 f4 => h u' f1 f4 ⟨hMP u' _ f2, fun z => absurd z e, fun _ _ => f3, fun _ z => by omega, fun _ z => absurd h7 z⟩
    · refine br_f (kne 7 (by decide) h7) (And.intro hv ?_)
      by_cases h8 : fp_kd π (fp_par π n) = 8
      · refine br_t (by rw [h8]; rfl) ?_
        exact fx_put (u := u) post (by omega) hS _ _ _ _ _ _ fun u' f1 f2 f3 f4 => h u' f1 f4 ⟨hMP u' _ f2, fun z => absurd z e, fun _ z => absurd z h7, fun _ _ => f3, fun _ _ z => absurd h8 z⟩
      · refine br_f (kne 8 (by decide) h8) (And.intro hv ?_)
        exact fx_put (u := u) post (by omega) hS _ _ _ _ _ _ fun u' f1 f2 f3 f4 => h u' f1 f4 ⟨hMP u' _ f2, fun z => absurd z e, fun _ z => absurd z h7, fun _ z => absurd z h8, fun _ _ _ => f3⟩
theorem fx_c77 {π : fp_Pl} {m root : Nat} (C : fp_cx π m root) {t : Nat} (post : SX → Prop) : ∀ k n u L mp R x4 nf, n ≤ root → root ≤ n + k → fp_pl π root n = true → fp_to π root n = t → fx_pl u = π → xx_root u = nI root → fx_CS u L mp R → L ≤ 2 * n + 1 → R ≤ 6 * (n + 1) → mp.length = fp_wd π n → (∀ j, j < mp.length → mp.getD j 0 < R) → x4 ≤ n → k < nf →
    (∀ u', fx_c u' = fx_c u → fx_pre L u u' → fx_CD u' π root k n L mp R → post u') → wX_compile_77 post (nI t) nf (nI n) (nI x4) (xx_nodes u) (xx_root u) (xx_codeLength u) (xx_mapWidth u) (xx_registersUsed u) (xx_depth u) (xx_overflow u) (xx_resultWidth u) (xx_resultRows u) (xx_tableCells u) (xx_tableRows u) (xx_kindOf u) (xx_first u) (xx_second u) (xx_p u) (xx_q u) (xx_r u) (xx_widthOf u) (xx_parent u) (xx_inPlan u) (xx_given u) (xx_store u) (xx_storeRows u) (xx_heads u) (xx_chain u) (xx_op u) (xx_opA u) (xx_opB u) (xx_opC u) (xx_opD u) (xx_opE u) (xx_map u) (xx_picked u) (xx_register u) (xx_loopAt u) (xx_loopCode u) (xx_result u) (xx_order u) := by
  have hm := C.1.1
  have hr := C.2
  intro k
  induction k with
  | zero =>
    intro n u L mp R x4 nf hn hk hpl hto hπ hroot hS hL hR6 hmp hmR hx4 hnf h
    have e : n = root := by omega
    have htp : fp_tp π root n = true := by rw [e]; exact fp_tproot π root
    have et : t = n := hto.symm.trans (fp_to_tp htp)
    subst et
    obtain ⟨nf, rfl⟩ : ∃ z, nf = z + 1 := ⟨nf - 1, by omega⟩
    refine br_f (nI_ge (b := 12) (by omega) (by decide)) (br_t rfl ?_)
    exact fx_cSink C hπ hroot post hn hpl htp hS hL hR6 hmp hmR h
  | succ k ih =>
    intro n u L mp R x4 nf hn hk hpl hto hπ hroot hS hL hR6 hmp hmR hx4 hnf h
    obtain ⟨nf, rfl⟩ : ∃ z, nf = z + 1 := ⟨nf - 1, by omega⟩
    refine br_f (nI_ge (b := 12) (by omega) (by decide)) ?_
    by_cases htp : fp_tp π root n = true
    · have et : t = n := hto.symm.trans (fp_to_tp htp)
      subst et
      refine br_t rfl ?_
      exact fx_cSink C hπ hroot post hn hpl htp hS hL hR6 hmp hmR fun u' f1 f2 f3 => h u' f1 f2 ⟨fun _ => f3, fun z => absurd htp z⟩
    · have hnt : n ≠ t := by
        intro z
        have := (fp_to_all C hn hpl).1
        rw [hto, ← z] at this
        exact htp this
      have hnr : n ≠ root := fun z => htp (by rw [z]; exact fp_tproot π root)
      obtain ⟨s1, s2, s3, _⟩ := fp_stepU C hn hpl htp
      have hle := (fp_to_all C hn hpl).2.2.1
      obtain ⟨q1, q2, q3⟩ := fx_par C hπ hn hpl hnr
      refine br_f (fun z => hnt ((nI_eq (by omega) (by omega)).mp z)) (And.intro (vp_in_nI (by omega) (by decide)) ?_)
      rw [fi_cl (by omega : n < 4096), q1]
      intro x3 e3
      subst e3
      refine fx_cNode C hπ _ hn hpl htp hS hL hR6 hmp hmR fun u' L' mp' R' hC => ?_
      obtain ⟨c1, c2, c3, c4, c5, c6, c7, c8, c9⟩ := hC
      intro y ey
      rw [nI_1] at ey
      subst ey
      refine ih (fp_par π n) u' L' mp' R' (x4 + 1) nf s2 (by omega) s3 ((fp_to_up C hn hpl htp).symm.trans hto) ((fx_pl_c c1).trans hπ) ((fx_c_root c1).trans hroot) c2 (by omega) (by omega) c7 c8 (by omega) (by omega) fun uF g1 g2 g3 => ?_
      exact h uF (g1.trans c1) (fx_pre_trans c3 c5 g2) (c9 uF k g2 g3)
theorem fx_compile {π : fp_Pl} {m root : Nat} (C : fp_cx π m root) {u : SX} (hπ : fx_pl u = π) (hroot : xx_root u = nI root) {n t : Nat} (post : SX → Prop) (hn : n ≤ root) (hpl : fp_pl π root n = true) (hso : fp_so π n = true) (hto : fp_to π root n = t)
    (h : ∀ u', fx_c u' = fx_c u → fx_so u' π n → fx_CD u' π root 12 n 1 (List.range' 0 (fp_wd π n)) (fp_wd π n) → post u') : wpX_compile post u (nI n) (nI t) := by
  have hm := C.1.1
  have hr := C.2
  have hnm : n < m := by omega
  obtain ⟨k1, k2, k3, k4, k5, k6, p1, p2, p3, p4, hprm⟩ := fx_nd C.1 hπ hnm
  have hv := vp_in_nI (n := n) k1 (by decide)
  have hS0 : fx_CS ((xx_nodes u), (xx_root u), 0, 0, 0, (xx_depth u), (xx_overflow u), (xx_resultWidth u), (xx_resultRows u), (xx_tableCells u), (xx_tableRows u), (xx_kindOf u), (xx_first u), (xx_second u), (xx_p u), (xx_q u), (xx_r u), (xx_widthOf u), (xx_parent u), (xx_inPlan u), (xx_given u), (xx_store u), (xx_storeRows u), (xx_heads u), (xx_chain u), (xx_op u), (xx_opA u), (xx_opB u), (xx_opC u), (xx_opD u), (xx_opE u), (xx_map u), (xx_picked u), (xx_register u), (xx_loopAt u), (xx_loopCode u), (xx_result u), (xx_order u)) 0 [] 0 := ⟨rfl, rfl, rfl, fun k hk => absurd hk (by simp)⟩
  have rest : ∀ u', fx_c u' = fx_c u → fx_CS u' 1 [] 0 → fx_so u' π n → wX_compile_62 post (nI n) (nI t) (xx_nodes u') (xx_root u') (xx_codeLength u') (xx_mapWidth u') (xx_registersUsed u') (xx_depth u') (xx_overflow u') (xx_resultWidth u') (xx_resultRows u') (xx_tableCells u') (xx_tableRows u') (xx_kindOf u') (xx_first u') (xx_second u') (xx_p u') (xx_q u') (xx_r u') (xx_widthOf u') (xx_parent u') (xx_inPlan u') (xx_given u') (xx_store u') (xx_storeRows u') (xx_heads u') (xx_chain u') (xx_op u') (xx_opA u') (xx_opB u') (xx_opC u') (xx_opD u') (xx_opE u') (xx_map u') (xx_picked u') (xx_register u') (xx_loopAt u') (xx_loopCode u') (xx_result u') (xx_order u') := by
    intro u' f1 f2 f3
    have hπ' := (fx_pl_c f1).trans hπ
    obtain ⟨_, _, _, k4', _⟩ := fx_nd C.1 hπ' hnm
    refine And.intro hv ?_
    rw [fi_cl (by omega : n < 4096), k4']
    refine fx_addColumns (u := u') (n := fp_wd π n) _ (by rw [List.length_nil]; omega) (by omega) f2 fun u2 g1 g2 g3 => ?_
    rw [List.nil_append, Nat.zero_add] at g2
    refine ⟨13, ?_⟩
    refine fx_c77 C post 12 n u2 1 (List.range' 0 (fp_wd π n)) (fp_wd π n) 0 13 hn (by omega) hpl hto ((fx_pl_c g1).trans hπ') ((fx_c_root g1).trans ((fx_c_root f1).trans hroot)) g2 (by omega) (by omega) (by rw [List.length_range']) ?_ (by omega) (by omega) fun u3 i1 i2 i3 => ?_
    · intro j hj
      rw [List.length_range'] at hj
      rw [fp_gd _ _ (by rw [List.length_range']; exact hj), List.getElem_range']; omega
    · refine h u3 (i1.trans (g1.trans f1)) ⟨fun z => ?_, fun z => ?_⟩ i3
      · exact fx_ins_pre (by decide) i2 (fx_ins_pre (L := 1) (by decide) (g3 _) (f3.1 z))
      · exact fx_ins_pre (by decide) i2 (fx_ins_pre (L := 1) (by decide) (g3 _) (f3.2 z))
  show wpX_compile post ((xx_nodes u), (xx_root u), (xx_codeLength u), (xx_mapWidth u), (xx_registersUsed u), (xx_depth u), (xx_overflow u), (xx_resultWidth u), (xx_resultRows u), (xx_tableCells u), (xx_tableRows u), (xx_kindOf u), (xx_first u), (xx_second u), (xx_p u), (xx_q u), (xx_r u), (xx_widthOf u), (xx_parent u), (xx_inPlan u), (xx_given u), (xx_store u), (xx_storeRows u), (xx_heads u), (xx_chain u), (xx_op u), (xx_opA u), (xx_opB u), (xx_opC u), (xx_opD u), (xx_opE u), (xx_map u), (xx_picked u), (xx_register u), (xx_loopAt u), (xx_loopCode u), (xx_result u), (xx_order u)) (nI n) (nI t)
  refine And.intro hv ?_
  rw [fi_cl (by omega : n < 4096), k2, p1, k4]
  by_cases h0 : fp_kd π n = 0
  · refine br_t (by rw [h0]; rfl) (And.intro hv ?_)
    refine fx_put (u := ((xx_nodes u), (xx_root u), 0, 0, 0, (xx_depth u), (xx_overflow u), (xx_resultWidth u), (xx_resultRows u), (xx_tableCells u), (xx_tableRows u), (xx_kindOf u), (xx_first u), (xx_second u), (xx_p u), (xx_q u), (xx_r u), (xx_widthOf u), (xx_parent u), (xx_inPlan u), (xx_given u), (xx_store u), (xx_storeRows u), (xx_heads u), (xx_chain u), (xx_op u), (xx_opA u), (xx_opB u), (xx_opC u), (xx_opD u), (xx_opE u), (xx_map u), (xx_picked u), (xx_register u), (xx_loopAt u), (xx_loopCode u), (xx_result u), (xx_order u))) _ (by decide) hS0 _ _ _ _ _ _ fun u' f1 f2 f3 f4 => ?_
    exact rest u' f1 f2 ⟨fun _ => f3, fun z => absurd h0 z⟩
  · obtain ⟨l1, l2⟩ := fx_ndL C.1 hπ hnm h0
    refine br_f (fun z => h0 ((nI_eq (a := fp_kd π n) (b := 0) (by omega) (by decide)).mp z)) (And.intro hv (And.intro hv ?_))
    rw [l1]
    refine fx_put (u := ((xx_nodes u), (xx_root u), 0, 0, 0, (xx_depth u), (xx_overflow u), (xx_resultWidth u), (xx_resultRows u), (xx_tableCells u), (xx_tableRows u), (xx_kindOf u), (xx_first u), (xx_second u), (xx_p u), (xx_q u), (xx_r u), (xx_widthOf u), (xx_parent u), (xx_inPlan u), (xx_given u), (xx_store u), (xx_storeRows u), (xx_heads u), (xx_chain u), (xx_op u), (xx_opA u), (xx_opB u), (xx_opC u), (xx_opD u), (xx_opE u), (xx_map u), (xx_picked u), (xx_register u), (xx_loopAt u), (xx_loopCode u), (xx_result u), (xx_order u))) _ (by decide) hS0 _ _ _ _ _ _ fun u' f1 f2 f3 f4 => ?_
    exact rest u' f1 f2 ⟨fun z => absurd z h0, fun _ => f3⟩
/-! ## X: tops -/
theorem fx_isTop {π : fp_Pl} {m root : Nat} (C : fp_cx π m root) {u : SX} (hπ : fx_pl u = π) (hroot : xx_root u = nI root) {n : Nat} (post : Int32 → Prop) (hn : n ≤ root) (hpl : fp_pl π root n = true) (h : post (if fp_tp π root n then 1 else 0)) : wpX_isTop post u (nI n) := by
  have hm := C.1.1
  have hr := C.2
  have ht := fp_tp_iff π root n
  show wpX_isTop post ((xx_nodes u), (xx_root u), (xx_codeLength u), (xx_mapWidth u), (xx_registersUsed u), (xx_depth u), (xx_overflow u), (xx_resultWidth u), (xx_resultRows u), (xx_tableCells u), (xx_tableRows u), (xx_kindOf u), (xx_first u), (xx_second u), (xx_p u), (xx_q u), (xx_r u), (xx_widthOf u), (xx_parent u), (xx_inPlan u), (xx_given u), (xx_store u), (xx_storeRows u), (xx_heads u), (xx_chain u), (xx_op u), (xx_opA u), (xx_opB u), (xx_opC u), (xx_opD u), (xx_opE u), (xx_map u), (xx_picked u), (xx_register u), (xx_loopAt u), (xx_loopCode u), (xx_result u), (xx_order u)) (nI n)
  by_cases e : n = root
  · rw [if_pos (ht.mpr (Or.inl e))] at h
    exact br_t (by rw [hroot, e]) h
  · obtain ⟨q1, q2, q3⟩ := fx_par C hπ hn hpl e
    obtain ⟨k1, k2, k3, _⟩ := fx_nd C.1 hπ q3
    have hv := vp_in_nI (n := fp_par π n) k1 (by decide)
    refine br_f (by rw [hroot]; exact fun z => e ((nI_eq (by omega) (by omega)).mp z)) (And.intro (vp_in_nI (by omega) (by decide)) ?_)
    rw [fi_cl (by omega : n < 4096), q1]
    intro x2 e2
    subst e2
    rw [fi_cl (by omega : fp_par π n < 4096), k2]
    refine And.intro hv ?_
    intro x3 e3
    subst e3
    refine pk_eq (fp_kd π (fp_par π n)) 7 (fun h7 => ?_) (fun h7 => ?_)
    · rw [if_pos (ht.mpr (Or.inr (Or.inl h7)))] at h; exact h
    refine pk_eq (fp_kd π (fp_par π n)) 8 (fun h8 => ?_) (fun h8 => ?_)
    · rw [if_pos (ht.mpr (Or.inr (Or.inr (Or.inl h8))))] at h; exact h
    refine pk_lt (fp_kd π (fp_par π n)) 4 (fun h4 => ?_) (fun h4 => ?_)
    · rw [if_neg (fun z => by have := ht.mp z; omega)] at h; exact h
    refine pk_lt 6 (fp_kd π (fp_par π n)) (fun h6 => ?_) (fun h6 => ?_)
    · rw [if_neg (fun z => by have := ht.mp z; omega)] at h; exact h
    have htwo : fp_two π (fp_par π n) := by unfold fp_two; omega
    obtain ⟨r1, r2⟩ := fx_ndR C.1 hπ q3 htwo
    refine And.intro hv ?_
    rw [r1]
    refine pk_eq (fp_sb π (fp_par π n)) n (fun hs => ?_) (fun hs => ?_)
    · rw [if_pos (ht.mpr (Or.inr (Or.inr (Or.inr ⟨h4, h6, hs⟩))))] at h; exact h
    · rw [if_neg (fun z => by have := ht.mp z; omega)] at h; exact h
theorem fx_topOf {π : fp_Pl} {m root : Nat} (C : fp_cx π m root) {u : SX} (hπ : fx_pl u = π) (hroot : xx_root u = nI root) {n0 : Nat} (post : Int32 → Prop) (hn0 : n0 ≤ root) (hpl0 : fp_pl π root n0 = true) (h : post (nI (fp_to π root n0))) : wpX_topOf post u (nI n0) := by
  have hm := C.1.1
  have hr := C.2
  have loop : ∀ k n x3 nf, n ≤ root → root ≤ n + k → fp_pl π root n = true → fp_to π root n = fp_to π root n0 → x3 ≤ n → k < nf → wX_topOf_4 post (xx_nodes u) (xx_root u) (xx_codeLength u) (xx_mapWidth u) (xx_registersUsed u) (xx_depth u) (xx_overflow u) (xx_resultWidth u) (xx_resultRows u) (xx_tableCells u) (xx_tableRows u) (xx_kindOf u) (xx_first u) (xx_second u) (xx_p u) (xx_q u) (xx_r u) (xx_widthOf u) (xx_parent u) (xx_inPlan u) (xx_given u) (xx_store u) (xx_storeRows u) (xx_heads u) (xx_chain u) (xx_op u) (xx_opA u) (xx_opB u) (xx_opC u) (xx_opD u) (xx_opE u) (xx_map u) (xx_picked u) (xx_register u) (xx_loopAt u) (xx_loopCode u) (xx_result u) (xx_order u) nf (nI n) (nI x3) := by
    intro k
    induction k with
    | zero =>
      intro n x3 nf hn hk hpl hto hx3 hnf
      have e : n = root := by omega
      have htp : fp_tp π root n = true := by rw [e]; exact fp_tproot π root
      obtain ⟨nf, rfl⟩ : ∃ z, nf = z + 1 := ⟨nf - 1, by omega⟩
      refine br_f (nI_ge (b := 12) (by omega) (by decide)) ?_
      refine fx_isTop C hπ hroot _ hn hpl ?_
      rw [if_pos htp]
      refine br_f (by decide) ?_
      rw [← hto, fp_to_tp htp] at h; exact h
    | succ k ih =>
      intro n x3 nf hn hk hpl hto hx3 hnf
      obtain ⟨nf, rfl⟩ : ∃ z, nf = z + 1 := ⟨nf - 1, by omega⟩
      refine br_f (nI_ge (b := 12) (by omega) (by decide)) ?_
      refine fx_isTop C hπ hroot _ hn hpl ?_
      by_cases htp : fp_tp π root n = true
      · rw [if_pos htp]
        refine br_f (by decide) ?_
        rw [← hto, fp_to_tp htp] at h; exact h
      · rw [if_neg htp]
        have hnr : n ≠ root := fun z => htp (by rw [z]; exact fp_tproot π root)
        obtain ⟨s1, s2, s3, _⟩ := fp_stepU C hn hpl htp
        obtain ⟨q1, q2, q3⟩ := fx_par C hπ hn hpl hnr
        refine br_t rfl (And.intro (vp_in_nI (by omega) (by decide)) ?_)
        rw [fi_cl (by omega : n < 4096), q1, nI_1]
        intro y ey z ez
        subst ey ez
        exact ih (fp_par π n) (x3 + 1) nf s2 (by omega) s3 ((fp_to_up C hn hpl htp).symm.trans hto) (by omega) (by omega)
  exact ⟨13, loop 12 n0 0 13 hn0 (by omega) hpl0 rfl (by omega) (by omega)⟩
end
section
/-! ## X: the pipelines of a top, the tops of a run -/
abbrev fx_r (v : SX) : Int32 × Int32 × Int32 × Int32 × (Nat → Int32) × (Nat → Int32) × (Nat → Int32) × (Nat → Int32) × (Nat → Int32) × (Nat → Int32) × (Nat → Int32) × (Nat → Int32) × (Nat → Int32) × (Nat → Int32) × (Nat → Int32) × (Nat → Int32) × (Nat → Int32) := (xx_nodes v, xx_root v, xx_resultWidth v, xx_resultRows v, xx_tableCells v, xx_tableRows v, xx_kindOf v, xx_first v, xx_second v, xx_p v, xx_q v, xx_r v, xx_widthOf v, xx_parent v, xx_inPlan v, xx_result v, xx_order v)
theorem fx_r_nodes {v v' : SX} (h : fx_r v' = fx_r v) : xx_nodes v' = xx_nodes v := congrArg (fun e => e.1) h
theorem fx_r_root {v v' : SX} (h : fx_r v' = fx_r v) : xx_root v' = xx_root v := congrArg (fun e => e.2.1) h
theorem fx_r_resultWidth {v v' : SX} (h : fx_r v' = fx_r v) : xx_resultWidth v' = xx_resultWidth v := congrArg (fun e => e.2.2.1) h
theorem fx_r_resultRows {v v' : SX} (h : fx_r v' = fx_r v) : xx_resultRows v' = xx_resultRows v := congrArg (fun e => e.2.2.2.1) h
theorem fx_r_tableCells {v v' : SX} (h : fx_r v' = fx_r v) : xx_tableCells v' = xx_tableCells v := congrArg (fun e => e.2.2.2.2.1) h
theorem fx_r_tableRows {v v' : SX} (h : fx_r v' = fx_r v) : xx_tableRows v' = xx_tableRows v := congrArg (fun e => e.2.2.2.2.2.1) h
theorem fx_r_kindOf {v v' : SX} (h : fx_r v' = fx_r v) : xx_kindOf v' = xx_kindOf v := congrArg (fun e => e.2.2.2.2.2.2.1) h
theorem fx_r_first {v v' : SX} (h : fx_r v' = fx_r v) : xx_first v' = xx_first v := congrArg (fun e => e.2.2.2.2.2.2.2.1) h
theorem fx_r_second {v v' : SX} (h : fx_r v' = fx_r v) : xx_second v' = xx_second v := congrArg (fun e => e.2.2.2.2.2.2.2.2.1) h
theorem fx_r_p {v v' : SX} (h : fx_r v' = fx_r v) : xx_p v' = xx_p v := congrArg (fun e => e.2.2.2.2.2.2.2.2.2.1) h
theorem fx_r_q {v v' : SX} (h : fx_r v' = fx_r v) : xx_q v' = xx_q v := congrArg (fun e => e.2.2.2.2.2.2.2.2.2.2.1) h
theorem fx_r_r {v v' : SX} (h : fx_r v' = fx_r v) : xx_r v' = xx_r v := congrArg (fun e => e.2.2.2.2.2.2.2.2.2.2.2.1) h
theorem fx_r_widthOf {v v' : SX} (h : fx_r v' = fx_r v) : xx_widthOf v' = xx_widthOf v := congrArg (fun e => e.2.2.2.2.2.2.2.2.2.2.2.2.1) h
theorem fx_r_parent {v v' : SX} (h : fx_r v' = fx_r v) : xx_parent v' = xx_parent v := congrArg (fun e => e.2.2.2.2.2.2.2.2.2.2.2.2.2.1) h
theorem fx_r_inPlan {v v' : SX} (h : fx_r v' = fx_r v) : xx_inPlan v' = xx_inPlan v := congrArg (fun e => e.2.2.2.2.2.2.2.2.2.2.2.2.2.2.1) h
theorem fx_r_result {v v' : SX} (h : fx_r v' = fx_r v) : xx_result v' = xx_result v := congrArg (fun e => e.2.2.2.2.2.2.2.2.2.2.2.2.2.2.2.1) h
theorem fx_r_order {v v' : SX} (h : fx_r v' = fx_r v) : xx_order v' = xx_order v := congrArg (fun e => e.2.2.2.2.2.2.2.2.2.2.2.2.2.2.2.2) h
theorem fx_r_fx_e {v v' : SX} (h : fx_e v' = fx_e v) : fx_r v' = fx_r v := congrArg (fun e => (e.1, e.2.1, e.2.2.2.2.2.1, e.2.2.2.2.2.2.1, e.2.2.2.2.2.2.2.1, e.2.2.2.2.2.2.2.2.1, e.2.2.2.2.2.2.2.2.2.1, e.2.2.2.2.2.2.2.2.2.2.1, e.2.2.2.2.2.2.2.2.2.2.2.1, e.2.2.2.2.2.2.2.2.2.2.2.2.1, e.2.2.2.2.2.2.2.2.2.2.2.2.2.1, e.2.2.2.2.2.2.2.2.2.2.2.2.2.2.1, e.2.2.2.2.2.2.2.2.2.2.2.2.2.2.2.1, e.2.2.2.2.2.2.2.2.2.2.2.2.2.2.2.2.1, e.2.2.2.2.2.2.2.2.2.2.2.2.2.2.2.2.2.1, e.2.2.2.2.2.2.2.2.2.2.2.2.2.2.2.2.2.2.2.2.2.2.2.2.2.2.1, e.2.2.2.2.2.2.2.2.2.2.2.2.2.2.2.2.2.2.2.2.2.2.2.2.2.2.2)) h
theorem fx_r_fx_c {v v' : SX} (h : fx_c v' = fx_c v) : fx_r v' = fx_r v := congrArg (fun e => (e.1, e.2.1, e.2.2.2.2.1, e.2.2.2.2.2.1, e.2.2.2.2.2.2.1, e.2.2.2.2.2.2.2.1, e.2.2.2.2.2.2.2.2.1, e.2.2.2.2.2.2.2.2.2.1, e.2.2.2.2.2.2.2.2.2.2.1, e.2.2.2.2.2.2.2.2.2.2.2.1, e.2.2.2.2.2.2.2.2.2.2.2.2.1, e.2.2.2.2.2.2.2.2.2.2.2.2.2.1, e.2.2.2.2.2.2.2.2.2.2.2.2.2.2.1, e.2.2.2.2.2.2.2.2.2.2.2.2.2.2.2.1, e.2.2.2.2.2.2.2.2.2.2.2.2.2.2.2.2.1, e.2.2.2.2.2.2.2.2.2.2.2.2.2.2.2.2.2.2.2.2.2.2.2.2.2.1, e.2.2.2.2.2.2.2.2.2.2.2.2.2.2.2.2.2.2.2.2.2.2.2.2.2.2)) h
theorem fx_pl_r {u u' : SX} (h : fx_r u' = fx_r u) : fx_pl u' = fx_pl u := by
  show (xx_kindOf u', xx_first u', xx_second u', xx_p u', xx_q u', xx_r u', xx_widthOf u', xx_parent u') = _
  rw [fx_r_kindOf h, fx_r_first h, fx_r_second h, fx_r_p h, fx_r_q h, fx_r_r h, fx_r_widthOf h, fx_r_parent h]
theorem fx_rpov {u : SX} {nf : Nat} (post : SX → Prop) (x1 x2 : Int32) (hov : ¬ xx_overflow u = 0) (h : post u) : wX_runPipelinesTo_2 post x1 (nf + 1) x2 (xx_nodes u) (xx_root u) (xx_codeLength u) (xx_mapWidth u) (xx_registersUsed u) (xx_depth u) (xx_overflow u) (xx_resultWidth u) (xx_resultRows u) (xx_tableCells u) (xx_tableRows u) (xx_kindOf u) (xx_first u) (xx_second u) (xx_p u) (xx_q u) (xx_r u) (xx_widthOf u) (xx_parent u) (xx_inPlan u) (xx_given u) (xx_store u) (xx_storeRows u) (xx_heads u) (xx_chain u) (xx_op u) (xx_opA u) (xx_opB u) (xx_opC u) (xx_opD u) (xx_opE u) (xx_map u) (xx_picked u) (xx_register u) (xx_loopAt u) (xx_loopCode u) (xx_result u) (xx_order u) :=
  br_c (fun _ => h) (fun _ => br_f hov h)
theorem fx_MS_c {π : fp_Pl} {root : Nat} {u u' : SX} {s : fp_St} (h : fx_c u' = fx_c u) (hM : fx_MS π root u s) : fx_MS π root u' s := by
  unfold fx_MS fx_A1
  rw [fx_c_given h, fx_c_store h, fx_c_storeRows h, fx_c_heads h, fx_c_chain h]
  exact hM
/-- which nodes take part, as X marked them -/
def fx_IP (π : fp_Pl) (m root : Nat) (u : SX) : Prop := ∀ n, n < m → (xx_inPlan u n = 0 ↔ ¬ fp_pl π root n = true)
theorem fx_rp2 {π : fp_Pl} {m root : Nat} (C : fp_cx π m root) (post : SX → Prop) (u0 : SX) (hπ : fx_pl u0 = π) (hroot : xx_root u0 = nI root) (hIP : fx_IP π m root u0) (hT : fp_TOK (xx_tableRows u0)) {t : Nat} {s0 : fp_St} (ht : t ≤ root) (hpt : fp_pl π root t = true) (htp : fp_tp π root t = true) (hd : fp_done π root (fp_TB (xx_tableCells u0) (xx_tableRows u0)) t s0)
    (h1 : ∀ u' s', fx_r u' = fx_r u0 → xx_overflow u' = 0 → fx_MS π root u' s' → fp_mid π root (fp_TB (xx_tableCells u0) (xx_tableRows u0)) t (t + 1) s0 s' → post u')
    (h2 : fp_bad π root (fp_TB (xx_tableCells u0) (xx_tableRows u0)) → ∀ u', fx_r u' = fx_r u0 → xx_overflow u' = 1 → post u') :
    ∀ e j u s, j + e = t + 1 → fx_r u = fx_r u0 → xx_overflow u = 0 → fx_MS π root u s → fp_mid π root (fp_TB (xx_tableCells u0) (xx_tableRows u0)) t j s0 s → wX_runPipelinesTo_2 post (nI t) (e + 2) (nI j) (xx_nodes u) (xx_root u) (xx_codeLength u) (xx_mapWidth u) (xx_registersUsed u) (xx_depth u) (xx_overflow u) (xx_resultWidth u) (xx_resultRows u) (xx_tableCells u) (xx_tableRows u) (xx_kindOf u) (xx_first u) (xx_second u) (xx_p u) (xx_q u) (xx_r u) (xx_widthOf u) (xx_parent u) (xx_inPlan u) (xx_given u) (xx_store u) (xx_storeRows u) (xx_heads u) (xx_chain u) (xx_op u) (xx_opA u) (xx_opB u) (xx_opC u) (xx_opD u) (xx_opE u) (xx_map u) (xx_picked u) (xx_register u) (xx_loopAt u) (xx_loopCode u) (xx_result u) (xx_order u) := by
  have hm := C.1.1
  have hr := C.2
  intro e
  induction e with
  | zero =>
    intro j u s hj hru hov hMS hM
    have ej : j = t + 1 := by omega
    subst ej
    exact br_t (nI_lt (by omega) (by omega)) (h1 u s hru hov hMS hM)
  | succ e ih =>
    intro j u s hj hru hov hMS hM
    have hπu := (fx_pl_r hru).trans hπ
    have hrootu := (fx_r_root hru).trans hroot
    have hjm : j < m := by omega
    obtain ⟨k1, k2, k3, _⟩ := fx_nd C.1 hπu hjm
    have hv := vp_in_nI (n := j) k1 (by decide)
    have hipj : xx_inPlan u j = 0 ↔ ¬ fp_pl π root j = true := by rw [fx_r_inPlan hru]; exact hIP j hjm
    have next : ∀ u' s', fx_r u' = fx_r u0 → xx_overflow u' = 0 → fx_MS π root u' s' → fp_mid π root (fp_TB (xx_tableCells u0) (xx_tableRows u0)) t (j + 1) s0 s' → ∀ y, y = nI j + 1 → wX_runPipelinesTo_2 post (nI t) (e + 2) y (xx_nodes u') (xx_root u') (xx_codeLength u') (xx_mapWidth u') (xx_registersUsed u') (xx_depth u') (xx_overflow u') (xx_resultWidth u') (xx_resultRows u') (xx_tableCells u') (xx_tableRows u') (xx_kindOf u') (xx_first u') (xx_second u') (xx_p u') (xx_q u') (xx_r u') (xx_widthOf u') (xx_parent u') (xx_inPlan u') (xx_given u') (xx_store u') (xx_storeRows u') (xx_heads u') (xx_chain u') (xx_op u') (xx_opA u') (xx_opB u') (xx_opC u') (xx_opD u') (xx_opE u') (xx_map u') (xx_picked u') (xx_register u') (xx_loopAt u') (xx_loopCode u') (xx_result u') (xx_order u') := by
      intro u' s' g1 g2 g3 g4 y ey
      rw [nI_1] at ey
      subst ey
      exact ih (j + 1) u' s' (by omega) g1 g2 g3 g4
    have body : ∀ z0 : Int32, (z0 = 0 ↔ ¬ fp_so π j = true) → wX_runPipelinesTo_50 post (wX_runPipelinesTo_2 post (nI t) (e + 2)) (nI t) (nI j) z0 (xx_nodes u) (xx_root u) (xx_codeLength u) (xx_mapWidth u) (xx_registersUsed u) (xx_depth u) (xx_overflow u) (xx_resultWidth u) (xx_resultRows u) (xx_tableCells u) (xx_tableRows u) (xx_kindOf u) (xx_first u) (xx_second u) (xx_p u) (xx_q u) (xx_r u) (xx_widthOf u) (xx_parent u) (xx_inPlan u) (xx_given u) (xx_store u) (xx_storeRows u) (xx_heads u) (xx_chain u) (xx_op u) (xx_opA u) (xx_opB u) (xx_opC u) (xx_opD u) (xx_opE u) (xx_map u) (xx_picked u) (xx_register u) (xx_loopAt u) (xx_loopCode u) (xx_result u) (xx_order u) := by
      intro z0 hz0
      refine And.intro hv ?_
      rw [fi_cl (by omega : j < 4096)]
      refine br_c (fun z => ?_) (fun z => ?_)
      · exact next u s hru hov hMS (fp_midN _ (fun y => hipj.mp z y.1) hM)
      · have hpj : fp_pl π root j = true := Classical.byContradiction fun y => z (hipj.mpr y)
        refine br_c (fun z2 => ?_) (fun z2 => ?_)
        · exact next u s hru hov hMS (fp_midN _ (fun y => hz0.mp z2 y.2.1) hM)
        · have hso : fp_so π j = true := Classical.byContradiction fun y => z2 (hz0.mpr y)
          have hjr : j ≤ root := by omega
          have hto := fp_to_all C hjr hpj
          refine fx_topOf C hπu hrootu _ hjr hpj ?_
          refine br_c (fun et => ?_) (fun et => ?_)
          · have et' : fp_to π root j = t := (nI_eq (by omega) (by omega)).mp et
            refine fx_compile C hπu hrootu _ hjr hpj hso et' fun u1 f1 f2 f3 => ?_
            have hru1 : fx_r u1 = fx_r u0 := (fx_r_fx_c f1).trans hru
            have hMS1 := fx_MS_c f1 hMS
            have hov1 : xx_overflow u1 = 0 := (fx_c_overflow f1).trans hov
            obtain ⟨m1, m2, m3, m4, m5⟩ := id hM
            have hT1 : fp_TOK (xx_tableRows u1) := by rw [fx_r_tableRows hru1]; exact hT
            refine fx_execute C _ (s := s) (XS0 := s0.2) hjr hpj hso et' hT1 f2 f3 hov1 hMS1 m5 m4 ?_ ?_
            · rw [fx_r_tableCells hru1, fx_r_tableRows hru1]
              intro hok u2 g1 g2 g3
              exact next u2 _ ((fx_r_fx_e g1).trans hru1) g2 g3 (fp_midS C _ hjr hpj hso et' hM hok)
            · rw [fx_r_tableCells hru1, fx_r_tableRows hru1]
              intro hno u2 g1 g2
              have hb := fp_midB C _ ht hpt htp hd hjr hpj hso et' hM hno
              intro y ey
              exact fx_rpov post _ _ (by rw [g2]; decide) (h2 hb u2 ((fx_r_fx_e g1).trans hru1) g2)
          · have et' : ¬ fp_to π root j = t := fun y => et (by rw [y])
            exact next u s hru hov hMS (fp_midN _ (fun y => et' y.2.2) hM)
    have so := fp_so_iff π j
    refine br_f (nI_nlt (by omega) (by omega)) (br_t hov (And.intro hv ?_))
    rw [fi_cl (by omega : j < 4096), k2]
    refine pk_eq (fp_kd π j) 0 (fun h0 => ?_) (fun h0 => ?_)
    · exact body 1 ⟨fun z => absurd z (by decide), fun z => absurd (so.mpr (Or.inl h0)) z⟩
    refine And.intro hv (pk_eq (fp_kd π j) 7 (fun h7 => ?_) (fun h7 => ?_))
    · exact body 1 ⟨fun z => absurd z (by decide), fun z => absurd (so.mpr (Or.inr (Or.inl h7))) z⟩
    refine And.intro hv (pk_eq (fp_kd π j) 8 (fun h8 => ?_) (fun h8 => ?_))
    · exact body 1 ⟨fun z => absurd z (by decide), fun z => absurd (so.mpr (Or.inr (Or.inr h8))) z⟩
    exact body 0 ⟨fun _ z => by have := so.mp z; omega, fun _ => rfl⟩
theorem fx_r26 {π : fp_Pl} {m root : Nat} (C : fp_cx π m root) (post : Int32 → SX → Prop) (u0 : SX) (hπ : fx_pl u0 = π) (hroot : xx_root u0 = nI root) (hIP : fx_IP π m root u0) (hT : fp_TOK (xx_tableRows u0))
    (h1 : ∀ u' s', fx_r u' = fx_r u0 → xx_overflow u' = 0 → fx_MS π root u' s' → fp_done π root (fp_TB (xx_tableCells u0) (xx_tableRows u0)) (root + 1) s' → wX_run_66 post (xx_nodes u') (xx_root u') (xx_codeLength u') (xx_mapWidth u') (xx_registersUsed u') (xx_depth u') (xx_overflow u') (xx_resultWidth u') (xx_resultRows u') (xx_tableCells u') (xx_tableRows u') (xx_kindOf u') (xx_first u') (xx_second u') (xx_p u') (xx_q u') (xx_r u') (xx_widthOf u') (xx_parent u') (xx_inPlan u') (xx_given u') (xx_store u') (xx_storeRows u') (xx_heads u') (xx_chain u') (xx_op u') (xx_opA u') (xx_opB u') (xx_opC u') (xx_opD u') (xx_opE u') (xx_map u') (xx_picked u') (xx_register u') (xx_loopAt u') (xx_loopCode u') (xx_result u') (xx_order u'))
    (h2 : fp_bad π root (fp_TB (xx_tableCells u0) (xx_tableRows u0)) → ∀ u', fx_r u' = fx_r u0 → xx_overflow u' = 1 → post (-8) u') :
    ∀ e k u s, k + e = root + 1 → fx_r u = fx_r u0 → xx_overflow u = 0 → fx_MS π root u s → fp_done π root (fp_TB (xx_tableCells u0) (xx_tableRows u0)) k s → wX_run_26 post (nI root) (e + 2) (nI k) (xx_nodes u) (xx_root u) (xx_codeLength u) (xx_mapWidth u) (xx_registersUsed u) (xx_depth u) (xx_overflow u) (xx_resultWidth u) (xx_resultRows u) (xx_tableCells u) (xx_tableRows u) (xx_kindOf u) (xx_first u) (xx_second u) (xx_p u) (xx_q u) (xx_r u) (xx_widthOf u) (xx_parent u) (xx_inPlan u) (xx_given u) (xx_store u) (xx_storeRows u) (xx_heads u) (xx_chain u) (xx_op u) (xx_opA u) (xx_opB u) (xx_opC u) (xx_opD u) (xx_opE u) (xx_map u) (xx_picked u) (xx_register u) (xx_loopAt u) (xx_loopCode u) (xx_result u) (xx_order u) := by
  have hm := C.1.1
  have hr := C.2
  intro e
  induction e with
  | zero =>
    intro k u s hk hru hov hMS hD
    have ek : k = root + 1 := by omega
    subst ek
    exact br_t (nI_lt (by omega) (by omega)) (h1 u s hru hov hMS hD)
  | succ e ih =>
    intro k u s hk hru hov hMS hD
    have hπu := (fx_pl_r hru).trans hπ
    have hrootu := (fx_r_root hru).trans hroot
    have hkm : k < m := by omega
    have hipk : xx_inPlan u k = 0 ↔ ¬ fp_pl π root k = true := by rw [fx_r_inPlan hru]; exact hIP k hkm
    have next : ∀ u' s', fx_r u' = fx_r u0 → xx_overflow u' = 0 → fx_MS π root u' s' → fp_done π root (fp_TB (xx_tableCells u0) (xx_tableRows u0)) (k + 1) s' → ∀ y, y = nI k + 1 → wX_run_26 post (nI root) (e + 2) y (xx_nodes u') (xx_root u') (xx_codeLength u') (xx_mapWidth u') (xx_registersUsed u') (xx_depth u') (xx_overflow u') (xx_resultWidth u') (xx_resultRows u') (xx_tableCells u') (xx_tableRows u') (xx_kindOf u') (xx_first u') (xx_second u') (xx_p u') (xx_q u') (xx_r u') (xx_widthOf u') (xx_parent u') (xx_inPlan u') (xx_given u') (xx_store u') (xx_storeRows u') (xx_heads u') (xx_chain u') (xx_op u') (xx_opA u') (xx_opB u') (xx_opC u') (xx_opD u') (xx_opE u') (xx_map u') (xx_picked u') (xx_register u') (xx_loopAt u') (xx_loopCode u') (xx_result u') (xx_order u') := by
      intro u' s' g1 g2 g3 g4 y ey
      rw [nI_1] at ey
      subst ey
      exact ih (k + 1) u' s' (by omega) g1 g2 g3 g4
    refine br_f (nI_nlt (by omega) (by omega)) (br_t hov (And.intro (vp_in_nI (by omega) (by decide)) ?_))
    rw [fi_cl (by omega : k < 4096)]
    refine br_c (fun z => ?_) (fun z => ?_)
    · exact next u s hru hov hMS (fp_doneN C _ (fun y => hipk.mp z y.1) hD)
    · have hpk : fp_pl π root k = true := Classical.byContradiction fun y => z (hipk.mpr y)
      have hkr : k ≤ root := by omega
      refine fx_isTop C hπu hrootu _ hkr hpk ?_
      by_cases htp : fp_tp π root k = true
      · rw [if_pos htp]
        refine br_f (by decide) ⟨k + 1 + 2, ?_⟩
        have et : fp_TB (xx_tableCells u) (xx_tableRows u) = fp_TB (xx_tableCells u0) (xx_tableRows u0) := by rw [fx_r_tableCells hru, fx_r_tableRows hru]
        have hIPu : fx_IP π m root u := by unfold fx_IP; rw [fx_r_inPlan hru]; exact hIP
        have hTu : fp_TOK (xx_tableRows u) := by rw [fx_r_tableRows hru]; exact hT
        refine fx_rp2 C _ u hπu hrootu hIPu hTu (s0 := s) hkr hpk htp (by rw [et]; exact hD) ?_ ?_ (k + 1) 0 u s (by omega) rfl hov hMS (by rw [et]; exact fp_mid0 C _ hkr hpk htp hD)
        · rw [et]
          intro u' s' g1 g2 g3 g4
          exact next u' s' (g1.trans hru) g2 g3 (fp_midE C _ hkr hpk htp hD g4)
        · rw [et]
          intro hb u' g1 g2
          have hru' := g1.trans hru
          have hp := h2 hb u' hru' g2
          have hov' : ¬ xx_overflow u' = 0 := by rw [g2]; decide
          have h66 : wX_run_66 post (xx_nodes u') (xx_root u') (xx_codeLength u') (xx_mapWidth u') (xx_registersUsed u') (xx_depth u') (xx_overflow u') (xx_resultWidth u') (xx_resultRows u') (xx_tableCells u') (xx_tableRows u') (xx_kindOf u') (xx_first u') (xx_second u') (xx_p u') (xx_q u') (xx_r u') (xx_widthOf u') (xx_parent u') (xx_inPlan u') (xx_given u') (xx_store u') (xx_storeRows u') (xx_heads u') (xx_chain u') (xx_op u') (xx_opA u') (xx_opB u') (xx_opC u') (xx_opD u') (xx_opE u') (xx_map u') (xx_picked u') (xx_register u') (xx_loopAt u') (xx_loopCode u') (xx_result u') (xx_order u') := br_f hov' hp
          intro y ey
          exact br_c (fun _ => h66) (fun _ => br_f hov' h66)
      · rw [if_neg htp]
        exact br_t rfl (next u s hru hov hMS (fp_doneN C _ (fun y => htp y.2) hD))
end
section
/-! ## X: prepare -/
abbrev fx_p (v : SX) : Int32 × Int32 × Int32 × Int32 × Int32 × Int32 × Int32 × Int32 × (Nat → Int32) × (Nat → Int32) × (Nat → Int32) × (Nat → Int32) × (Nat → Int32) × (Nat → Int32) × (Nat → Int32) × (Nat → Int32) × (Nat → Int32) × (Nat → Int32) × (Nat → Int32) × (Nat → Int32) × (Nat → Int32) × (Nat → Int32) × (Nat → Int32) × (Nat → Int32) × (Nat → Int32) × (Nat → Int32) × (Nat → Int32) × (Nat → Int32) × (Nat → Int32) × (Nat → Int32) × (Nat → Int32) × (Nat → Int32) × (Nat → Int32) := (xx_nodes v, xx_root v, xx_codeLength v, xx_mapWidth v, xx_registersUsed v, xx_depth v, xx_resultWidth v, xx_resultRows v, xx_tableCells v, xx_tableRows v, xx_kindOf v, xx_first v, xx_second v, xx_p v, xx_q v, xx_r v, xx_widthOf v, xx_parent v, xx_store v, xx_chain v, xx_op v, xx_opA v, xx_opB v, xx_opC v, xx_opD v, xx_opE v, xx_map v, xx_picked v, xx_register v, xx_loopAt v, xx_loopCode v, xx_result v, xx_order v)
theorem fx_p_nodes {v v' : SX} (h : fx_p v' = fx_p v) : xx_nodes v' = xx_nodes v := congrArg (fun e => e.1) h
theorem fx_p_root {v v' : SX} (h : fx_p v' = fx_p v) : xx_root v' = xx_root v := congrArg (fun e => e.2.1) h
theorem fx_p_codeLength {v v' : SX} (h : fx_p v' = fx_p v) : xx_codeLength v' = xx_codeLength v := congrArg (fun e => e.2.2.1) h
theorem fx_p_mapWidth {v v' : SX} (h : fx_p v' = fx_p v) : xx_mapWidth v' = xx_mapWidth v := congrArg (fun e => e.2.2.2.1) h
theorem fx_p_registersUsed {v v' : SX} (h : fx_p v' = fx_p v) : xx_registersUsed v' = xx_registersUsed v := congrArg (fun e => e.2.2.2.2.1) h
theorem fx_p_depth {v v' : SX} (h : fx_p v' = fx_p v) : xx_depth v' = xx_depth v := congrArg (fun e => e.2.2.2.2.2.1) h
theorem fx_p_resultWidth {v v' : SX} (h : fx_p v' = fx_p v) : xx_resultWidth v' = xx_resultWidth v := congrArg (fun e => e.2.2.2.2.2.2.1) h
theorem fx_p_resultRows {v v' : SX} (h : fx_p v' = fx_p v) : xx_resultRows v' = xx_resultRows v := congrArg (fun e => e.2.2.2.2.2.2.2.1) h
theorem fx_p_tableCells {v v' : SX} (h : fx_p v' = fx_p v) : xx_tableCells v' = xx_tableCells v := congrArg (fun e => e.2.2.2.2.2.2.2.2.1) h
theorem fx_p_tableRows {v v' : SX} (h : fx_p v' = fx_p v) : xx_tableRows v' = xx_tableRows v := congrArg (fun e => e.2.2.2.2.2.2.2.2.2.1) h
theorem fx_p_kindOf {v v' : SX} (h : fx_p v' = fx_p v) : xx_kindOf v' = xx_kindOf v := congrArg (fun e => e.2.2.2.2.2.2.2.2.2.2.1) h
theorem fx_p_first {v v' : SX} (h : fx_p v' = fx_p v) : xx_first v' = xx_first v := congrArg (fun e => e.2.2.2.2.2.2.2.2.2.2.2.1) h
theorem fx_p_second {v v' : SX} (h : fx_p v' = fx_p v) : xx_second v' = xx_second v := congrArg (fun e => e.2.2.2.2.2.2.2.2.2.2.2.2.1) h
theorem fx_p_p {v v' : SX} (h : fx_p v' = fx_p v) : xx_p v' = xx_p v := congrArg (fun e => e.2.2.2.2.2.2.2.2.2.2.2.2.2.1) h
theorem fx_p_q {v v' : SX} (h : fx_p v' = fx_p v) : xx_q v' = xx_q v := congrArg (fun e => e.2.2.2.2.2.2.2.2.2.2.2.2.2.2.1) h
theorem fx_p_r {v v' : SX} (h : fx_p v' = fx_p v) : xx_r v' = xx_r v := congrArg (fun e => e.2.2.2.2.2.2.2.2.2.2.2.2.2.2.2.1) h
theorem fx_p_widthOf {v v' : SX} (h : fx_p v' = fx_p v) : xx_widthOf v' = xx_widthOf v := congrArg (fun e => e.2.2.2.2.2.2.2.2.2.2.2.2.2.2.2.2.1) h
theorem fx_p_parent {v v' : SX} (h : fx_p v' = fx_p v) : xx_parent v' = xx_parent v := congrArg (fun e => e.2.2.2.2.2.2.2.2.2.2.2.2.2.2.2.2.2.1) h
theorem fx_p_store {v v' : SX} (h : fx_p v' = fx_p v) : xx_store v' = xx_store v := congrArg (fun e => e.2.2.2.2.2.2.2.2.2.2.2.2.2.2.2.2.2.2.1) h
theorem fx_p_chain {v v' : SX} (h : fx_p v' = fx_p v) : xx_chain v' = xx_chain v := congrArg (fun e => e.2.2.2.2.2.2.2.2.2.2.2.2.2.2.2.2.2.2.2.1) h
theorem fx_p_op {v v' : SX} (h : fx_p v' = fx_p v) : xx_op v' = xx_op v := congrArg (fun e => e.2.2.2.2.2.2.2.2.2.2.2.2.2.2.2.2.2.2.2.2.1) h
theorem fx_p_opA {v v' : SX} (h : fx_p v' = fx_p v) : xx_opA v' = xx_opA v := congrArg (fun e => e.2.2.2.2.2.2.2.2.2.2.2.2.2.2.2.2.2.2.2.2.2.1) h
theorem fx_p_opB {v v' : SX} (h : fx_p v' = fx_p v) : xx_opB v' = xx_opB v := congrArg (fun e => e.2.2.2.2.2.2.2.2.2.2.2.2.2.2.2.2.2.2.2.2.2.2.1) h
theorem fx_p_opC {v v' : SX} (h : fx_p v' = fx_p v) : xx_opC v' = xx_opC v := congrArg (fun e => e.2.2.2.2.2.2.2.2.2.2.2.2.2.2.2.2.2.2.2.2.2.2.2.1) h
theorem fx_p_opD {v v' : SX} (h : fx_p v' = fx_p v) : xx_opD v' = xx_opD v := congrArg (fun e => e.2.2.2.2.2.2.2.2.2.2.2.2.2.2.2.2.2.2.2.2.2.2.2.2.1) h
theorem fx_p_opE {v v' : SX} (h : fx_p v' = fx_p v) : xx_opE v' = xx_opE v := congrArg (fun e => e.2.2.2.2.2.2.2.2.2.2.2.2.2.2.2.2.2.2.2.2.2.2.2.2.2.1) h
theorem fx_p_map {v v' : SX} (h : fx_p v' = fx_p v) : xx_map v' = xx_map v := congrArg (fun e => e.2.2.2.2.2.2.2.2.2.2.2.2.2.2.2.2.2.2.2.2.2.2.2.2.2.2.1) h
theorem fx_p_picked {v v' : SX} (h : fx_p v' = fx_p v) : xx_picked v' = xx_picked v := congrArg (fun e => e.2.2.2.2.2.2.2.2.2.2.2.2.2.2.2.2.2.2.2.2.2.2.2.2.2.2.2.1) h
theorem fx_p_register {v v' : SX} (h : fx_p v' = fx_p v) : xx_register v' = xx_register v := congrArg (fun e => e.2.2.2.2.2.2.2.2.2.2.2.2.2.2.2.2.2.2.2.2.2.2.2.2.2.2.2.2.1) h
theorem fx_p_loopAt {v v' : SX} (h : fx_p v' = fx_p v) : xx_loopAt v' = xx_loopAt v := congrArg (fun e => e.2.2.2.2.2.2.2.2.2.2.2.2.2.2.2.2.2.2.2.2.2.2.2.2.2.2.2.2.2.1) h
theorem fx_p_loopCode {v v' : SX} (h : fx_p v' = fx_p v) : xx_loopCode v' = xx_loopCode v := congrArg (fun e => e.2.2.2.2.2.2.2.2.2.2.2.2.2.2.2.2.2.2.2.2.2.2.2.2.2.2.2.2.2.2.1) h
theorem fx_p_result {v v' : SX} (h : fx_p v' = fx_p v) : xx_result v' = xx_result v := congrArg (fun e => e.2.2.2.2.2.2.2.2.2.2.2.2.2.2.2.2.2.2.2.2.2.2.2.2.2.2.2.2.2.2.2.1) h
theorem fx_p_order {v v' : SX} (h : fx_p v' = fx_p v) : xx_order v' = xx_order v := congrArg (fun e => e.2.2.2.2.2.2.2.2.2.2.2.2.2.2.2.2.2.2.2.2.2.2.2.2.2.2.2.2.2.2.2.2) h
theorem fx_pr143 {u : SX} (post : SX → Prop) (h : ∀ hd, (∀ i, i < 104 → hd i = -1) → post ((xx_nodes u), (xx_root u), (xx_codeLength u), (xx_mapWidth u), (xx_registersUsed u), (xx_depth u), (xx_overflow u), (xx_resultWidth u), (xx_resultRows u), (xx_tableCells u), (xx_tableRows u), (xx_kindOf u), (xx_first u), (xx_second u), (xx_p u), (xx_q u), (xx_r u), (xx_widthOf u), (xx_parent u), (xx_inPlan u), (xx_given u), (xx_store u), (xx_storeRows u), hd, (xx_chain u), (xx_op u), (xx_opA u), (xx_opB u), (xx_opC u), (xx_opD u), (xx_opE u), (xx_map u), (xx_picked u), (xx_register u), (xx_loopAt u), (xx_loopCode u), (xx_result u), (xx_order u))) : ∀ d i hd, i + d = 104 → (∀ j, j < i → hd j = -1) → wX_prepare_143 post (xx_nodes u) (xx_root u) (xx_codeLength u) (xx_mapWidth u) (xx_registersUsed u) (xx_depth u) (xx_overflow u) (xx_resultWidth u) (xx_resultRows u) (d + 1) (nI i) (xx_tableCells u) (xx_tableRows u) (xx_kindOf u) (xx_first u) (xx_second u) (xx_p u) (xx_q u) (xx_r u) (xx_widthOf u) (xx_parent u) (xx_inPlan u) (xx_given u) (xx_store u) (xx_storeRows u) hd (xx_chain u) (xx_op u) (xx_opA u) (xx_opB u) (xx_opC u) (xx_opD u) (xx_opE u) (xx_map u) (xx_picked u) (xx_register u) (xx_loopAt u) (xx_loopCode u) (xx_result u) (xx_order u) := by
  intro d
  induction d with
  | zero =>
    intro i hd hi hh
    refine br_t (nI_le (a := 104) (by omega) (by omega)) ?_
    exact h hd fun j hj => hh j (by omega)
  | succ d ih =>
    intro i hd hi hh
    refine br_f (nI_ge (b := 104) (by omega) (by decide)) ?_
    rw [fi_cl (by omega : i < 4096), nI_1]
    refine And.intro (vp_in_nI (by omega) (by decide)) ?_
    intro hd2 e2 y ey
    subst e2 ey
    refine ih (i + 1) _ (by omega) fun j hj => ?_
    by_cases e : j = i
    · subst e; exact fi_us
    · rw [fi_un e]; exact hh j (by omega)
theorem fx_pr122 {u : SX} (post : SX → Prop) (h : ∀ sr, (∀ i, i < 13 → sr i = 0) → ∃ n143, wX_prepare_143 post (xx_nodes u) (xx_root u) (xx_codeLength u) (xx_mapWidth u) (xx_registersUsed u) (xx_depth u) (xx_overflow u) (xx_resultWidth u) (xx_resultRows u) n143 0 (xx_tableCells u) (xx_tableRows u) (xx_kindOf u) (xx_first u) (xx_second u) (xx_p u) (xx_q u) (xx_r u) (xx_widthOf u) (xx_parent u) (xx_inPlan u) (xx_given u) (xx_store u) sr (xx_heads u) (xx_chain u) (xx_op u) (xx_opA u) (xx_opB u) (xx_opC u) (xx_opD u) (xx_opE u) (xx_map u) (xx_picked u) (xx_register u) (xx_loopAt u) (xx_loopCode u) (xx_result u) (xx_order u)) : ∀ d i sr, i + d = 13 → (∀ j, j < i → sr j = 0) → wX_prepare_122 post (xx_nodes u) (xx_root u) (xx_codeLength u) (xx_mapWidth u) (xx_registersUsed u) (xx_depth u) (xx_overflow u) (xx_resultWidth u) (xx_resultRows u) (d + 1) (nI i) (xx_tableCells u) (xx_tableRows u) (xx_kindOf u) (xx_first u) (xx_second u) (xx_p u) (xx_q u) (xx_r u) (xx_widthOf u) (xx_parent u) (xx_inPlan u) (xx_given u) (xx_store u) sr (xx_heads u) (xx_chain u) (xx_op u) (xx_opA u) (xx_opB u) (xx_opC u) (xx_opD u) (xx_opE u) (xx_map u) (xx_picked u) (xx_register u) (xx_loopAt u) (xx_loopCode u) (xx_result u) (xx_order u) := by
  intro d
  induction d with
  | zero =>
    intro i sr hi hh
    refine br_t (nI_le (a := 13) (by omega) (by omega)) ?_
    exact h sr fun j hj => hh j (by omega)
  | succ d ih =>
    intro i sr hi hh
    refine br_f (nI_ge (b := 13) (by omega) (by decide)) ?_
    rw [fi_cl (by omega : i < 4096), nI_1]
    refine And.intro (vp_in_nI (by omega) (by decide)) ?_
    intro sr2 e2 y ey
    subst e2 ey
    refine ih (i + 1) _ (by omega) fun j hj => ?_
    by_cases e : j = i
    · subst e; exact fi_us
    · rw [fi_un e]; exact hh j (by omega)
theorem fx_pr84 {π : fp_Pl} {m j : Nat} {u : SX} (post : SX → Prop) (J50 : Int32 → (Nat → Int32) → (Nat → Int32) → (Nat → Int32) → (Nat → Int32) → (Nat → Int32) → (Nat → Int32) → (Nat → Int32) → (Nat → Int32) → (Nat → Int32) → (Nat → Int32) → (Nat → Int32) → (Nat → Int32) → (Nat → Int32) → (Nat → Int32) → (Nat → Int32) → (Nat → Int32) → (Nat → Int32) → (Nat → Int32) → (Nat → Int32) → (Nat → Int32) → (Nat → Int32) → (Nat → Int32) → (Nat → Int32) → (Nat → Int32) → (Nat → Int32) → (Nat → Int32) → (Nat → Int32) → (Nat → Int32) → (Nat → Int32) → Prop) (W : fp_WF π m) (hπ : fx_pl u = π) (hj : j < m) (h : J50 (nI j + (-1)) (xx_tableCells u) (xx_tableRows u) (xx_kindOf u) (xx_first u) (xx_second u) (xx_p u) (xx_q u) (xx_r u) (xx_widthOf u) (xx_parent u) (fp_mkB π j (xx_inPlan u)) (xx_given u) (xx_store u) (xx_storeRows u) (xx_heads u) (xx_chain u) (xx_op u) (xx_opA u) (xx_opB u) (xx_opC u) (xx_opD u) (xx_opE u) (xx_map u) (xx_picked u) (xx_register u) (xx_loopAt u) (xx_loopCode u) (xx_result u) (xx_order u)) : wX_prepare_84 post J50 (nI j) (xx_nodes u) (xx_root u) (xx_codeLength u) (xx_mapWidth u) (xx_registersUsed u) (xx_depth u) (xx_overflow u) (xx_resultWidth u) (xx_resultRows u) (xx_tableCells u) (xx_tableRows u) (xx_kindOf u) (xx_first u) (xx_second u) (xx_p u) (xx_q u) (xx_r u) (xx_widthOf u) (xx_parent u) (xx_inPlan u) (xx_given u) (xx_store u) (xx_storeRows u) (xx_heads u) (xx_chain u) (xx_op u) (xx_opA u) (xx_opB u) (xx_opC u) (xx_opD u) (xx_opE u) (xx_map u) (xx_picked u) (xx_register u) (xx_loopAt u) (xx_loopCode u) (xx_result u) (xx_order u) := by
  have hm := W.1
  have hv := vp_in_nI (n := j) (N := 12) (by omega) (by decide)
  have hs : xx_second u j = π.2.2.1 j := by subst hπ; rfl
  obtain ⟨_, _, _, _, _, _, _, n3, n4, _⟩ := W.2 j hj
  refine And.intro hv ?_
  rw [fi_cl (by omega : j < 4096), hs]
  unfold fp_mkB at h
  refine br_c (fun e => ?_) (fun e => ?_)
  · rw [if_pos e] at h
    intro y ey
    subst ey
    exact h
  · rw [if_neg e] at h
    refine And.intro hv ?_
    refine br_c (fun c => ?_) (fun c => ?_)
    · rw [if_pos c] at h
      intro y ey
      subst ey
      exact h
    · rw [if_neg c] at h
      have h2 : fp_two π j := Classical.byContradiction fun z => c (by rw [n3 z]; decide)
      have := n4 h2
      refine And.intro hv ?_
      rw [this.1, fi_cl (by have := this.2.1; omega), fi_b1]
      refine And.intro (vp_in_nI (by have := this.2.1; omega) (by decide)) ?_
      intro nd end' y ey
      subst end' ey
      exact h
theorem fx_pr50 {π : fp_Pl} {m root : Nat} (post : SX → Prop) (C : fp_cx π m root) : ∀ j (u : SX), j ≤ root → fx_pl u = π → fp_NI π m root (xx_inPlan u) (j + 1) → (∀ nd, fp_NI π m root nd 0 → ∃ n122, wX_prepare_122 post (xx_nodes u) (xx_root u) (xx_codeLength u) (xx_mapWidth u) (xx_registersUsed u) (xx_depth u) (xx_overflow u) (xx_resultWidth u) (xx_resultRows u) n122 0 (xx_tableCells u) (xx_tableRows u) (xx_kindOf u) (xx_first u) (xx_second u) (xx_p u) (xx_q u) (xx_r u) (xx_widthOf u) (xx_parent u) nd (xx_given u) (xx_store u) (xx_storeRows u) (xx_heads u) (xx_chain u) (xx_op u) (xx_opA u) (xx_opB u) (xx_opC u) (xx_opD u) (xx_opE u) (xx_map u) (xx_picked u) (xx_register u) (xx_loopAt u) (xx_loopCode u) (xx_result u) (xx_order u)) → wX_prepare_50 post (xx_nodes u) (xx_root u) (xx_codeLength u) (xx_mapWidth u) (xx_registersUsed u) (xx_depth u) (xx_overflow u) (xx_resultWidth u) (xx_resultRows u) (j + 2) (nI j) (xx_tableCells u) (xx_tableRows u) (xx_kindOf u) (xx_first u) (xx_second u) (xx_p u) (xx_q u) (xx_r u) (xx_widthOf u) (xx_parent u) (xx_inPlan u) (xx_given u) (xx_store u) (xx_storeRows u) (xx_heads u) (xx_chain u) (xx_op u) (xx_opA u) (xx_opB u) (xx_opC u) (xx_opD u) (xx_opE u) (xx_map u) (xx_picked u) (xx_register u) (xx_loopAt u) (xx_loopCode u) (xx_result u) (xx_order u) := by
  have hr := C.2
  have hm := C.1.1
  have step : ∀ j (u : SX) (n : Nat), j ≤ root → fx_pl u = π → wX_prepare_50 post (xx_nodes u) (xx_root u) (xx_codeLength u) (xx_mapWidth u) (xx_registersUsed u) (xx_depth u) (xx_overflow u) (xx_resultWidth u) (xx_resultRows u) n (nI j + (-1)) (xx_tableCells u) (xx_tableRows u) (xx_kindOf u) (xx_first u) (xx_second u) (xx_p u) (xx_q u) (xx_r u) (xx_widthOf u) (xx_parent u) (fp_mkB π j (fp_mkA π j (xx_inPlan u))) (xx_given u) (xx_store u) (xx_storeRows u) (xx_heads u) (xx_chain u) (xx_op u) (xx_opA u) (xx_opB u) (xx_opC u) (xx_opD u) (xx_opE u) (xx_map u) (xx_picked u) (xx_register u) (xx_loopAt u) (xx_loopCode u) (xx_result u) (xx_order u) → wX_prepare_50 post (xx_nodes u) (xx_root u) (xx_codeLength u) (xx_mapWidth u) (xx_registersUsed u) (xx_depth u) (xx_overflow u) (xx_resultWidth u) (xx_resultRows u) (n + 1) (nI j) (xx_tableCells u) (xx_tableRows u) (xx_kindOf u) (xx_first u) (xx_second u) (xx_p u) (xx_q u) (xx_r u) (xx_widthOf u) (xx_parent u) (xx_inPlan u) (xx_given u) (xx_store u) (xx_storeRows u) (xx_heads u) (xx_chain u) (xx_op u) (xx_opA u) (xx_opB u) (xx_opC u) (xx_opD u) (xx_opE u) (xx_map u) (xx_picked u) (xx_register u) (xx_loopAt u) (xx_loopCode u) (xx_result u) (xx_order u) := by
    intro j u n hj hπ h
    have hv := vp_in_nI (n := j) (N := 12) (by omega) (by decide)
    have hf : xx_first u j = π.2.1 j := by subst hπ; rfl
    obtain ⟨_, _, _, _, _, n1, n2, _⟩ := C.1.2 j (by omega)
    refine br_f (nI_pos (by omega)) (And.intro hv ?_)
    rw [fi_cl (by omega : j < 4096), hf]
    refine br_c (fun e => ?_) (fun e => ?_)
    · have e1 : fp_mkA π j (xx_inPlan u) = xx_inPlan u := by unfold fp_mkA; rw [if_pos e]
      rw [e1] at h
      exact fx_pr84 post _ C.1 hπ (by omega) h
    · refine And.intro hv ?_
      refine br_c (fun c => ?_) (fun c => ?_)
      · have e1 : fp_mkA π j (xx_inPlan u) = xx_inPlan u := by unfold fp_mkA; rw [if_neg e, if_pos c]
        rw [e1] at h
        exact fx_pr84 post _ C.1 hπ (by omega) h
      · have e1 : fp_mkA π j (xx_inPlan u) = upd (xx_inPlan u) (fp_fa π j) 1 := by unfold fp_mkA; rw [if_neg e, if_neg c]
        rw [e1] at h
        have h2 : fp_kd π j ≠ 0 := fun z => c (by rw [n1 z]; decide)
        have := n2 h2
        refine And.intro hv ?_
        rw [this.1, fi_cl (by have := this.2.1; omega : fp_fa π j < 4096), fi_b1]
        refine And.intro (vp_in_nI (by have := this.2.1; omega) (by decide)) ?_
        intro nd end'
        subst end'
        exact fx_pr84 (u := ((xx_nodes u), (xx_root u), (xx_codeLength u), (xx_mapWidth u), (xx_registersUsed u), (xx_depth u), (xx_overflow u), (xx_resultWidth u), (xx_resultRows u), (xx_tableCells u), (xx_tableRows u), (xx_kindOf u), (xx_first u), (xx_second u), (xx_p u), (xx_q u), (xx_r u), (xx_widthOf u), (xx_parent u), (upd (xx_inPlan u) (fp_fa π j) 1), (xx_given u), (xx_store u), (xx_storeRows u), (xx_heads u), (xx_chain u), (xx_op u), (xx_opA u), (xx_opB u), (xx_opC u), (xx_opD u), (xx_opE u), (xx_map u), (xx_picked u), (xx_register u), (xx_loopAt u), (xx_loopCode u), (xx_result u), (xx_order u))) post _ C.1 hπ (by omega) h
  intro j
  induction j with
  | zero =>
    intro u hj hπ hN h
    refine step 0 u 1 hj hπ ?_
    refine br_t (by decide) ?_
    exact h _ (fp_NI_s C hj hN)
  | succ j ih =>
    intro u hj hπ hN h
    refine step (j + 1) u (j + 2) hj hπ ?_
    rw [pk_m1]
    exact ih ((xx_nodes u), (xx_root u), (xx_codeLength u), (xx_mapWidth u), (xx_registersUsed u), (xx_depth u), (xx_overflow u), (xx_resultWidth u), (xx_resultRows u), (xx_tableCells u), (xx_tableRows u), (xx_kindOf u), (xx_first u), (xx_second u), (xx_p u), (xx_q u), (xx_r u), (xx_widthOf u), (xx_parent u), (fp_mkB π (j + 1) (fp_mkA π (j + 1) (xx_inPlan u))), (xx_given u), (xx_store u), (xx_storeRows u), (xx_heads u), (xx_chain u), (xx_op u), (xx_opA u), (xx_opB u), (xx_opC u), (xx_opD u), (xx_opE u), (xx_map u), (xx_picked u), (xx_register u), (xx_loopAt u), (xx_loopCode u), (xx_result u), (xx_order u)) (by omega) hπ (fp_NI_s C hj hN) h
theorem fx_pr7 {root : Nat} {u : SX} (post : SX → Prop) (hr : root < 12) (hroot : xx_root u = nI root) (h : ∀ nd gv, (∀ n, n < 12 → nd n = if n = root then 1 else 0) → (∀ n, n < 12 → gv n = 0) → ∃ n50, wX_prepare_50 post (xx_nodes u) (xx_root u) (xx_codeLength u) (xx_mapWidth u) (xx_registersUsed u) (xx_depth u) (xx_overflow u) (xx_resultWidth u) (xx_resultRows u) n50 (nI root) (xx_tableCells u) (xx_tableRows u) (xx_kindOf u) (xx_first u) (xx_second u) (xx_p u) (xx_q u) (xx_r u) (xx_widthOf u) (xx_parent u) nd gv (xx_store u) (xx_storeRows u) (xx_heads u) (xx_chain u) (xx_op u) (xx_opA u) (xx_opB u) (xx_opC u) (xx_opD u) (xx_opE u) (xx_map u) (xx_picked u) (xx_register u) (xx_loopAt u) (xx_loopCode u) (xx_result u) (xx_order u)) : ∀ d i nd gv, i + d = 12 → (∀ n, n < i → nd n = if n = root then 1 else 0) → (∀ n, n < i → gv n = 0) → wX_prepare_7 post (xx_nodes u) (xx_root u) (xx_codeLength u) (xx_mapWidth u) (xx_registersUsed u) (xx_depth u) (xx_overflow u) (xx_resultWidth u) (xx_resultRows u) (d + 1) (nI i) (xx_tableCells u) (xx_tableRows u) (xx_kindOf u) (xx_first u) (xx_second u) (xx_p u) (xx_q u) (xx_r u) (xx_widthOf u) (xx_parent u) nd gv (xx_store u) (xx_storeRows u) (xx_heads u) (xx_chain u) (xx_op u) (xx_opA u) (xx_opB u) (xx_opC u) (xx_opD u) (xx_opE u) (xx_map u) (xx_picked u) (xx_register u) (xx_loopAt u) (xx_loopCode u) (xx_result u) (xx_order u) := by
  intro d
  induction d with
  | zero =>
    intro i nd gv hi hn hg
    refine br_t (nI_le (a := 12) (by omega) (by omega)) ?_
    rw [hroot]
    have := h nd gv (fun n hn' => hn n (by omega)) (fun n hn' => hg n (by omega))
    rw [hroot] at this
    exact this
  | succ d ih =>
    intro i nd gv hi hn hg
    refine br_f (nI_ge (b := 12) (by omega) (by decide)) ?_
    have hv := vp_in_nI (n := i) (N := 12) (by omega) (by decide)
    have go : ∀ z0 : Int32, z0 = (if i = root then 1 else 0) → wX_prepare_31 post (wX_prepare_7 post (xx_nodes u) (xx_root u) (xx_codeLength u) (xx_mapWidth u) (xx_registersUsed u) (xx_depth u) (xx_overflow u) (xx_resultWidth u) (xx_resultRows u) (d + 1)) (nI i) z0 (nI i) (xx_nodes u) (xx_root u) (xx_codeLength u) (xx_mapWidth u) (xx_registersUsed u) (xx_depth u) (xx_overflow u) (xx_resultWidth u) (xx_resultRows u) (xx_tableCells u) (xx_tableRows u) (xx_kindOf u) (xx_first u) (xx_second u) (xx_p u) (xx_q u) (xx_r u) (xx_widthOf u) (xx_parent u) nd gv (xx_store u) (xx_storeRows u) (xx_heads u) (xx_chain u) (xx_op u) (xx_opA u) (xx_opB u) (xx_opC u) (xx_opD u) (xx_opE u) (xx_map u) (xx_picked u) (xx_register u) (xx_loopAt u) (xx_loopCode u) (xx_result u) (xx_order u) := by
      intro z0 hz0
      refine And.intro hv ?_
      rw [fi_cl (by omega : i < 4096), nI_1]
      intro nd2 e2
      refine And.intro hv ?_
      intro gv2 e3 y ey
      subst e3 ey
      have hz1 : vp_nar .boolean z0 = z0 := by
        by_cases z : i = root
        · rw [hz0, if_pos z]; rfl
        · rw [hz0, if_neg z]; rfl
      rw [hz1] at e2
      subst e2
      refine ih (i + 1) _ _ (by omega) (fun n hn2 => ?_) (fun n hn2 => ?_)
      · by_cases z : n = i
        · subst z; rw [fi_us]; exact hz0
        · rw [fi_un z]; exact hn n (by omega)
      · by_cases z : n = i
        · subst z; exact fi_us
        · rw [fi_un z]; exact hg n (by omega)
    refine br_c (fun e => ?_) (fun e => ?_)
    · refine go 1 ?_
      rw [hroot] at e
      rw [if_pos ((nI_eq (by omega) (by omega)).mp e)]
    · refine go 0 ?_
      rw [hroot] at e
      rw [if_neg (fun z => e (by rw [z]))]
theorem fx_prepare {π : fp_Pl} {m root : Nat} (C : fp_cx π m root) {u : SX} (hπ : fx_pl u = π) (hroot : xx_root u = nI root) (post : SX → Prop) (h : ∀ u', fx_p u' = fx_p u → xx_overflow u' = 0 → fx_IP π m root u' → fx_MS π root u' (fun _ => 0, fun _ => []) → post u') : wpX_prepare post u := by
  have hm := C.1.1
  have hr := C.2
  refine ⟨13, ?_⟩
  refine fx_pr7 (u := ((xx_nodes u), (xx_root u), (xx_codeLength u), (xx_mapWidth u), (xx_registersUsed u), (xx_depth u), 0, (xx_resultWidth u), (xx_resultRows u), (xx_tableCells u), (xx_tableRows u), (xx_kindOf u), (xx_first u), (xx_second u), (xx_p u), (xx_q u), (xx_r u), (xx_widthOf u), (xx_parent u), (xx_inPlan u), (xx_given u), (xx_store u), (xx_storeRows u), (xx_heads u), (xx_chain u), (xx_op u), (xx_opA u), (xx_opB u), (xx_opC u), (xx_opD u), (xx_opE u), (xx_map u), (xx_picked u), (xx_register u), (xx_loopAt u), (xx_loopCode u), (xx_result u), (xx_order u))) post (by omega) hroot (fun nd gv h1 h2 => ⟨root + 2, ?_⟩) 12 0 (xx_inPlan u) (xx_given u) (by omega) (fun n hn => by omega) (fun n hn => by omega)
  refine fx_pr50 post C root ((xx_nodes u), (xx_root u), (xx_codeLength u), (xx_mapWidth u), (xx_registersUsed u), (xx_depth u), 0, (xx_resultWidth u), (xx_resultRows u), (xx_tableCells u), (xx_tableRows u), (xx_kindOf u), (xx_first u), (xx_second u), (xx_p u), (xx_q u), (xx_r u), (xx_widthOf u), (xx_parent u), nd, gv, (xx_store u), (xx_storeRows u), (xx_heads u), (xx_chain u), (xx_op u), (xx_opA u), (xx_opB u), (xx_opC u), (xx_opD u), (xx_opE u), (xx_map u), (xx_picked u), (xx_register u), (xx_loopAt u), (xx_loopCode u), (xx_result u), (xx_order u)) (Nat.le_refl _) hπ (fp_NI_0 C h1) fun nd2 hnd2 => ⟨14, ?_⟩
  refine fx_pr122 (u := ((xx_nodes u), (xx_root u), (xx_codeLength u), (xx_mapWidth u), (xx_registersUsed u), (xx_depth u), 0, (xx_resultWidth u), (xx_resultRows u), (xx_tableCells u), (xx_tableRows u), (xx_kindOf u), (xx_first u), (xx_second u), (xx_p u), (xx_q u), (xx_r u), (xx_widthOf u), (xx_parent u), nd2, gv, (xx_store u), (xx_storeRows u), (xx_heads u), (xx_chain u), (xx_op u), (xx_opA u), (xx_opB u), (xx_opC u), (xx_opD u), (xx_opE u), (xx_map u), (xx_picked u), (xx_register u), (xx_loopAt u), (xx_loopCode u), (xx_result u), (xx_order u))) post (fun sr h3 => ⟨105, ?_⟩) 13 0 (xx_storeRows u) (by omega) (fun j hj => by omega)
  refine fx_pr143 (u := ((xx_nodes u), (xx_root u), (xx_codeLength u), (xx_mapWidth u), (xx_registersUsed u), (xx_depth u), 0, (xx_resultWidth u), (xx_resultRows u), (xx_tableCells u), (xx_tableRows u), (xx_kindOf u), (xx_first u), (xx_second u), (xx_p u), (xx_q u), (xx_r u), (xx_widthOf u), (xx_parent u), nd2, gv, (xx_store u), sr, (xx_heads u), (xx_chain u), (xx_op u), (xx_opA u), (xx_opB u), (xx_opC u), (xx_opD u), (xx_opE u), (xx_map u), (xx_picked u), (xx_register u), (xx_loopAt u), (xx_loopCode u), (xx_result u), (xx_order u))) post (fun hd h4 => ?_) 104 0 (xx_heads u) (by omega) (fun j hj => by omega)
  refine h _ rfl rfl (fun n hn => fp_NI_end C hnd2 hn) ⟨fun c hc => h2 c hc, fun a ha => ⟨Nat.zero_le _, h3 a ha, fun i hi => absurd hi (by simp), fun b hb => h4 _ (by omega), fun i hi => absurd hi (by simp)⟩⟩
theorem fp_done0 (π : fp_Pl) (root : Nat) (TB : Nat → List fp_Row) : fp_done π root TB 0 (fun _ => 0, fun _ => []) :=
  ⟨fun c _ _ _ => ⟨fun h => by omega, fun _ => rfl⟩, fun c _ _ _ => ⟨fun h => by omega, fun _ => rfl⟩, fun c _ => Nat.zero_le _⟩
end
section
/-! ## X: publish -/
/-- the root's area holds S, rows of width w -/
def fx_PB (u : SX) (S : List fp_Row) (w : Nat) : Prop := S.length ≤ 20 ∧ w ≤ 6 ∧ xx_resultWidth u = nI w ∧ xx_resultRows u = nI S.length ∧ ∀ i, i < S.length → (S.getD i []).length = w ∧ ∀ c, c < w → xx_store u (1440 + 6 * i + c) = (S.getD i []).getD c 0
theorem fx_cb2 {u : SX} {S : List fp_Row} {w a b : Nat} (post : Int32 → Prop) (hP : fx_PB u S w) (ha : a < S.length) (hb : b < S.length) : ∀ d c, c + d = w → post (if fp_lt ((S.getD a []).drop c) ((S.getD b []).drop c) then 1 else 0) → wX_comesBefore_2 post (nI a) (nI b) (xx_nodes u) (xx_root u) (xx_codeLength u) (xx_mapWidth u) (xx_registersUsed u) (xx_depth u) (xx_overflow u) (xx_resultWidth u) (xx_resultRows u) (xx_tableCells u) (xx_tableRows u) (xx_kindOf u) (xx_first u) (xx_second u) (xx_p u) (xx_q u) (xx_r u) (xx_widthOf u) (xx_parent u) (xx_inPlan u) (xx_given u) (xx_store u) (xx_storeRows u) (xx_heads u) (xx_chain u) (xx_op u) (xx_opA u) (xx_opB u) (xx_opC u) (xx_opD u) (xx_opE u) (xx_map u) (xx_picked u) (xx_register u) (xx_loopAt u) (xx_loopCode u) (xx_result u) (xx_order u) (d + 1) (nI c) := by
  obtain ⟨h20, hw6, hw, _, hS⟩ := hP
  have la := (hS a ha).1
  have lb := (hS b hb).1
  intro d
  induction d with
  | zero =>
    intro c hc h
    refine br_t (by rw [hw]; exact nI_le (by omega) (by omega)) ?_
    rw [List.drop_eq_nil_of_le (by omega), List.drop_eq_nil_of_le (by omega)] at h
    exact h
  | succ d ih =>
    intro c hc h
    refine br_f (by rw [hw]; exact nI_ge (by omega) (by omega)) ?_
    rw [fi_o, fi_o, fi_cl (by omega : 1440 + 6 * a + c < 4096), fi_cl (by omega : 1440 + 6 * b + c < 4096), (hS a ha).2 c (by omega), (hS b hb).2 c (by omega)]
    rw [fp_drop_c (by omega : c < (S.getD a []).length), fp_drop_c (by omega : c < (S.getD b []).length), fp_lt] at h
    refine And.intro (vp_in_nI (by omega) (by decide)) ?_
    intro x4 e4
    refine And.intro (vp_in_nI (by omega) (by decide)) ?_
    intro x5 e5
    subst e4 e5
    refine br_c (fun e => ?_) (fun e => ?_)
    · intro y ey
      rw [nI_1] at ey
      subst ey
      rw [if_pos e] at h
      exact ih (c + 1) (by omega) h
    · rw [if_neg e] at h
      refine br_c (fun c1 => ?_) (fun c1 => ?_)
      · rw [decide_eq_false (Int32.not_lt.mpr c1)] at h; exact h
      · rw [decide_eq_true (Int32.not_le.mp c1)] at h; exact h
theorem fx_comesBefore {u : SX} {S : List fp_Row} {w a b : Nat} (post : Int32 → Prop) (hP : fx_PB u S w) (ha : a < S.length) (hb : b < S.length) (h : post (if fp_lt (S.getD a []) (S.getD b []) then 1 else 0)) : wpX_comesBefore post u (nI a) (nI b) :=
  ⟨w + 1, fx_cb2 post hP ha hb w 0 (by omega) (by rw [List.drop_zero, List.drop_zero]; exact h)⟩
/-- insertion of row r into the order O, the hole being at k -/
theorem fx_pb38 {u : SX} {S : List fp_Row} {w r : Nat} {O : List Nat} (post : SX → Prop) (J26 : Int32 → (Nat → Int32) → (Nat → Int32) → (Nat → Int32) → (Nat → Int32) → (Nat → Int32) → (Nat → Int32) → (Nat → Int32) → (Nat → Int32) → (Nat → Int32) → (Nat → Int32) → (Nat → Int32) → (Nat → Int32) → (Nat → Int32) → (Nat → Int32) → (Nat → Int32) → (Nat → Int32) → (Nat → Int32) → (Nat → Int32) → (Nat → Int32) → (Nat → Int32) → (Nat → Int32) → (Nat → Int32) → (Nat → Int32) → (Nat → Int32) → (Nat → Int32) → (Nat → Int32) → (Nat → Int32) → (Nat → Int32) → (Nat → Int32) → Prop)
    (hP : fx_PB u S w) (hr : r < S.length) (hO : O.length = r) (hOS : ∀ i, i ∈ O → i < S.length)
    (h : ∀ k ord', k ≤ r → (∀ j, k ≤ j → j < r → fp_lt (S.getD r []) (S.getD (O.getD j 0) []) = true) → (0 < k → fp_lt (S.getD r []) (S.getD (O.getD (k - 1) 0) []) = false) → (∀ j, j < k → ord' j = nI (O.getD j 0)) → ord' k = nI r → (∀ j, k < j → j ≤ r → ord' j = nI (O.getD (j - 1) 0)) → J26 (nI (r + 1)) (xx_tableCells u) (xx_tableRows u) (xx_kindOf u) (xx_first u) (xx_second u) (xx_p u) (xx_q u) (xx_r u) (xx_widthOf u) (xx_parent u) (xx_inPlan u) (xx_given u) (xx_store u) (xx_storeRows u) (xx_heads u) (xx_chain u) (xx_op u) (xx_opA u) (xx_opB u) (xx_opC u) (xx_opD u) (xx_opE u) (xx_map u) (xx_picked u) (xx_register u) (xx_loopAt u) (xx_loopCode u) (xx_result u) ord') :
    ∀ k ord, k ≤ r → (∀ j, k ≤ j → j < r → fp_lt (S.getD r []) (S.getD (O.getD j 0) []) = true) → (∀ j, j < k → ord j = nI (O.getD j 0)) → (∀ j, k < j → j ≤ r → ord j = nI (O.getD (j - 1) 0)) → wX_publish_38 post J26 (nI r) (xx_nodes u) (xx_root u) (xx_codeLength u) (xx_mapWidth u) (xx_registersUsed u) (xx_depth u) (xx_overflow u) (xx_resultWidth u) (xx_resultRows u) (k + 2) (nI k) (nI k) (xx_tableCells u) (xx_tableRows u) (xx_kindOf u) (xx_first u) (xx_second u) (xx_p u) (xx_q u) (xx_r u) (xx_widthOf u) (xx_parent u) (xx_inPlan u) (xx_given u) (xx_store u) (xx_storeRows u) (xx_heads u) (xx_chain u) (xx_op u) (xx_opA u) (xx_opB u) (xx_opC u) (xx_opD u) (xx_opE u) (xx_map u) (xx_picked u) (xx_register u) (xx_loopAt u) (xx_loopCode u) (xx_result u) ord := by
  have h20 := hP.1
  intro k
  induction k with
  | zero =>
    intro ord hk h1 h2 h3
    refine br_t (nI_le (a := 0) (b := 0) (Nat.le_refl _) (by decide)) ?_
    rw [fi_cl (by decide : 0 < 4096), nI_1]
    refine And.intro (vp_in_nI (by decide) (by decide)) ?_
    intro o2 e2 y ey
    subst e2 ey
    exact h 0 _ hk h1 (fun z => by omega) (fun j hj => by omega) fi_us fun j hj1 hj2 => by rw [fi_un (by omega)]; exact h3 j hj1 hj2
  | succ k ih =>
    intro ord hk h1 h2 h3
    have hkO : k < O.length := by omega
    have hin := hOS _ (fp_gd_mem O 0 hkO)
    refine br_f (nI_nle (by omega) (by omega)) (br_t rfl ?_)
    rw [nI_pred, fi_cl (by omega : k < 4096), h2 k (by omega)]
    refine And.intro (vp_in_nI (by omega) (by decide)) ?_
    refine fx_comesBefore (u := ((xx_nodes u), (xx_root u), (xx_codeLength u), (xx_mapWidth u), (xx_registersUsed u), (xx_depth u), (xx_overflow u), (xx_resultWidth u), (xx_resultRows u), (xx_tableCells u), (xx_tableRows u), (xx_kindOf u), (xx_first u), (xx_second u), (xx_p u), (xx_q u), (xx_r u), (xx_widthOf u), (xx_parent u), (xx_inPlan u), (xx_given u), (xx_store u), (xx_storeRows u), (xx_heads u), (xx_chain u), (xx_op u), (xx_opA u), (xx_opB u), (xx_opC u), (xx_opD u), (xx_opE u), (xx_map u), (xx_picked u), (xx_register u), (xx_loopAt u), (xx_loopCode u), (xx_result u), ord)) _ hP hr hin ?_
    cases hc : fp_lt (S.getD r []) (S.getD (O.getD k 0) []) with
    | false =>
      refine br_t rfl ?_
      intro y ey
      rw [pk_m1] at ey
      subst ey
      have fin : vp_in (nI (k + 1)) 20 ∧ ∀ o2, o2 = upd ord (nI (k + 1)).toNatClampNeg (nI r) → ∀ y, y = nI r + 1 → J26 y (xx_tableCells u) (xx_tableRows u) (xx_kindOf u) (xx_first u) (xx_second u) (xx_p u) (xx_q u) (xx_r u) (xx_widthOf u) (xx_parent u) (xx_inPlan u) (xx_given u) (xx_store u) (xx_storeRows u) (xx_heads u) (xx_chain u) (xx_op u) (xx_opA u) (xx_opB u) (xx_opC u) (xx_opD u) (xx_opE u) (xx_map u) (xx_picked u) (xx_register u) (xx_loopAt u) (xx_loopCode u) (xx_result u) o2 := by
        rw [fi_cl (by omega : k + 1 < 4096), nI_1]
        refine ⟨vp_in_nI (by omega) (by decide), ?_⟩
        intro o2 e2 y ey
        subst e2 ey
        refine h (k + 1) _ hk h1 (fun _ => hc) (fun j hj => by rw [fi_un (by omega)]; exact h2 j hj) fi_us fun j hj1 hj2 => by rw [fi_un (by omega)]; exact h3 j hj1 hj2
      by_cases z : k = 0
      · subst z
        exact br_t (nI_le (a := 0) (b := 0) (Nat.le_refl _) (by decide)) fin
      · exact br_f (nI_nle (by omega) (by omega)) (br_f (fun y => by have := (nI_eq (by omega) (by omega)).mp y; omega) fin)
    | true =>
      refine br_f (by decide) ?_
      rw [fi_cl (by omega : k + 1 < 4096)]
      refine And.intro (vp_in_nI (by omega) (by decide)) (And.intro (vp_in_nI (by omega) (by decide)) ?_)
      intro o2 e2 x2 ex2 x3 ex3
      rw [pk_m1] at ex3
      subst e2 ex2 ex3
      refine ih _ (by omega) (fun j hj1 hj2 => ?_) (fun j hj => ?_) (fun j hj1 hj2 => ?_)
      · by_cases z : j = k
        · subst z; exact hc
        · exact h1 j (by omega) hj2
      · rw [fi_un (by omega)]; exact h2 j (by omega)
      · by_cases z : j = k + 1
        · subst z; rw [fi_us, Nat.add_sub_cancel]
        · rw [fi_un z]; exact h3 j (by omega) hj2
theorem fp_ins_get (O : List Nat) (r k j : Nat) (hk : k ≤ O.length) : (O.take k ++ r :: O.drop k).getD j 0 = if j < k then O.getD j 0 else if j = k then r else O.getD (j - 1) 0 := by
  have hl : (O.take k).length = k := by rw [List.length_take]; omega
  by_cases c : j < k
  · rw [if_pos c, fp_gd_app _ _ _ (by omega), fp_gd _ _ (by omega), List.getElem_take, fp_gd O 0 (by omega)]
  · rw [if_neg c]
    have e1 : j = (O.take k).length + (j - k) := by omega
    by_cases d : j = k
    · rw [if_pos d, e1, fp_gd_app2]
      have : j - k = 0 := by omega
      rw [this]; rfl
    · rw [if_neg d]
      have e2 : j - k = (j - 1 - k) + 1 := by omega
      rw [e1, fp_gd_app2, e2, List.getD_cons_succ]
      unfold List.getD
      rw [List.getElem?_drop]
      congr 2
      omega
/-- an order of the first r rows -/
def fx_OK (S : List fp_Row) (O : List Nat) (r : Nat) (ord : Nat → Int32) : Prop := O.Perm (List.range r) ∧ O.Pairwise (fun a b => fp_lt (S.getD b []) (S.getD a []) = false) ∧ ∀ j, j < r → ord j = nI (O.getD j 0)
theorem fx_OK_s {S : List fp_Row} {w : Nat} (hW : ∀ z, z ∈ S → z.length = w) {O : List Nat} {r k : Nat} {ord ord' : Nat → Int32} (hr : r < S.length) (hO : fx_OK S O r ord) (hk : k ≤ r) (h1 : ∀ j, k ≤ j → j < r → fp_lt (S.getD r []) (S.getD (O.getD j 0) []) = true) (h2 : 0 < k → fp_lt (S.getD r []) (S.getD (O.getD (k - 1) 0) []) = false) (g1 : ∀ j, j < k → ord' j = nI (O.getD j 0)) (g2 : ord' k = nI r) (g3 : ∀ j, k < j → j ≤ r → ord' j = nI (O.getD (j - 1) 0)) : fx_OK S (O.take k ++ r :: O.drop k) (r + 1) ord' := by
  obtain ⟨p1, p2, p3⟩ := hO
  have hl : O.length = r := by rw [p1.length_eq, List.length_range]
  have hin : ∀ i, i ∈ O → i < S.length := fun i hi => by
    have := List.mem_range.mp (p1.mem_iff.mp hi); omega
  refine ⟨?_, fp_insert S O r k hW hin hr (by omega) p2 (fun j hj1 hj2 => h1 j hj1 (by omega)) h2, fun j hj => ?_⟩
  · rw [List.range_succ]
    refine List.perm_middle.trans ?_
    rw [List.take_append_drop]
    exact (List.Perm.cons r p1).trans (List.perm_append_singleton r _).symm
  · rw [fp_ins_get O r k j (by omega)]
    by_cases c : j < k
    · rw [if_pos c]; exact g1 j c
    · rw [if_neg c]
      by_cases d : j = k
      · subst d; rw [if_pos rfl]; exact g2
      · rw [if_neg d]; exact g3 j (by omega) (by omega)
theorem fx_pb112 {u : SX} {S : List fp_Row} {w r i : Nat} (post : SX → Prop) (J102 : Int32 → (Nat → Int32) → (Nat → Int32) → (Nat → Int32) → (Nat → Int32) → (Nat → Int32) → (Nat → Int32) → (Nat → Int32) → (Nat → Int32) → (Nat → Int32) → (Nat → Int32) → (Nat → Int32) → (Nat → Int32) → (Nat → Int32) → (Nat → Int32) → (Nat → Int32) → (Nat → Int32) → (Nat → Int32) → (Nat → Int32) → (Nat → Int32) → (Nat → Int32) → (Nat → Int32) → (Nat → Int32) → (Nat → Int32) → (Nat → Int32) → (Nat → Int32) → (Nat → Int32) → (Nat → Int32) → (Nat → Int32) → (Nat → Int32) → Prop)
    (hP : fx_PB u S w) (hr : r < S.length) (hi : i < S.length) (ho : xx_order u r = nI i) : ∀ d c res, c + d = w → (∀ res', (∀ j, (j < 6 * r + c ∨ 6 * r + w ≤ j) → res' j = res j) → (∀ j, c ≤ j → j < w → res' (6 * r + j) = (S.getD i []).getD j 0) → J102 (nI (r + 1)) (xx_tableCells u) (xx_tableRows u) (xx_kindOf u) (xx_first u) (xx_second u) (xx_p u) (xx_q u) (xx_r u) (xx_widthOf u) (xx_parent u) (xx_inPlan u) (xx_given u) (xx_store u) (xx_storeRows u) (xx_heads u) (xx_chain u) (xx_op u) (xx_opA u) (xx_opB u) (xx_opC u) (xx_opD u) (xx_opE u) (xx_map u) (xx_picked u) (xx_register u) (xx_loopAt u) (xx_loopCode u) res' (xx_order u)) → wX_publish_112 post J102 (nI r) (xx_nodes u) (xx_root u) (xx_codeLength u) (xx_mapWidth u) (xx_registersUsed u) (xx_depth u) (xx_overflow u) (xx_resultWidth u) (xx_resultRows u) (d + 1) (nI c) (xx_tableCells u) (xx_tableRows u) (xx_kindOf u) (xx_first u) (xx_second u) (xx_p u) (xx_q u) (xx_r u) (xx_widthOf u) (xx_parent u) (xx_inPlan u) (xx_given u) (xx_store u) (xx_storeRows u) (xx_heads u) (xx_chain u) (xx_op u) (xx_opA u) (xx_opB u) (xx_opC u) (xx_opD u) (xx_opE u) (xx_map u) (xx_picked u) (xx_register u) (xx_loopAt u) (xx_loopCode u) res (xx_order u) := by
  obtain ⟨h20, hw6, hw, _, hS⟩ := hP
  intro d
  induction d with
  | zero =>
    intro c res hc h
    refine br_t (by rw [hw]; exact nI_le (by omega) (by omega)) ?_
    intro y ey
    rw [nI_1] at ey
    subst ey
    exact h res (fun _ _ => rfl) (fun j h1 h2 => by omega)
  | succ d ih =>
    intro c res hc h
    refine br_f (by rw [hw]; exact nI_ge (by omega) (by omega)) ?_
    rw [fi_cl (by omega : r < 4096), ho, fi_o, fi_r, fi_cl (by omega : 1440 + 6 * i + c < 4096), fi_cl (by omega : 6 * r + c < 4096), nI_1, (hS i hi).2 c (by omega)]
    refine And.intro (vp_in_nI (by omega) (by decide)) (And.intro (vp_in_nI (by omega) (by decide)) (And.intro (vp_in_nI (by omega) (by decide)) ?_))
    intro res2 e2 y ey
    subst e2 ey
    refine ih (c + 1) _ (by omega) fun res' h1 h2 => h res' (fun j hj => ?_) (fun j hj1 hj2 => ?_)
    · rw [h1 j (by omega), fi_un (by omega)]
    · by_cases e : j = c
      · subst e
        rw [h1 _ (by omega), fi_us]
      · exact h2 j (by omega) hj2
theorem fx_pb102 {S : List fp_Row} {w : Nat} {O : List Nat} (post : SX → Prop) (hO : O.Perm (List.range S.length)) : ∀ d r (u : SX), r + d = S.length → fx_PB u S w → (∀ j, j < S.length → xx_order u j = nI (O.getD j 0)) → (∀ p, p < r → ∀ c, c < w → xx_result u (6 * p + c) = (S.getD (O.getD p 0) []).getD c 0) → (∀ res', (∀ p, p < S.length → ∀ c, c < w → res' (6 * p + c) = (S.getD (O.getD p 0) []).getD c 0) → post ((xx_nodes u), (xx_root u), (xx_codeLength u), (xx_mapWidth u), (xx_registersUsed u), (xx_depth u), (xx_overflow u), (xx_resultWidth u), (xx_resultRows u), (xx_tableCells u), (xx_tableRows u), (xx_kindOf u), (xx_first u), (xx_second u), (xx_p u), (xx_q u), (xx_r u), (xx_widthOf u), (xx_parent u), (xx_inPlan u), (xx_given u), (xx_store u), (xx_storeRows u), (xx_heads u), (xx_chain u), (xx_op u), (xx_opA u), (xx_opB u), (xx_opC u), (xx_opD u), (xx_opE u), (xx_map u), (xx_picked u), (xx_register u), (xx_loopAt u), (xx_loopCode u), res', (xx_order u))) → wX_publish_102 post (xx_nodes u) (xx_root u) (xx_codeLength u) (xx_mapWidth u) (xx_registersUsed u) (xx_depth u) (xx_overflow u) (xx_resultWidth u) (xx_resultRows u) (d + 1) (nI r) (xx_tableCells u) (xx_tableRows u) (xx_kindOf u) (xx_first u) (xx_second u) (xx_p u) (xx_q u) (xx_r u) (xx_widthOf u) (xx_parent u) (xx_inPlan u) (xx_given u) (xx_store u) (xx_storeRows u) (xx_heads u) (xx_chain u) (xx_op u) (xx_opA u) (xx_opB u) (xx_opC u) (xx_opD u) (xx_opE u) (xx_map u) (xx_picked u) (xx_register u) (xx_loopAt u) (xx_loopCode u) (xx_result u) (xx_order u) := by
  have hl : O.length = S.length := by rw [hO.length_eq, List.length_range]
  intro d
  induction d with
  | zero =>
    intro r u hr hP ho hres h
    have h20 := hP.1
    refine br_t (by rw [hP.2.2.2.1]; exact nI_le (by omega) (by omega)) ?_
    exact h (xx_result u) fun p hp => hres p (by omega)
  | succ d ih =>
    intro r u hr hP ho hres h
    have h20 := hP.1
    have hw6 := hP.2.1
    have hin : O.getD r 0 < S.length := List.mem_range.mp (hO.mem_iff.mp (fp_gd_mem O 0 (by omega)))
    refine br_f (by rw [hP.2.2.2.1]; exact nI_ge (by omega) (by omega)) ⟨w + 1, ?_⟩
    refine fx_pb112 post _ hP (by omega) hin (ho r (by omega)) w 0 (xx_result u) (by omega) fun res' h1 h2 => ?_
    refine ih (r + 1) ((xx_nodes u), (xx_root u), (xx_codeLength u), (xx_mapWidth u), (xx_registersUsed u), (xx_depth u), (xx_overflow u), (xx_resultWidth u), (xx_resultRows u), (xx_tableCells u), (xx_tableRows u), (xx_kindOf u), (xx_first u), (xx_second u), (xx_p u), (xx_q u), (xx_r u), (xx_widthOf u), (xx_parent u), (xx_inPlan u), (xx_given u), (xx_store u), (xx_storeRows u), (xx_heads u), (xx_chain u), (xx_op u), (xx_opA u), (xx_opB u), (xx_opC u), (xx_opD u), (xx_opE u), (xx_map u), (xx_picked u), (xx_register u), (xx_loopAt u), (xx_loopCode u), res', (xx_order u)) (by omega) hP ho (fun p hp c hc => ?_) h
    show res' _ = _
    by_cases e : p = r
    · subst e; exact h2 c (by omega) hc
    · rw [h1 _ (by omega)]; exact hres p (by omega) c hc
theorem fx_pb26 {S : List fp_Row} {w : Nat} (post : SX → Prop) (hW : ∀ z, z ∈ S → z.length = w) : ∀ d r (u : SX) O, r + d = S.length → fx_PB u S w → fx_OK S O r (xx_order u) → (∀ ord O', fx_OK S O' S.length ord → ∃ n102, wX_publish_102 post (xx_nodes u) (xx_root u) (xx_codeLength u) (xx_mapWidth u) (xx_registersUsed u) (xx_depth u) (xx_overflow u) (xx_resultWidth u) (xx_resultRows u) n102 0 (xx_tableCells u) (xx_tableRows u) (xx_kindOf u) (xx_first u) (xx_second u) (xx_p u) (xx_q u) (xx_r u) (xx_widthOf u) (xx_parent u) (xx_inPlan u) (xx_given u) (xx_store u) (xx_storeRows u) (xx_heads u) (xx_chain u) (xx_op u) (xx_opA u) (xx_opB u) (xx_opC u) (xx_opD u) (xx_opE u) (xx_map u) (xx_picked u) (xx_register u) (xx_loopAt u) (xx_loopCode u) (xx_result u) ord) → wX_publish_26 post (xx_nodes u) (xx_root u) (xx_codeLength u) (xx_mapWidth u) (xx_registersUsed u) (xx_depth u) (xx_overflow u) (xx_resultWidth u) (xx_resultRows u) (d + 1) (nI r) (xx_tableCells u) (xx_tableRows u) (xx_kindOf u) (xx_first u) (xx_second u) (xx_p u) (xx_q u) (xx_r u) (xx_widthOf u) (xx_parent u) (xx_inPlan u) (xx_given u) (xx_store u) (xx_storeRows u) (xx_heads u) (xx_chain u) (xx_op u) (xx_opA u) (xx_opB u) (xx_opC u) (xx_opD u) (xx_opE u) (xx_map u) (xx_picked u) (xx_register u) (xx_loopAt u) (xx_loopCode u) (xx_result u) (xx_order u) := by
  intro d
  induction d with
  | zero =>
    intro r u O hr hP hO h
    have h20 := hP.1
    have e : r = S.length := by omega
    subst e
    refine br_t (by rw [hP.2.2.2.1]; exact nI_le (Nat.le_refl _) (by omega)) ?_
    exact h (xx_order u) O hO
  | succ d ih =>
    intro r u O hr hP hO h
    have h20 := hP.1
    have hl : O.length = r := by rw [hO.1.length_eq, List.length_range]
    have hin : ∀ i, i ∈ O → i < S.length := fun i hi => by
      have := List.mem_range.mp (hO.1.mem_iff.mp hi); omega
    refine br_f (by rw [hP.2.2.2.1]; exact nI_ge (by omega) (by omega)) ⟨r + 2, ?_⟩
    refine fx_pb38 post _ hP (by omega) hl hin (fun k ord' h0 h1 h2 g1 g2 g3 => ?_) r (xx_order u) (Nat.le_refl _) (fun j hj1 hj2 => by omega) (fun j hj => hO.2.2 j hj) (fun j hj1 hj2 => by omega)
    exact ih (r + 1) ((xx_nodes u), (xx_root u), (xx_codeLength u), (xx_mapWidth u), (xx_registersUsed u), (xx_depth u), (xx_overflow u), (xx_resultWidth u), (xx_resultRows u), (xx_tableCells u), (xx_tableRows u), (xx_kindOf u), (xx_first u), (xx_second u), (xx_p u), (xx_q u), (xx_r u), (xx_widthOf u), (xx_parent u), (xx_inPlan u), (xx_given u), (xx_store u), (xx_storeRows u), (xx_heads u), (xx_chain u), (xx_op u), (xx_opA u), (xx_opB u), (xx_opC u), (xx_opD u), (xx_opE u), (xx_map u), (xx_picked u), (xx_register u), (xx_loopAt u), (xx_loopCode u), (xx_result u), ord') (O.take k ++ r :: O.drop k) (by omega) hP (fx_OK_s hW (by omega) hO h0 h1 h2 g1 g2 g3) h
abbrev fx_b (v : SX) : Int32 × Int32 × Int32 × Int32 × Int32 × Int32 × Int32 × (Nat → Int32) × (Nat → Int32) × (Nat → Int32) × (Nat → Int32) × (Nat → Int32) × (Nat → Int32) × (Nat → Int32) × (Nat → Int32) × (Nat → Int32) × (Nat → Int32) × (Nat → Int32) × (Nat → Int32) × (Nat → Int32) × (Nat → Int32) × (Nat → Int32) × (Nat → Int32) × (Nat → Int32) × (Nat → Int32) × (Nat → Int32) × (Nat → Int32) × (Nat → Int32) × (Nat → Int32) × (Nat → Int32) × (Nat → Int32) × (Nat → Int32) × (Nat → Int32) × (Nat → Int32) := (xx_nodes v, xx_root v, xx_codeLength v, xx_mapWidth v, xx_registersUsed v, xx_depth v, xx_overflow v, xx_tableCells v, xx_tableRows v, xx_kindOf v, xx_first v, xx_second v, xx_p v, xx_q v, xx_r v, xx_widthOf v, xx_parent v, xx_inPlan v, xx_given v, xx_store v, xx_storeRows v, xx_heads v, xx_chain v, xx_op v, xx_opA v, xx_opB v, xx_opC v, xx_opD v, xx_opE v, xx_map v, xx_picked v, xx_register v, xx_loopAt v, xx_loopCode v)
theorem fx_b_nodes {v v' : SX} (h : fx_b v' = fx_b v) : xx_nodes v' = xx_nodes v := congrArg (fun e => e.1) h
theorem fx_b_root {v v' : SX} (h : fx_b v' = fx_b v) : xx_root v' = xx_root v := congrArg (fun e => e.2.1) h
theorem fx_b_codeLength {v v' : SX} (h : fx_b v' = fx_b v) : xx_codeLength v' = xx_codeLength v := congrArg (fun e => e.2.2.1) h
theorem fx_b_mapWidth {v v' : SX} (h : fx_b v' = fx_b v) : xx_mapWidth v' = xx_mapWidth v := congrArg (fun e => e.2.2.2.1) h
theorem fx_b_registersUsed {v v' : SX} (h : fx_b v' = fx_b v) : xx_registersUsed v' = xx_registersUsed v := congrArg (fun e => e.2.2.2.2.1) h
theorem fx_b_depth {v v' : SX} (h : fx_b v' = fx_b v) : xx_depth v' = xx_depth v := congrArg (fun e => e.2.2.2.2.2.1) h
theorem fx_b_overflow {v v' : SX} (h : fx_b v' = fx_b v) : xx_overflow v' = xx_overflow v := congrArg (fun e => e.2.2.2.2.2.2.1) h
theorem fx_b_tableCells {v v' : SX} (h : fx_b v' = fx_b v) : xx_tableCells v' = xx_tableCells v := congrArg (fun e => e.2.2.2.2.2.2.2.1) h
theorem fx_b_tableRows {v v' : SX} (h : fx_b v' = fx_b v) : xx_tableRows v' = xx_tableRows v := congrArg (fun e => e.2.2.2.2.2.2.2.2.1) h
theorem fx_b_kindOf {v v' : SX} (h : fx_b v' = fx_b v) : xx_kindOf v' = xx_kindOf v := congrArg (fun e => e.2.2.2.2.2.2.2.2.2.1) h
theorem fx_b_first {v v' : SX} (h : fx_b v' = fx_b v) : xx_first v' = xx_first v := congrArg (fun e => e.2.2.2.2.2.2.2.2.2.2.1) h
theorem fx_b_second {v v' : SX} (h : fx_b v' = fx_b v) : xx_second v' = xx_second v := congrArg (fun e => e.2.2.2.2.2.2.2.2.2.2.2.1) h
theorem fx_b_p {v v' : SX} (h : fx_b v' = fx_b v) : xx_p v' = xx_p v := congrArg (fun e => e.2.2.2.2.2.2.2.2.2.2.2.2.1) h
theorem fx_b_q {v v' : SX} (h : fx_b v' = fx_b v) : xx_q v' = xx_q v := congrArg (fun e => e.2.2.2.2.2.2.2.2.2.2.2.2.2.1) h
theorem fx_b_r {v v' : SX} (h : fx_b v' = fx_b v) : xx_r v' = xx_r v := congrArg (fun e => e.2.2.2.2.2.2.2.2.2.2.2.2.2.2.1) h
theorem fx_b_widthOf {v v' : SX} (h : fx_b v' = fx_b v) : xx_widthOf v' = xx_widthOf v := congrArg (fun e => e.2.2.2.2.2.2.2.2.2.2.2.2.2.2.2.1) h
theorem fx_b_parent {v v' : SX} (h : fx_b v' = fx_b v) : xx_parent v' = xx_parent v := congrArg (fun e => e.2.2.2.2.2.2.2.2.2.2.2.2.2.2.2.2.1) h
theorem fx_b_inPlan {v v' : SX} (h : fx_b v' = fx_b v) : xx_inPlan v' = xx_inPlan v := congrArg (fun e => e.2.2.2.2.2.2.2.2.2.2.2.2.2.2.2.2.2.1) h
theorem fx_b_given {v v' : SX} (h : fx_b v' = fx_b v) : xx_given v' = xx_given v := congrArg (fun e => e.2.2.2.2.2.2.2.2.2.2.2.2.2.2.2.2.2.2.1) h
theorem fx_b_store {v v' : SX} (h : fx_b v' = fx_b v) : xx_store v' = xx_store v := congrArg (fun e => e.2.2.2.2.2.2.2.2.2.2.2.2.2.2.2.2.2.2.2.1) h
theorem fx_b_storeRows {v v' : SX} (h : fx_b v' = fx_b v) : xx_storeRows v' = xx_storeRows v := congrArg (fun e => e.2.2.2.2.2.2.2.2.2.2.2.2.2.2.2.2.2.2.2.2.1) h
theorem fx_b_heads {v v' : SX} (h : fx_b v' = fx_b v) : xx_heads v' = xx_heads v := congrArg (fun e => e.2.2.2.2.2.2.2.2.2.2.2.2.2.2.2.2.2.2.2.2.2.1) h
theorem fx_b_chain {v v' : SX} (h : fx_b v' = fx_b v) : xx_chain v' = xx_chain v := congrArg (fun e => e.2.2.2.2.2.2.2.2.2.2.2.2.2.2.2.2.2.2.2.2.2.2.1) h
theorem fx_b_op {v v' : SX} (h : fx_b v' = fx_b v) : xx_op v' = xx_op v := congrArg (fun e => e.2.2.2.2.2.2.2.2.2.2.2.2.2.2.2.2.2.2.2.2.2.2.2.1) h
theorem fx_b_opA {v v' : SX} (h : fx_b v' = fx_b v) : xx_opA v' = xx_opA v := congrArg (fun e => e.2.2.2.2.2.2.2.2.2.2.2.2.2.2.2.2.2.2.2.2.2.2.2.2.1) h
theorem fx_b_opB {v v' : SX} (h : fx_b v' = fx_b v) : xx_opB v' = xx_opB v := congrArg (fun e => e.2.2.2.2.2.2.2.2.2.2.2.2.2.2.2.2.2.2.2.2.2.2.2.2.2.1) h
theorem fx_b_opC {v v' : SX} (h : fx_b v' = fx_b v) : xx_opC v' = xx_opC v := congrArg (fun e => e.2.2.2.2.2.2.2.2.2.2.2.2.2.2.2.2.2.2.2.2.2.2.2.2.2.2.1) h
theorem fx_b_opD {v v' : SX} (h : fx_b v' = fx_b v) : xx_opD v' = xx_opD v := congrArg (fun e => e.2.2.2.2.2.2.2.2.2.2.2.2.2.2.2.2.2.2.2.2.2.2.2.2.2.2.2.1) h
theorem fx_b_opE {v v' : SX} (h : fx_b v' = fx_b v) : xx_opE v' = xx_opE v := congrArg (fun e => e.2.2.2.2.2.2.2.2.2.2.2.2.2.2.2.2.2.2.2.2.2.2.2.2.2.2.2.2.1) h
theorem fx_b_map {v v' : SX} (h : fx_b v' = fx_b v) : xx_map v' = xx_map v := congrArg (fun e => e.2.2.2.2.2.2.2.2.2.2.2.2.2.2.2.2.2.2.2.2.2.2.2.2.2.2.2.2.2.1) h
theorem fx_b_picked {v v' : SX} (h : fx_b v' = fx_b v) : xx_picked v' = xx_picked v := congrArg (fun e => e.2.2.2.2.2.2.2.2.2.2.2.2.2.2.2.2.2.2.2.2.2.2.2.2.2.2.2.2.2.2.1) h
theorem fx_b_register {v v' : SX} (h : fx_b v' = fx_b v) : xx_register v' = xx_register v := congrArg (fun e => e.2.2.2.2.2.2.2.2.2.2.2.2.2.2.2.2.2.2.2.2.2.2.2.2.2.2.2.2.2.2.2.1) h
theorem fx_b_loopAt {v v' : SX} (h : fx_b v' = fx_b v) : xx_loopAt v' = xx_loopAt v := congrArg (fun e => e.2.2.2.2.2.2.2.2.2.2.2.2.2.2.2.2.2.2.2.2.2.2.2.2.2.2.2.2.2.2.2.2.1) h
theorem fx_b_loopCode {v v' : SX} (h : fx_b v' = fx_b v) : xx_loopCode v' = xx_loopCode v := congrArg (fun e => e.2.2.2.2.2.2.2.2.2.2.2.2.2.2.2.2.2.2.2.2.2.2.2.2.2.2.2.2.2.2.2.2.2) h
theorem fx_publish {u : SX} {S : List fp_Row} {root w kc : Nat} (post : SX → Prop) (hr : root < 12) (hroot : xx_root u = nI root) (hwr : xx_widthOf u root = nI w) (hw6 : w ≤ 6) (hA : fx_AR (xx_store u) (xx_storeRows u) (xx_heads u) (xx_chain u) 12 S w kc)
    (h : ∀ u' Z, fx_b u' = fx_b u → Z.Perm S → fp_sorted Z → xx_resultRows u' = nI Z.length → xx_resultWidth u' = nI w → (∀ p, p < Z.length → ∀ c, c < w → xx_result u' (6 * p + c) = (Z.getD p []).getD c 0) → post u') : wpX_publish post u := by
  obtain ⟨a1, a2, a3, _⟩ := hA
  have hW : ∀ z, z ∈ S → z.length = w := fun z hz => by
    obtain ⟨k, k1, k2⟩ := fp_gd_of_mem [] hz
    rw [← k2]; exact (a3 k k1).1
  show wpX_publish post ((xx_nodes u), (xx_root u), (xx_codeLength u), (xx_mapWidth u), (xx_registersUsed u), (xx_depth u), (xx_overflow u), (xx_resultWidth u), (xx_resultRows u), (xx_tableCells u), (xx_tableRows u), (xx_kindOf u), (xx_first u), (xx_second u), (xx_p u), (xx_q u), (xx_r u), (xx_widthOf u), (xx_parent u), (xx_inPlan u), (xx_given u), (xx_store u), (xx_storeRows u), (xx_heads u), (xx_chain u), (xx_op u), (xx_opA u), (xx_opB u), (xx_opC u), (xx_opD u), (xx_opE u), (xx_map u), (xx_picked u), (xx_register u), (xx_loopAt u), (xx_loopCode u), (xx_result u), (xx_order u))
  refine And.intro (by rw [hroot]; exact vp_in_nI hr (by decide)) ?_
  rw [hroot, fi_cl (by omega : root < 4096), hwr, a2]
  intro ww eww rr err
  subst eww err
  rw [← hroot]
  refine ⟨S.length + 1, ?_⟩
  refine fx_pb26 (S := S) (w := w) post hW S.length 0 ((xx_nodes u), (xx_root u), (xx_codeLength u), (xx_mapWidth u), (xx_registersUsed u), (xx_depth u), (xx_overflow u), (nI w), (nI S.length), (xx_tableCells u), (xx_tableRows u), (xx_kindOf u), (xx_first u), (xx_second u), (xx_p u), (xx_q u), (xx_r u), (xx_widthOf u), (xx_parent u), (xx_inPlan u), (xx_given u), (xx_store u), (xx_storeRows u), (xx_heads u), (xx_chain u), (xx_op u), (xx_opA u), (xx_opB u), (xx_opC u), (xx_opD u), (xx_opE u), (xx_map u), (xx_picked u), (xx_register u), (xx_loopAt u), (xx_loopCode u), (xx_result u), (xx_order u)) [] (by omega) ⟨a1, hw6, rfl, rfl, fun i hi => ⟨(a3 i hi).1, fun c hc => (a3 i hi).2 c hc⟩⟩ ⟨List.Perm.refl _, List.Pairwise.nil, fun j hj => by omega⟩ fun ord O hO => ⟨S.length + 1, ?_⟩
  obtain ⟨o1, o2, o3⟩ := hO
  have hl : O.length = S.length := by rw [o1.length_eq, List.length_range]
  refine fx_pb102 (S := S) (w := w) post o1 S.length 0 ((xx_nodes u), (xx_root u), (xx_codeLength u), (xx_mapWidth u), (xx_registersUsed u), (xx_depth u), (xx_overflow u), (nI w), (nI S.length), (xx_tableCells u), (xx_tableRows u), (xx_kindOf u), (xx_first u), (xx_second u), (xx_p u), (xx_q u), (xx_r u), (xx_widthOf u), (xx_parent u), (xx_inPlan u), (xx_given u), (xx_store u), (xx_storeRows u), (xx_heads u), (xx_chain u), (xx_op u), (xx_opA u), (xx_opB u), (xx_opC u), (xx_opD u), (xx_opE u), (xx_map u), (xx_picked u), (xx_register u), (xx_loopAt u), (xx_loopCode u), (xx_result u), ord) (by omega) ⟨a1, hw6, rfl, rfl, fun i hi => ⟨(a3 i hi).1, fun c hc => (a3 i hi).2 c hc⟩⟩ o3 (fun p hp => by omega) fun res' hres => ?_
  refine h _ (O.map (fun i => S.getD i [])) rfl ?_ ?_ ?_ rfl ?_
  · have := o1.map (fun i => S.getD i [])
    rw [fp_range_map] at this
    exact this
  · unfold fp_sorted
    rw [List.pairwise_map]; exact o2
  · show nI S.length = _
    rw [List.length_map, hl]
  · intro p hp c hc
    rw [List.length_map] at hp
    rw [fp_gd_map _ _ _ 0 hp]
    exact hres p (by omega) c hc
end
section
/-! ## X: a whole run -/
abbrev fx_q (v : SX) : Int32 × Int32 × Int32 × (Nat → Int32) × (Nat → Int32) × (Nat → Int32) × (Nat → Int32) × (Nat → Int32) × (Nat → Int32) × (Nat → Int32) × (Nat → Int32) × (Nat → Int32) × (Nat → Int32) × (Nat → Int32) := (xx_nodes v, xx_resultWidth v, xx_resultRows v, xx_tableCells v, xx_tableRows v, xx_kindOf v, xx_first v, xx_second v, xx_p v, xx_q v, xx_r v, xx_widthOf v, xx_parent v, xx_result v)
theorem fx_q_nodes {v v' : SX} (h : fx_q v' = fx_q v) : xx_nodes v' = xx_nodes v := congrArg (fun e => e.1) h
theorem fx_q_resultWidth {v v' : SX} (h : fx_q v' = fx_q v) : xx_resultWidth v' = xx_resultWidth v := congrArg (fun e => e.2.1) h
theorem fx_q_resultRows {v v' : SX} (h : fx_q v' = fx_q v) : xx_resultRows v' = xx_resultRows v := congrArg (fun e => e.2.2.1) h
theorem fx_q_tableCells {v v' : SX} (h : fx_q v' = fx_q v) : xx_tableCells v' = xx_tableCells v := congrArg (fun e => e.2.2.2.1) h
theorem fx_q_tableRows {v v' : SX} (h : fx_q v' = fx_q v) : xx_tableRows v' = xx_tableRows v := congrArg (fun e => e.2.2.2.2.1) h
theorem fx_q_kindOf {v v' : SX} (h : fx_q v' = fx_q v) : xx_kindOf v' = xx_kindOf v := congrArg (fun e => e.2.2.2.2.2.1) h
theorem fx_q_first {v v' : SX} (h : fx_q v' = fx_q v) : xx_first v' = xx_first v := congrArg (fun e => e.2.2.2.2.2.2.1) h
theorem fx_q_second {v v' : SX} (h : fx_q v' = fx_q v) : xx_second v' = xx_second v := congrArg (fun e => e.2.2.2.2.2.2.2.1) h
theorem fx_q_p {v v' : SX} (h : fx_q v' = fx_q v) : xx_p v' = xx_p v := congrArg (fun e => e.2.2.2.2.2.2.2.2.1) h
theorem fx_q_q {v v' : SX} (h : fx_q v' = fx_q v) : xx_q v' = xx_q v := congrArg (fun e => e.2.2.2.2.2.2.2.2.2.1) h
theorem fx_q_r {v v' : SX} (h : fx_q v' = fx_q v) : xx_r v' = xx_r v := congrArg (fun e => e.2.2.2.2.2.2.2.2.2.2.1) h
theorem fx_q_widthOf {v v' : SX} (h : fx_q v' = fx_q v) : xx_widthOf v' = xx_widthOf v := congrArg (fun e => e.2.2.2.2.2.2.2.2.2.2.2.1) h
theorem fx_q_parent {v v' : SX} (h : fx_q v' = fx_q v) : xx_parent v' = xx_parent v := congrArg (fun e => e.2.2.2.2.2.2.2.2.2.2.2.2.1) h
theorem fx_q_result {v v' : SX} (h : fx_q v' = fx_q v) : xx_result v' = xx_result v := congrArg (fun e => e.2.2.2.2.2.2.2.2.2.2.2.2.2) h
abbrev fx_k (v : SX) : Int32 × (Nat → Int32) × (Nat → Int32) × (Nat → Int32) × (Nat → Int32) × (Nat → Int32) × (Nat → Int32) × (Nat → Int32) × (Nat → Int32) × (Nat → Int32) × (Nat → Int32) := (xx_nodes v, xx_tableCells v, xx_tableRows v, xx_kindOf v, xx_first v, xx_second v, xx_p v, xx_q v, xx_r v, xx_widthOf v, xx_parent v)
theorem fx_k_nodes {v v' : SX} (h : fx_k v' = fx_k v) : xx_nodes v' = xx_nodes v := congrArg (fun e => e.1) h
theorem fx_k_tableCells {v v' : SX} (h : fx_k v' = fx_k v) : xx_tableCells v' = xx_tableCells v := congrArg (fun e => e.2.1) h
theorem fx_k_tableRows {v v' : SX} (h : fx_k v' = fx_k v) : xx_tableRows v' = xx_tableRows v := congrArg (fun e => e.2.2.1) h
theorem fx_k_kindOf {v v' : SX} (h : fx_k v' = fx_k v) : xx_kindOf v' = xx_kindOf v := congrArg (fun e => e.2.2.2.1) h
theorem fx_k_first {v v' : SX} (h : fx_k v' = fx_k v) : xx_first v' = xx_first v := congrArg (fun e => e.2.2.2.2.1) h
theorem fx_k_second {v v' : SX} (h : fx_k v' = fx_k v) : xx_second v' = xx_second v := congrArg (fun e => e.2.2.2.2.2.1) h
theorem fx_k_p {v v' : SX} (h : fx_k v' = fx_k v) : xx_p v' = xx_p v := congrArg (fun e => e.2.2.2.2.2.2.1) h
theorem fx_k_q {v v' : SX} (h : fx_k v' = fx_k v) : xx_q v' = xx_q v := congrArg (fun e => e.2.2.2.2.2.2.2.1) h
theorem fx_k_r {v v' : SX} (h : fx_k v' = fx_k v) : xx_r v' = xx_r v := congrArg (fun e => e.2.2.2.2.2.2.2.2.1) h
theorem fx_k_widthOf {v v' : SX} (h : fx_k v' = fx_k v) : xx_widthOf v' = xx_widthOf v := congrArg (fun e => e.2.2.2.2.2.2.2.2.2.1) h
theorem fx_k_parent {v v' : SX} (h : fx_k v' = fx_k v) : xx_parent v' = xx_parent v := congrArg (fun e => e.2.2.2.2.2.2.2.2.2.2) h
theorem fx_q_fx_r {v v' : SX} (h : fx_r v' = fx_r v) : fx_q v' = fx_q v := congrArg (fun e => (e.1, e.2.2.1, e.2.2.2.1, e.2.2.2.2.1, e.2.2.2.2.2.1, e.2.2.2.2.2.2.1, e.2.2.2.2.2.2.2.1, e.2.2.2.2.2.2.2.2.1, e.2.2.2.2.2.2.2.2.2.1, e.2.2.2.2.2.2.2.2.2.2.1, e.2.2.2.2.2.2.2.2.2.2.2.1, e.2.2.2.2.2.2.2.2.2.2.2.2.1, e.2.2.2.2.2.2.2.2.2.2.2.2.2.1, e.2.2.2.2.2.2.2.2.2.2.2.2.2.2.2.1)) h
theorem fx_q_fx_p {v v' : SX} (h : fx_p v' = fx_p v) : fx_q v' = fx_q v := congrArg (fun e => (e.1, e.2.2.2.2.2.2.1, e.2.2.2.2.2.2.2.1, e.2.2.2.2.2.2.2.2.1, e.2.2.2.2.2.2.2.2.2.1, e.2.2.2.2.2.2.2.2.2.2.1, e.2.2.2.2.2.2.2.2.2.2.2.1, e.2.2.2.2.2.2.2.2.2.2.2.2.1, e.2.2.2.2.2.2.2.2.2.2.2.2.2.1, e.2.2.2.2.2.2.2.2.2.2.2.2.2.2.1, e.2.2.2.2.2.2.2.2.2.2.2.2.2.2.2.1, e.2.2.2.2.2.2.2.2.2.2.2.2.2.2.2.2.1, e.2.2.2.2.2.2.2.2.2.2.2.2.2.2.2.2.2.1, e.2.2.2.2.2.2.2.2.2.2.2.2.2.2.2.2.2.2.2.2.2.2.2.2.2.2.2.2.2.2.2.1)) h
theorem fx_k_fx_q {v v' : SX} (h : fx_q v' = fx_q v) : fx_k v' = fx_k v := congrArg (fun e => (e.1, e.2.2.2.1, e.2.2.2.2.1, e.2.2.2.2.2.1, e.2.2.2.2.2.2.1, e.2.2.2.2.2.2.2.1, e.2.2.2.2.2.2.2.2.1, e.2.2.2.2.2.2.2.2.2.1, e.2.2.2.2.2.2.2.2.2.2.1, e.2.2.2.2.2.2.2.2.2.2.2.1, e.2.2.2.2.2.2.2.2.2.2.2.2.1)) h
theorem fx_k_fx_b {v v' : SX} (h : fx_b v' = fx_b v) : fx_k v' = fx_k v := congrArg (fun e => (e.1, e.2.2.2.2.2.2.2.1, e.2.2.2.2.2.2.2.2.1, e.2.2.2.2.2.2.2.2.2.1, e.2.2.2.2.2.2.2.2.2.2.1, e.2.2.2.2.2.2.2.2.2.2.2.1, e.2.2.2.2.2.2.2.2.2.2.2.2.1, e.2.2.2.2.2.2.2.2.2.2.2.2.2.1, e.2.2.2.2.2.2.2.2.2.2.2.2.2.2.1, e.2.2.2.2.2.2.2.2.2.2.2.2.2.2.2.1, e.2.2.2.2.2.2.2.2.2.2.2.2.2.2.2.2.1)) h
theorem fx_run {π : fp_Pl} {m root : Nat} (C : fp_cx π m root) {u : SX} (hπ : fx_pl u = π) (hnodes : xx_nodes u = nI m) (hT : fp_TOK (xx_tableRows u)) (post : Int32 → SX → Prop)
    (hbad : fp_bad π root (fp_TB (xx_tableCells u) (xx_tableRows u)) → ∀ u', fx_q u' = fx_q u → post (-8) u')
    (hgood : ¬ fp_bad π root (fp_TB (xx_tableCells u) (xx_tableRows u)) → ∀ u' Z, fx_k u' = fx_k u → Z.Perm (fp_L π (fp_TB (xx_tableCells u) (xx_tableRows u)) root) → fp_sorted Z → Z.length ≤ 20 → xx_resultRows u' = nI Z.length → xx_resultWidth u' = nI (fp_wd π root) → (∀ p, p < Z.length → ∀ c, c < fp_wd π root → xx_result u' (6 * p + c) = (Z.getD p []).getD c 0) → post (nI Z.length) u') :
    wpX_run post u (nI root) := by
  have hm := C.1.1
  have hr := C.2
  show wpX_run post ((xx_nodes u), (xx_root u), (xx_codeLength u), (xx_mapWidth u), (xx_registersUsed u), (xx_depth u), (xx_overflow u), (xx_resultWidth u), (xx_resultRows u), (xx_tableCells u), (xx_tableRows u), (xx_kindOf u), (xx_first u), (xx_second u), (xx_p u), (xx_q u), (xx_r u), (xx_widthOf u), (xx_parent u), (xx_inPlan u), (xx_given u), (xx_store u), (xx_storeRows u), (xx_heads u), (xx_chain u), (xx_op u), (xx_opA u), (xx_opB u), (xx_opC u), (xx_opD u), (xx_opE u), (xx_map u), (xx_picked u), (xx_register u), (xx_loopAt u), (xx_loopCode u), (xx_result u), (xx_order u)) (nI root)
  refine br_f (nI_pos (by omega)) (br_t (by rw [hnodes]; exact nI_lt hr (by omega)) ?_)
  refine fx_prepare C (u := ((xx_nodes u), (nI root), (xx_codeLength u), (xx_mapWidth u), (xx_registersUsed u), (xx_depth u), (xx_overflow u), (xx_resultWidth u), (xx_resultRows u), (xx_tableCells u), (xx_tableRows u), (xx_kindOf u), (xx_first u), (xx_second u), (xx_p u), (xx_q u), (xx_r u), (xx_widthOf u), (xx_parent u), (xx_inPlan u), (xx_given u), (xx_store u), (xx_storeRows u), (xx_heads u), (xx_chain u), (xx_op u), (xx_opA u), (xx_opB u), (xx_opC u), (xx_opD u), (xx_opE u), (xx_map u), (xx_picked u), (xx_register u), (xx_loopAt u), (xx_loopCode u), (xx_result u), (xx_order u))) hπ rfl _ fun u1 f1 f2 f3 f4 => ⟨root + 1 + 2, ?_⟩
  have hq0 := fx_q_fx_p f1
  have hq1 : fx_q u1 = fx_q u := hq0
  have hπ1 : fx_pl u1 = π := by
    rw [← hπ]
    show (xx_kindOf u1, xx_first u1, xx_second u1, xx_p u1, xx_q u1, xx_r u1, xx_widthOf u1, xx_parent u1) = _
    rw [fx_q_kindOf hq1, fx_q_first hq1, fx_q_second hq1, fx_q_p hq1, fx_q_q hq1, fx_q_r hq1, fx_q_widthOf hq1, fx_q_parent hq1]
  have hroot1 : xx_root u1 = nI root := fx_p_root f1
  have et : fp_TB (xx_tableCells u1) (xx_tableRows u1) = fp_TB (xx_tableCells u) (xx_tableRows u) := by rw [fx_q_tableCells hq1, fx_q_tableRows hq1]
  have hT1 : fp_TOK (xx_tableRows u1) := by rw [fx_q_tableRows hq1]; exact hT
  refine fx_r26 C post u1 hπ1 hroot1 f3 hT1 ?_ ?_ (root + 1) 0 u1 _ (by omega) rfl f2 f4 (fp_done0 _ _ _)
  · rw [et]
    intro u2 s2 g1 g2 g3 g4
    obtain ⟨e1, e2⟩ := fp_done_end C _ (fun t ht => (fp_TB_len hT ht).1) g4
    have hπ2 : fx_pl u2 = π := (fx_pl_r g1).trans hπ1
    obtain ⟨_, _, _, k4, _, k6, _⟩ := fx_nd C.1 hπ2 hr
    have hA := g3.2 12 (by decide)
    have hw12 : fx_w π root 12 = fp_wd π root := by unfold fx_w; rw [if_pos rfl]; omega
    unfold fx_A1 at hA
    rw [hw12] at hA
    refine br_t g2 ?_
    refine fx_publish _ (by omega) ((fx_r_root g1).trans hroot1) k4 k6 hA fun u3 Z z1 z2 z3 z4 z5 z6 => ?_
    show post (xx_resultRows u3) u3
    rw [z4]
    exact hgood e1 u3 Z ((fx_k_fx_b z1).trans (fx_k_fx_q ((fx_q_fx_r g1).trans hq1))) (z2.trans e2) z3 (by rw [z2.length_eq]; exact hA.1) z4 z5 z6
  · rw [et]
    intro hb u2 g1 g2
    exact hbad hb u2 ((fx_q_fx_r g1).trans hq1)
/-! ## the relation -/
def fz_res (u : SX) (v : SY) : Prop := yy_resultRows v = xx_resultRows u ∧ yy_resultWidth v = xx_resultWidth u ∧ ∃ R W, R ≤ 20 ∧ W ≤ 6 ∧ xx_resultRows u = nI R ∧ xx_resultWidth u = nI W ∧ ∀ p, p < R → ∀ c, c < W → yy_result v (6 * p + c) = xx_result u (6 * p + c)
def fz_pln (u : SX) (v : SY) (m : Nat) : Prop := fp_WF (fx_pl u) m ∧ xx_nodes u = nI m ∧ fy_P (fx_pl u) m v ∧ ∀ n, n < m → (yy_used v n = 0 ↔ xx_parent u n = -1)
def fz_tab (u : SX) (v : SY) : Prop := yy_tables v = xx_tableCells u ∧ yy_held v = xx_tableRows u ∧ fp_TOK (xx_tableRows u)
def fz_R (u : SX) (v : SY) : Prop := (∃ m, fz_pln u v m) ∧ fz_tab u v ∧ fz_res u v
/-- the relation at the head of a turn -/
def i_Rel (_k : Nat) (u : SX) (v : SY) : Prop := fz_R u v
theorem i_up {k : Nat} {u : SX} {v : SY} (h : i_Rel k u v) : i_Rel (k + 5) u v := h
theorem i_vc0 : wpX_init (fun u => wpY_init (fun v => i_Rel 0 u v)) := by
  refine ⟨⟨0, ⟨by decide, fun n hn => by omega⟩, rfl, ⟨rfl, rfl, rfl, rfl, rfl, fun n hn => by omega⟩, fun n hn => by omega⟩, ⟨rfl, rfl, fun t _ => ⟨0, by decide, rfl⟩⟩, rfl, rfl, 0, 0, by decide, by decide, rfl, rfl, fun p hp => by omega⟩
theorem fz_pln_k {u u' : SX} {v v' : SY} {m : Nat} (hu : fx_k u' = fx_k u) (hv : fy_k v' = fy_k v) (h : fz_pln u v m) : fz_pln u' v' m := by
  have hp : fx_pl u' = fx_pl u := by
    show (xx_kindOf u', xx_first u', xx_second u', xx_p u', xx_q u', xx_r u', xx_widthOf u', xx_parent u') = _
    rw [fx_k_kindOf hu, fx_k_first hu, fx_k_second hu, fx_k_p hu, fx_k_q hu, fx_k_r hu, fx_k_widthOf hu, fx_k_parent hu]
  obtain ⟨h1, h2, ⟨p1, p2, p3, p4, p5, p6⟩, h4⟩ := h
  refine ⟨by rw [hp]; exact h1, (fx_k_nodes hu).trans h2, ?_, ?_⟩
  · rw [hp]
    exact ⟨(fy_k_nodes hv).trans p1, (fy_k_kind hv).trans p2, (fy_k_left hv).trans p3, (fy_k_right hv).trans p4, (fy_k_widths hv).trans p5, by rw [fy_k_p hv, fy_k_q hv, fy_k_r hv]; exact p6⟩
  · rw [fy_k_used hv, fx_k_parent hu]; exact h4
theorem fz_tab_k {u u' : SX} {v v' : SY} (hu : fx_k u' = fx_k u) (hv : fy_k v' = fy_k v) (h : fz_tab u v) : fz_tab u' v' := by
  unfold fz_tab
  rw [fy_k_tables hv, fy_k_held hv, fx_k_tableCells hu, fx_k_tableRows hu]; exact h
theorem fz_xbad {u : SX} (post : Int32 → SX → Prop) (x : Int32) (hx : x < 0 ∨ ¬ x < xx_nodes u) (h : post (-3) u) : wpX_run post u x := by
  show wpX_run post ((xx_nodes u), (xx_root u), (xx_codeLength u), (xx_mapWidth u), (xx_registersUsed u), (xx_depth u), (xx_overflow u), (xx_resultWidth u), (xx_resultRows u), (xx_tableCells u), (xx_tableRows u), (xx_kindOf u), (xx_first u), (xx_second u), (xx_p u), (xx_q u), (xx_r u), (xx_widthOf u), (xx_parent u), (xx_inPlan u), (xx_given u), (xx_store u), (xx_storeRows u), (xx_heads u), (xx_chain u), (xx_op u), (xx_opA u), (xx_opB u), (xx_opC u), (xx_opD u), (xx_opE u), (xx_map u), (xx_picked u), (xx_register u), (xx_loopAt u), (xx_loopCode u), (xx_result u), (xx_order u)) x
  by_cases c : x < 0
  · exact br_t c h
  · exact br_f c (br_f (hx.resolve_left c) h)
theorem i_vc_run {k : Nat} {u : SX} {v : SY} (I : i_Rel k u v) (hk : k + 5 ≤ 2560) (v1 : Int32) : wpX_run (fun r u' => wpY_run (fun r' v' => r' = r ∧ i_Rel (k + 5) u' v') v v1) u v1 := by
  obtain ⟨⟨m, hP⟩, hTb, hRs⟩ := id I
  obtain ⟨W, hn, P, hU⟩ := id hP
  have hm := W.1
  by_cases hx : v1 < 0 ∨ ¬ v1 < xx_nodes u
  · refine fz_xbad _ v1 hx ?_
    refine fy_run_no _ v1 ?_ ⟨rfl, I⟩
    rw [P.1, ← hn]; exact hx
  · have h0 : ¬ v1 < 0 := fun z => hx (Or.inl z)
    have h1 : v1 < xx_nodes u := Classical.byContradiction fun z => hx (Or.inr z)
    obtain ⟨root, hr31, rfl⟩ := nI_of h0
    rw [hn] at h1
    have hr : root < m := (nI_ltI hr31 (by omega)).mp h1
    have C : fp_cx (fx_pl u) m root := ⟨W, hr⟩
    obtain ⟨t1, t2, t3⟩ := id hTb
    have et : fp_TB (yy_tables v) (yy_held v) = fp_TB (xx_tableCells u) (xx_tableRows u) := by rw [t1, t2]
    refine fx_run C rfl hn t3 _ (fun hb u' hu' => ?_) (fun hg u' Z hu' z1 z2 z20 z3 z4 z5 => ?_)
    · refine fy_run _ v C P (by rw [t2]; exact t3) (fun _ v' hv' => ?_) (fun hg => absurd hb (by rw [et] at hg; exact hg))
      refine ⟨rfl, ⟨m, fz_pln_k (fx_k_fx_q hu') (fy_k_fy_q hv') hP⟩, fz_tab_k (fx_k_fx_q hu') (fy_k_fy_q hv') hTb, ?_⟩
      unfold fz_res
      rw [fy_q_resultRows hv', fy_q_resultWidth hv', fy_q_result hv', fx_q_resultRows hu', fx_q_resultWidth hu', fx_q_result hu']
      exact hRs
    · refine fy_run _ v C P (by rw [t2]; exact t3) (fun hb => absurd (by rw [et] at hb; exact hb) hg) (fun _ => ⟨Z, by rw [et]; exact z1, z2, fun v' hv' y1 y2 y3 => ?_⟩)
      obtain ⟨_, _, _, _, _, w6, _⟩ := fx_nd W rfl hr
      refine ⟨rfl, ⟨m, fz_pln_k hu' hv' hP⟩, fz_tab_k hu' hv' hTb, y1.trans z3.symm, y2.trans z4.symm, Z.length, _, z20, w6, z3, z4, fun p hp c hc => ?_⟩
      rw [y3 p hp c hc, z5 p hp c hc]
theorem i_vc_width {k : Nat} {u : SX} {v : SY} (I : i_Rel k u v) (hk : k + 5 ≤ 2560) : wpX_width (fun r => wpY_width (fun r' => r' = r ∧ i_Rel (k + 5) u v) v) u := ⟨I.2.2.2.1, I⟩
theorem i_vc_cell {k : Nat} {u : SX} {v : SY} (I : i_Rel k u v) (hk : k + 5 ≤ 2560) (v1 : Int32) (v2 : Int32) : wpX_cell (fun r => wpY_cell (fun r' => r' = r ∧ i_Rel (k + 5) u v) v v1 v2) u v1 v2 := by
  obtain ⟨_, _, e1, e2, R, W, r1, r2, r3, r4, r5⟩ := id I
  show wpX_cell (fun r => wpY_cell (fun r' => r' = r ∧ i_Rel (k + 5) u v) ((yy_nodes v), (yy_over v), (yy_resultRows v), (yy_resultWidth v), (yy_tables v), (yy_held v), (yy_kind v), (yy_left v), (yy_right v), (yy_p v), (yy_q v), (yy_r v), (yy_widths v), (yy_used v), (yy_rows v), (yy_given v), (yy_needed v), (yy_row v), (yy_result v)) v1 v2) ((xx_nodes u), (xx_root u), (xx_codeLength u), (xx_mapWidth u), (xx_registersUsed u), (xx_depth u), (xx_overflow u), (xx_resultWidth u), (xx_resultRows u), (xx_tableCells u), (xx_tableRows u), (xx_kindOf u), (xx_first u), (xx_second u), (xx_p u), (xx_q u), (xx_r u), (xx_widthOf u), (xx_parent u), (xx_inPlan u), (xx_given u), (xx_store u), (xx_storeRows u), (xx_heads u), (xx_chain u), (xx_op u), (xx_opA u), (xx_opB u), (xx_opC u), (xx_opD u), (xx_opE u), (xx_map u), (xx_picked u), (xx_register u), (xx_loopAt u), (xx_loopCode u), (xx_result u), (xx_order u)) v1 v2
  refine br_c (fun c => br_t c ⟨rfl, I⟩) (fun c1 => ?_)
  refine br_c (fun c => br_f c1 (br_t (by rw [e1]; exact c) ⟨rfl, I⟩)) (fun c2 => ?_)
  refine br_c (fun c => br_f c1 (br_f (by rw [e1]; exact c2) (br_t c ⟨rfl, I⟩))) (fun c3 => ?_)
  refine br_c (fun c4 => ?_) (fun c => br_f c1 (br_f (by rw [e1]; exact c2) (br_f c3 (br_f (by rw [e2]; exact c) ⟨rfl, I⟩))))
  obtain ⟨p, hp, rfl⟩ := nI_of c1
  obtain ⟨c, hc, rfl⟩ := nI_of c3
  have hpR : p < R := by
    rw [r3] at c2
    refine Classical.byContradiction fun z => c2 (nI_le (by omega) hp)
  have hcW : c < W := by
    rw [r4] at c4
    exact (nI_ltI hc (by omega)).mp c4
  have hv : vp_in ((6 : Int32) * nI p + nI c) 120 := by rw [fi_r]; exact vp_in_nI (by omega) (by decide)
  refine And.intro hv ?_
  refine br_f c1 (br_f (by rw [e1]; exact c2) (br_f c3 (br_t (by rw [e2]; exact c4) (And.intro hv ⟨?_, I⟩))))
  show yy_result v ((6 : Int32) * nI p + nI c).toNatClampNeg = xx_result u ((6 : Int32) * nI p + nI c).toNatClampNeg
  rw [fi_r, fi_cl (by omega : 6 * p + c < 4096)]
  exact r5 p hpR c hcW
theorem i_vc_clearPlan {k : Nat} {u : SX} {v : SY} (I : i_Rel k u v) (hk : k + 5 ≤ 2560) : wpX_clearPlan (fun u' => wpY_clearPlan (fun v' => i_Rel (k + 5) u' v') v) u := by
  obtain ⟨⟨m, W, hn, P, hU⟩, hTb, hRs⟩ := I
  exact ⟨⟨0, ⟨by decide, fun n hn => by omega⟩, rfl, ⟨rfl, P.2.1, P.2.2.1, P.2.2.2.1, P.2.2.2.2.1, fun n hn => by omega⟩, fun n hn => by omega⟩, hTb, hRs⟩
end
section
/-! ## a new node -/
def fz_mkP (π : fp_Pl) (m : Nat) (K A B P Q R W : Int32) (par' : Nat → Int32) : fp_Pl := (upd π.1 m K, upd π.2.1 m A, upd π.2.2.1 m B, upd π.2.2.2.1 m P, upd π.2.2.2.2.1 m Q, upd π.2.2.2.2.2.1 m R, upd π.2.2.2.2.2.2.1 m W, par')
def fz_two (kd : Nat) : Prop := kd = 4 ∨ kd = 5 ∨ kd = 6 ∨ kd = 9
def fz_chl (kd a b n : Nat) : Prop := (kd ≠ 0 ∧ n = a) ∨ (fz_two kd ∧ n = b)
/-- what must hold of the parameters, by kinds -/
def fz_pp (kd wd wa wb : Nat) (P Q R : Int32) : Prop :=
  (kd = 0 → fp_col P 3 ∧ wd = 3) ∧ (kd = 1 → fp_col P wa ∧ wd = wa) ∧ (kd = 2 → fp_col P 5 ∧ fp_col Q wa ∧ fp_col R wa ∧ wd = wa + 1) ∧
  (kd = 3 → fp_col P wa ∧ (¬ Q < 0 → fp_col Q wa) ∧ (¬ R < 0 → fp_col R wa) ∧ wd = 1 + (if Q < 0 then 0 else 1) + (if R < 0 then 0 else 1)) ∧
  (kd = 4 → fp_col P wa ∧ fp_col Q wb ∧ wd = wa + wb) ∧ (kd = 5 ∨ kd = 6 → fp_col P wa ∧ fp_col Q wb ∧ wd = wa) ∧
  (kd = 7 → fp_col P wa ∧ fp_col Q 4 ∧ fp_col R wa ∧ wd = 2) ∧ (kd = 8 → wd = wa) ∧ (kd = 9 → wd = wa ∧ wd = wb)
/-- the inputs of the new node -/
def fz_inp (π : fp_Pl) (m kd a b : Nat) (A B : Int32) : Prop :=
  (kd = 0 → A = -1) ∧ (kd ≠ 0 → A = nI a ∧ a < m ∧ fp_pa π a = -1) ∧ (¬ fz_two kd → B = -1) ∧ (fz_two kd → B = nI b ∧ b < m ∧ b ≠ a ∧ fp_pa π b = -1)
theorem fz_WF {π : fp_Pl} {m : Nat} (W : fp_WF π m) (hm : m < 12) {kd wd a b : Nat} {A B P Q R : Int32} {par' : Nat → Int32} (hkd : kd ≤ 9) (hw1 : 1 ≤ wd) (hw6 : wd ≤ 6) (hI : fz_inp π m kd a b A B)
    (hp0 : par' m = -1) (hp1 : ∀ n, n < m → fz_chl kd a b n → par' n = nI m) (hp2 : ∀ n, n < m → ¬ fz_chl kd a b n → par' n = fp_pa π n) (hpp : fz_pp kd wd (fp_wd π a) (fp_wd π b) P Q R) :
    fp_WF (fz_mkP π m (nI kd) A B P Q R (nI wd) par') (m + 1) := by
  obtain ⟨i1, i2, i3, i4⟩ := hI
  have ekd : ∀ n, n < m → fp_kd (fz_mkP π m (nI kd) A B P Q R (nI wd) par') n = fp_kd π n := fun n hn => by
    show (upd π.1 m (nI kd) n).toNatClampNeg = _; rw [fi_un (by omega)]; rfl
  have efa : ∀ n, n < m → fp_fa (fz_mkP π m (nI kd) A B P Q R (nI wd) par') n = fp_fa π n := fun n hn => by
    show (upd π.2.1 m A n).toNatClampNeg = _; rw [fi_un (by omega)]; rfl
  have esb : ∀ n, n < m → fp_sb (fz_mkP π m (nI kd) A B P Q R (nI wd) par') n = fp_sb π n := fun n hn => by
    show (upd π.2.2.1 m B n).toNatClampNeg = _; rw [fi_un (by omega)]; rfl
  have ewd : ∀ n, n < m → fp_wd (fz_mkP π m (nI kd) A B P Q R (nI wd) par') n = fp_wd π n := fun n hn => by
    show (upd π.2.2.2.2.2.2.1 m (nI wd) n).toNatClampNeg = _; rw [fi_un (by omega)]; rfl
  have ep : ∀ n, n < m → fp_p (fz_mkP π m (nI kd) A B P Q R (nI wd) par') n = fp_p π n := fun n hn => fi_un (by omega)
  have eq : ∀ n, n < m → fp_q (fz_mkP π m (nI kd) A B P Q R (nI wd) par') n = fp_q π n := fun n hn => fi_un (by omega)
  have er : ∀ n, n < m → fp_r (fz_mkP π m (nI kd) A B P Q R (nI wd) par') n = fp_r π n := fun n hn => fi_un (by omega)
  have etwo : ∀ n, n < m → (fp_two (fz_mkP π m (nI kd) A B P Q R (nI wd) par') n ↔ fp_two π n) := fun n hn => by
    unfold fp_two; rw [ekd n hn]
  have mkd : fp_kd (fz_mkP π m (nI kd) A B P Q R (nI wd) par') m = kd := by
    show (upd π.1 m (nI kd) m).toNatClampNeg = _; rw [fi_us]; exact fi_cl (by omega)
  have mwd : fp_wd (fz_mkP π m (nI kd) A B P Q R (nI wd) par') m = wd := by
    show (upd π.2.2.2.2.2.2.1 m (nI wd) m).toNatClampNeg = _; rw [fi_us]; exact fi_cl (by omega)
  have mfa : kd ≠ 0 → fp_fa (fz_mkP π m (nI kd) A B P Q R (nI wd) par') m = a := fun h => by
    show (upd π.2.1 m A m).toNatClampNeg = _; rw [fi_us, (i2 h).1]; exact fi_cl (by have := (i2 h).2.1; omega)
  have msb : fz_two kd → fp_sb (fz_mkP π m (nI kd) A B P Q R (nI wd) par') m = b := fun h => by
    show (upd π.2.2.1 m B m).toNatClampNeg = _; rw [fi_us, (i4 h).1]; exact fi_cl (by have := (i4 h).2.1; omega)
  have mtwo : fp_two (fz_mkP π m (nI kd) A B P Q R (nI wd) par') m ↔ fz_two kd := by unfold fp_two fz_two; rw [mkd]
  have mp : fp_p (fz_mkP π m (nI kd) A B P Q R (nI wd) par') m = P := fi_us
  have mq : fp_q (fz_mkP π m (nI kd) A B P Q R (nI wd) par') m = Q := fi_us
  have mr : fp_r (fz_mkP π m (nI kd) A B P Q R (nI wd) par') m = R := fi_us
  have hpa : ∀ n, fp_pa (fz_mkP π m (nI kd) A B P Q R (nI wd) par') n = par' n := fun n => rfl
  refine ⟨by omega, fun n hn => ?_⟩
  by_cases e : n = m
  · subst e
    refine ⟨by rw [mkd]; exact fi_us, by omega, by rw [mwd]; exact fi_us, by omega, by omega, fun h => ?_, fun h => ?_, fun h => ?_, fun h => ?_, Or.inl hp0, ?_⟩
    · rw [mkd] at h; show upd π.2.1 n A n = -1; rw [fi_us]; exact i1 h
    · rw [mkd] at h
      refine ⟨by rw [mfa h]; show upd π.2.1 n A n = _; rw [fi_us]; exact (i2 h).1, by rw [mfa h]; exact (i2 h).2.1, ?_⟩
      rw [mfa h]; exact hp1 a (i2 h).2.1 (Or.inl ⟨h, rfl⟩)
    · show upd π.2.2.1 n B n = -1; rw [fi_us]; exact i3 (fun z => h (mtwo.mpr z))
    · have h' := mtwo.mp h
      have h0 : kd ≠ 0 := by unfold fz_two at h'; omega
      refine ⟨by rw [msb h']; show upd π.2.2.1 n B n = _; rw [fi_us]; exact (i4 h').1, by rw [msb h']; exact (i4 h').2.1, by rw [msb h', mfa h0]; exact (i4 h').2.2.1, ?_⟩
      rw [msb h']; exact hp1 b (i4 h').2.1 (Or.inr ⟨h', rfl⟩)
    · obtain ⟨q0, q1, q2, q3, q4, q5, q7, q8, q9⟩ := hpp
      have wa : kd ≠ 0 → fp_wd (fz_mkP π n (nI kd) A B P Q R (nI wd) par') (fp_fa (fz_mkP π n (nI kd) A B P Q R (nI wd) par') n) = fp_wd π a := fun h => by
        rw [mfa h, ewd a (i2 h).2.1]
      have wb : fz_two kd → fp_wd (fz_mkP π n (nI kd) A B P Q R (nI wd) par') (fp_sb (fz_mkP π n (nI kd) A B P Q R (nI wd) par') n) = fp_wd π b := fun h => by
        rw [msb h, ewd b (i4 h).2.1]
      unfold fp_prm
      rw [mkd, mwd, mp, mq, mr]
      refine ⟨q0, fun h => ?_, fun h => ?_, fun h => ?_, fun h => ?_, fun h => ?_, fun h => ?_, fun h => ?_, fun h => ?_⟩
      · rw [wa (by omega)]; exact q1 h
      · rw [wa (by omega)]; exact q2 h
      · rw [wa (by omega)]; exact q3 h
      · rw [wa (by omega), wb (by unfold fz_two; omega)]; exact q4 h
      · rw [wa (by omega), wb (by unfold fz_two; omega)]; exact q5 h
      · rw [wa (by omega)]; exact q7 h
      · rw [wa (by omega)]; exact q8 h
      · rw [wa (by omega), wb (by unfold fz_two; omega)]; exact q9 h
  · have hnm : n < m := by omega
    obtain ⟨n1, n2, n3, n4, n5, n6, n7, n8, n9, n10, n11⟩ := W.2 n hnm
    have hfam : fp_fa π n < m := by
      by_cases h0 : fp_kd π n = 0
      · unfold fp_fa; rw [n6 h0]; show 0 < m; omega
      · have := (n7 h0).2.1; omega
    have hsbm : fp_sb π n < m := by
      by_cases h0 : fp_two π n
      · have := (n9 h0).2.1; omega
      · unfold fp_sb; rw [n8 h0]; show 0 < m; omega
    have notch : ∀ y, y < m → fp_pa π y = nI n → ¬ fz_chl kd a b y := by
      intro y hy hpy hc
      rcases hc with ⟨h, z⟩ | ⟨h, z⟩
      · have := (i2 h).2.2; rw [← z, hpy] at this; exact fp_nI_m1 (by omega) this
      · have := (i4 h).2.2.2; rw [← z, hpy] at this; exact fp_nI_m1 (by omega) this
    refine ⟨?_, by rw [ekd n hnm]; exact n2, ?_, by rw [ewd n hnm]; exact n4, by rw [ewd n hnm]; exact n5, fun h => ?_, fun h => ?_, fun h => ?_, fun h => ?_, ?_, ?_⟩
    · rw [ekd n hnm]; show upd π.1 m _ n = _; rw [fi_un e]; exact n1
    · rw [ewd n hnm]; show upd π.2.2.2.2.2.2.1 m _ n = _; rw [fi_un e]; exact n3
    · rw [ekd n hnm] at h; show upd π.2.1 m _ n = _; rw [fi_un e]; exact n6 h
    · rw [ekd n hnm] at h
      obtain ⟨f1, f2, f3⟩ := n7 h
      refine ⟨by rw [efa n hnm]; show upd π.2.1 m _ n = _; rw [fi_un e]; exact f1, by rw [efa n hnm]; exact f2, ?_⟩
      rw [efa n hnm, hpa, hp2 _ hfam (notch _ hfam f3)]; exact f3
    · show upd π.2.2.1 m _ n = _; rw [fi_un e]; exact n8 (fun z => h ((etwo n hnm).mpr z))
    · obtain ⟨f1, f2, f3, f4⟩ := n9 ((etwo n hnm).mp h)
      refine ⟨by rw [esb n hnm]; show upd π.2.2.1 m _ n = _; rw [fi_un e]; exact f1, by rw [esb n hnm]; exact f2, by rw [esb n hnm, efa n hnm]; exact f3, ?_⟩
      rw [esb n hnm, hpa, hp2 _ hsbm (notch _ hsbm f4)]; exact f4
    · rw [hpa]
      by_cases hc : fz_chl kd a b n
      · right
        refine ⟨m, hnm, by omega, by rw [hpa]; exact hp1 n hnm hc, ?_⟩
        rcases hc with ⟨h, z⟩ | ⟨h, z⟩
        · exact Or.inl ⟨by rw [mkd]; exact h, by rw [mfa h]; exact z.symm⟩
        · exact Or.inr ⟨mtwo.mpr h, by rw [msb h]; exact z.symm⟩
      · rw [hp2 n hnm hc]
        rcases n10 with z | ⟨c, c1, c2, c3, c4⟩
        · exact Or.inl z
        · right
          refine ⟨c, c1, by omega, by rw [hpa, hp2 n hnm hc]; exact c3, ?_⟩
          rw [ekd c c2, efa c c2, esb c c2, etwo c c2]; exact c4
    · unfold fp_prm
      rw [ekd n hnm, efa n hnm, esb n hnm, ewd n hnm, ep n hnm, eq n hnm, er n hnm, ewd _ hfam, ewd _ hsbm]
      exact n11
/-! ## the two sides' writes -/
def fz_ch (f : Nat → Int32) (A B x : Int32) : Nat → Int32 := if B < 0 then (if A < 0 then f else upd f A.toNatClampNeg x) else upd (if A < 0 then f else upd f A.toNatClampNeg x) B.toNatClampNeg x
theorem fx_make {u : SX} {m : Nat} (post : Int32 → SX → Prop) (hm : m < 12) (hn : xx_nodes u = nI m) (K A B P Q R W : Int32) (hA : ¬ A < 0 → vp_in A 12) (hB : ¬ B < 0 → vp_in B 12)
    (h : post (nI m) ((nI (m + 1)), (xx_root u), (xx_codeLength u), (xx_mapWidth u), (xx_registersUsed u), (xx_depth u), (xx_overflow u), (xx_resultWidth u), (xx_resultRows u), (xx_tableCells u), (xx_tableRows u), (upd (xx_kindOf u) m K), (upd (xx_first u) m A), (upd (xx_second u) m B), (upd (xx_p u) m P), (upd (xx_q u) m Q), (upd (xx_r u) m R), (upd (xx_widthOf u) m W), (fz_ch (upd (xx_parent u) m (-1)) A B (nI m)), (xx_inPlan u), (xx_given u), (xx_store u), (xx_storeRows u), (xx_heads u), (xx_chain u), (xx_op u), (xx_opA u), (xx_opB u), (xx_opC u), (xx_opD u), (xx_opE u), (xx_map u), (xx_picked u), (xx_register u), (xx_loopAt u), (xx_loopCode u), (xx_result u), (xx_order u))) : wpX_make post u K A B P Q R W := by
  have hv := vp_in_nI (n := m) hm (by decide)
  show wpX_make post ((xx_nodes u), (xx_root u), (xx_codeLength u), (xx_mapWidth u), (xx_registersUsed u), (xx_depth u), (xx_overflow u), (xx_resultWidth u), (xx_resultRows u), (xx_tableCells u), (xx_tableRows u), (xx_kindOf u), (xx_first u), (xx_second u), (xx_p u), (xx_q u), (xx_r u), (xx_widthOf u), (xx_parent u), (xx_inPlan u), (xx_given u), (xx_store u), (xx_storeRows u), (xx_heads u), (xx_chain u), (xx_op u), (xx_opA u), (xx_opB u), (xx_opC u), (xx_opD u), (xx_opE u), (xx_map u), (xx_picked u), (xx_register u), (xx_loopAt u), (xx_loopCode u), (xx_result u), (xx_order u)) K A B P Q R W
  unfold wpX_make
  dsimp only
  rw [hn, fi_cl (by omega : m < 4096)]
  refine ⟨hv, ?_⟩
  intro x1 e1
  refine ⟨hv, ?_⟩
  intro x2 e2
  refine ⟨hv, ?_⟩
  intro x3 e3
  refine ⟨hv, ?_⟩
  intro x4 e4
  refine ⟨hv, ?_⟩
  intro x5 e5
  refine ⟨hv, ?_⟩
  intro x6 e6
  refine ⟨hv, ?_⟩
  intro x7 e7
  refine ⟨hv, ?_⟩
  intro x8 e8
  subst e1 e2 e3 e4 e5 e6 e7 e8
  unfold fz_ch at h
  refine br_c (fun ca => ?_) (fun ca => ⟨hA ca, ?_⟩)
  · rw [if_pos ca] at h
    refine br_c (fun cb => ?_) (fun cb => And.intro (hB cb) ?_)
    · rw [if_pos cb] at h
      intro y ey
      rw [nI_1] at ey
      subst ey
      exact h
    · rw [if_neg cb] at h
      intro x9 e9 y ey
      rw [nI_1] at ey
      subst e9 ey
      exact h
  · rw [if_neg ca] at h
    intro x9 e9
    subst e9
    refine br_c (fun cb => ?_) (fun cb => And.intro (hB cb) ?_)
    · rw [if_pos cb] at h
      intro y ey
      rw [nI_1] at ey
      subst ey
      exact h
    · rw [if_neg cb] at h
      intro x9 e9 y ey
      rw [nI_1] at ey
      subst e9 ey
      exact h
theorem fy_make {v : SY} {m : Nat} (post : Int32 → SY → Prop) (hm : m < 12) (hn : yy_nodes v = nI m) (K A B W : Int32) (hA : ¬ A < 0 → vp_in A 12) (hB : ¬ B < 0 → vp_in B 12)
    (h : post (nI m) ((nI (m + 1)), (yy_over v), (yy_resultRows v), (yy_resultWidth v), (yy_tables v), (yy_held v), (upd (yy_kind v) m K), (upd (yy_left v) m A), (upd (yy_right v) m B), (yy_p v), (yy_q v), (yy_r v), (upd (yy_widths v) m W), (fz_ch (upd (yy_used v) m 0) A B 1), (yy_rows v), (yy_given v), (yy_needed v), (yy_row v), (yy_result v))) : wpY_make post v K A B W := by
  have hv := vp_in_nI (n := m) hm (by decide)
  have fin : ∀ us, post (nI m) ((nI (m + 1)), (yy_over v), (yy_resultRows v), (yy_resultWidth v), (yy_tables v), (yy_held v), (upd (yy_kind v) m K), (upd (yy_left v) m A), (upd (yy_right v) m B), (yy_p v), (yy_q v), (yy_r v), (upd (yy_widths v) m W), us, (yy_rows v), (yy_given v), (yy_needed v), (yy_row v), (yy_result v)) → wY_make_73 post (yy_nodes v) (yy_over v) (yy_resultRows v) (yy_resultWidth v) (yy_tables v) (yy_held v) (upd (yy_kind v) m K) (upd (yy_left v) m A) (upd (yy_right v) m B) (yy_p v) (yy_q v) (yy_r v) (upd (yy_widths v) m W) us (yy_rows v) (yy_given v) (yy_needed v) (yy_row v) (yy_result v) := by
    intro us hh y ey
    rw [hn, nI_1] at ey
    subst ey
    rw [nI_pred]
    exact hh
  show wpY_make post ((yy_nodes v), (yy_over v), (yy_resultRows v), (yy_resultWidth v), (yy_tables v), (yy_held v), (yy_kind v), (yy_left v), (yy_right v), (yy_p v), (yy_q v), (yy_r v), (yy_widths v), (yy_used v), (yy_rows v), (yy_given v), (yy_needed v), (yy_row v), (yy_result v)) K A B W
  unfold wpY_make
  dsimp only
  rw [hn, fi_cl (by omega : m < 4096), fi_b0, fi_b1]
  refine ⟨hv, ?_⟩
  intro x1 e1
  refine ⟨hv, ?_⟩
  intro x2 e2
  refine ⟨hv, ?_⟩
  intro x3 e3
  refine ⟨hv, ?_⟩
  intro x4 e4
  refine ⟨hv, ?_⟩
  intro x5 e5
  subst e1 e2 e3 e4 e5
  rw [← hn]
  unfold fz_ch at h
  refine br_c (fun ca => ?_) (fun ca => ⟨hA ca, ?_⟩)
  · rw [if_pos ca] at h
    refine br_c (fun cb => ?_) (fun cb => And.intro (hB cb) ?_)
    · rw [if_pos cb] at h; exact fin _ h
    · rw [if_neg cb] at h
      intro x9 e9
      rw [fi_b1] at e9
      subst e9
      exact fin _ h
  · rw [if_neg ca] at h
    intro x9 e9
    subst e9
    refine br_c (fun cb => ?_) (fun cb => And.intro (hB cb) ?_)
    · rw [if_pos cb] at h; exact fin _ h
    · rw [if_neg cb] at h
      intro x9 e9
      rw [fi_b1] at e9
      subst e9
      exact fin _ h
theorem fy_say {v : SY} {m : Nat} (post : SY → Prop) (hm : m < 12) (P Q R : Int32) (h : post ((yy_nodes v), (yy_over v), (yy_resultRows v), (yy_resultWidth v), (yy_tables v), (yy_held v), (yy_kind v), (yy_left v), (yy_right v), (upd (yy_p v) m P), (upd (yy_q v) m Q), (upd (yy_r v) m R), (yy_widths v), (yy_used v), (yy_rows v), (yy_given v), (yy_needed v), (yy_row v), (yy_result v))) : wpY_say post v (nI m) P Q R := by
  have hv := vp_in_nI (n := m) hm (by decide)
  show wpY_say post ((yy_nodes v), (yy_over v), (yy_resultRows v), (yy_resultWidth v), (yy_tables v), (yy_held v), (yy_kind v), (yy_left v), (yy_right v), (yy_p v), (yy_q v), (yy_r v), (yy_widths v), (yy_used v), (yy_rows v), (yy_given v), (yy_needed v), (yy_row v), (yy_result v)) (nI m) P Q R
  unfold wpY_say
  dsimp only
  rw [fi_cl (by omega : m < 4096)]
  refine ⟨hv, ?_⟩
  intro x1 e1
  refine ⟨hv, ?_⟩
  intro x2 e2
  refine ⟨hv, ?_⟩
  intro x3 e3
  subst e1 e2 e3
  exact h
/-- the relation holds again after both sides have made the node -/
theorem fz_make {u : SX} {v : SY} {m : Nat} (hP : fz_pln u v m) (hTb : fz_tab u v) (hRs : fz_res u v) (hm : m < 12) {kd wd a b : Nat} {A B P Q R : Int32} (yp yq yr : Nat → Int32) (hkd : kd ≤ 9) (hw1 : 1 ≤ wd) (hw6 : wd ≤ 6) (hI : fz_inp (fx_pl u) m kd a b A B) (hpp : fz_pp kd wd (fp_wd (fx_pl u) a) (fp_wd (fx_pl u) b) P Q R)
    (hy : ∀ n, n < m → yp n = yy_p v n ∧ yq n = yy_q v n ∧ yr n = yy_r v n) (hym : kd ≠ 8 → kd ≠ 9 → yp m = P ∧ yq m = Q ∧ yr m = R) :
    fz_R ((nI (m + 1)), (xx_root u), (xx_codeLength u), (xx_mapWidth u), (xx_registersUsed u), (xx_depth u), (xx_overflow u), (xx_resultWidth u), (xx_resultRows u), (xx_tableCells u), (xx_tableRows u), (upd (xx_kindOf u) m (nI kd)), (upd (xx_first u) m A), (upd (xx_second u) m B), (upd (xx_p u) m P), (upd (xx_q u) m Q), (upd (xx_r u) m R), (upd (xx_widthOf u) m (nI wd)), (fz_ch (upd (xx_parent u) m (-1)) A B (nI m)), (xx_inPlan u), (xx_given u), (xx_store u), (xx_storeRows u), (xx_heads u), (xx_chain u), (xx_op u), (xx_opA u), (xx_opB u), (xx_opC u), (xx_opD u), (xx_opE u), (xx_map u), (xx_picked u), (xx_register u), (xx_loopAt u), (xx_loopCode u), (xx_result u), (xx_order u))
      ((nI (m + 1)), (yy_over v), (yy_resultRows v), (yy_resultWidth v), (yy_tables v), (yy_held v), (upd (yy_kind v) m (nI kd)), (upd (yy_left v) m A), (upd (yy_right v) m B), yp, yq, yr, (upd (yy_widths v) m (nI wd)), (fz_ch (upd (yy_used v) m 0) A B 1), (yy_rows v), (yy_given v), (yy_needed v), (yy_row v), (yy_result v)) := by
  obtain ⟨W, hn, ⟨p1, p2, p3, p4, p5, p6⟩, hU⟩ := hP
  obtain ⟨i1, i2, i3, i4⟩ := id hI
  have hchm : ∀ (f : Nat → Int32) (x : Int32), fz_ch f A B x m = f m := by
    intro f x
    have s1 : (if A < 0 then f else upd f A.toNatClampNeg x) m = f m := by
      by_cases h0 : kd = 0
      · rw [i1 h0, if_pos (by decide)]
      · have := (i2 h0).2.1
        rw [(i2 h0).1, if_neg (nI_pos (by omega)), fi_cl (by omega), fi_un (by omega)]
    unfold fz_ch
    by_cases h2 : fz_two kd
    · have := (i4 h2).2.1
      rw [(i4 h2).1, if_neg (nI_pos (by omega)), fi_cl (by omega), fi_un (by omega)]; exact s1
    · rw [i3 h2, if_pos (by decide)]; exact s1
  have hch1 : ∀ (f : Nat → Int32) (x : Int32) n, n < m → fz_chl kd a b n → fz_ch f A B x n = x := by
    intro f x n hnm hc
    unfold fz_ch
    by_cases h2 : fz_two kd
    · have hb := (i4 h2).2.1
      rw [(i4 h2).1, if_neg (nI_pos (by omega)), fi_cl (by omega)]
      by_cases e : n = b
      · subst e; exact fi_us
      · rw [fi_un e]
        have h0 : kd ≠ 0 := by unfold fz_two at h2; omega
        have ha := (i2 h0).2.1
        rw [(i2 h0).1, if_neg (nI_pos (by omega)), fi_cl (by omega)]
        rcases hc with ⟨_, z⟩ | ⟨_, z⟩
        · rw [z]; exact fi_us
        · exact absurd z e
    · rw [i3 h2, if_pos (by decide)]
      rcases hc with ⟨h0, z⟩ | ⟨z, _⟩
      · have ha := (i2 h0).2.1
        rw [(i2 h0).1, if_neg (nI_pos (by omega)), fi_cl (by omega), z]; exact fi_us
      · exact absurd z h2
  have hch2 : ∀ (f : Nat → Int32) (x : Int32) n, n < m → ¬ fz_chl kd a b n → fz_ch f A B x n = f n := by
    intro f x n hnm hc
    have s1 : (if A < 0 then f else upd f A.toNatClampNeg x) n = f n := by
      by_cases h0 : kd = 0
      · rw [i1 h0, if_pos (by decide)]
      · have := (i2 h0).2.1
        rw [(i2 h0).1, if_neg (nI_pos (by omega)), fi_cl (by omega), fi_un (fun z => hc (Or.inl ⟨h0, z⟩))]
    unfold fz_ch
    by_cases h2 : fz_two kd
    · have := (i4 h2).2.1
      rw [(i4 h2).1, if_neg (nI_pos (by omega)), fi_cl (by omega), fi_un (fun z => hc (Or.inr ⟨h2, z⟩))]; exact s1
    · rw [i3 h2, if_pos (by decide)]; exact s1
  have hW := fz_WF (P := P) (Q := Q) (R := R) (par' := fz_ch (upd (xx_parent u) m (-1)) A B (nI m)) W hm hkd hw1 hw6 hI (by rw [hchm]; exact fi_us) (fun n hnm hc => hch1 _ _ n hnm hc) (fun n hnm hc => by rw [hch2 _ _ n hnm hc, fi_un (by omega)]; rfl) hpp
  refine ⟨⟨m + 1, hW, rfl, ⟨rfl, ?_, ?_, ?_, ?_, fun n hn' h8 h9 => ?_⟩, fun n hn' => ?_⟩, hTb, hRs⟩
  · show upd (yy_kind v) m _ = upd (xx_kindOf u) m _
    rw [p2]
  · show upd (yy_left v) m _ = upd (xx_first u) m _
    rw [p3]
  · show upd (yy_right v) m _ = upd (xx_second u) m _
    rw [p4]
  · show upd (yy_widths v) m _ = upd (xx_widthOf u) m _
    rw [p5]
  · have e8 : fp_kd (fz_mkP (fx_pl u) m (nI kd) A B P Q R (nI wd) (fz_ch (upd (xx_parent u) m (-1)) A B (nI m))) n ≠ 8 := h8
    have e9 : fp_kd (fz_mkP (fx_pl u) m (nI kd) A B P Q R (nI wd) (fz_ch (upd (xx_parent u) m (-1)) A B (nI m))) n ≠ 9 := h9
    show yp n = upd (xx_p u) m P n ∧ yq n = upd (xx_q u) m Q n ∧ yr n = upd (xx_r u) m R n
    by_cases e : n = m
    · subst e
      have mkd : fp_kd (fz_mkP (fx_pl u) n (nI kd) A B P Q R (nI wd) (fz_ch (upd (xx_parent u) n (-1)) A B (nI n))) n = kd := by
        show (upd _ n (nI kd) n).toNatClampNeg = _; rw [fi_us]; exact fi_cl (by omega)
      rw [mkd] at e8 e9
      rw [fi_us, fi_us, fi_us]
      exact hym e8 e9
    · have nkd : fp_kd (fz_mkP (fx_pl u) m (nI kd) A B P Q R (nI wd) (fz_ch (upd (xx_parent u) m (-1)) A B (nI m))) n = fp_kd (fx_pl u) n := by
        show (upd (xx_kindOf u) m (nI kd) n).toNatClampNeg = _; rw [fi_un e]; rfl
      rw [nkd] at e8 e9
      obtain ⟨y1, y2, y3⟩ := hy n (by omega)
      rw [fi_un e, fi_un e, fi_un e, y1, y2, y3]
      exact p6 n (by omega) e8 e9
  · show fz_ch (upd (yy_used v) m 0) A B 1 n = 0 ↔ fz_ch (upd (xx_parent u) m (-1)) A B (nI m) n = -1
    by_cases e : n = m
    · subst e; rw [hchm, hchm, fi_us, fi_us]; exact ⟨fun _ => rfl, fun _ => rfl⟩
    · by_cases hc : fz_chl kd a b n
      · rw [hch1 _ _ n (by omega) hc, hch1 _ _ n (by omega) hc]
        exact ⟨fun z => absurd z (by decide), fun z => absurd z (fp_nI_m1 (by omega))⟩
      · rw [hch2 _ _ n (by omega) hc, hch2 _ _ n (by omega) hc, fi_un e, fi_un e]
        exact hU n (by omega)
end
section
/-! ## refusals -/
theorem fz_col {c : Int32} {w : Nat} (hw : w < 2 ^ 31) : fp_col c w ↔ (¬ c < 0 ∧ ¬ nI w ≤ c) := by
  constructor
  · rintro ⟨e, h⟩
    rw [e]
    exact ⟨nI_pos (by omega), nI_ge h hw⟩
  · rintro ⟨h1, h2⟩
    obtain ⟨j, hj, rfl⟩ := nI_of h1
    have hjw : j < w := Classical.byContradiction fun z => h2 (nI_le (by omega) hj)
    exact ⟨by rw [nI_clamp hj], by rw [nI_clamp hj]; exact hjw⟩
theorem fx_ri_bad {u : SX} (post : Int32 → Prop) (x : Int32) (hx : x < 0 ∨ ¬ x < xx_nodes u) (h : post (-3)) : wpX_refuseInput post u x := by
  show wpX_refuseInput post ((xx_nodes u), (xx_root u), (xx_codeLength u), (xx_mapWidth u), (xx_registersUsed u), (xx_depth u), (xx_overflow u), (xx_resultWidth u), (xx_resultRows u), (xx_tableCells u), (xx_tableRows u), (xx_kindOf u), (xx_first u), (xx_second u), (xx_p u), (xx_q u), (xx_r u), (xx_widthOf u), (xx_parent u), (xx_inPlan u), (xx_given u), (xx_store u), (xx_storeRows u), (xx_heads u), (xx_chain u), (xx_op u), (xx_opA u), (xx_opB u), (xx_opC u), (xx_opD u), (xx_opE u), (xx_map u), (xx_picked u), (xx_register u), (xx_loopAt u), (xx_loopCode u), (xx_result u), (xx_order u)) x
  by_cases c : x < 0
  · exact br_t c h
  · exact br_f c (br_f (hx.resolve_left c) h)
theorem fx_ri {u : SX} {m a : Nat} (post : Int32 → Prop) (W : fp_WF (fx_pl u) m) (hn : xx_nodes u = nI m) (ha : a < m) (h0 : xx_parent u a = -1 → post 0) (h1 : ¬ xx_parent u a = -1 → post (-4)) : wpX_refuseInput post u (nI a) := by
  have hm := W.1
  have hg : 0 ≤ xx_parent u a ↔ ¬ xx_parent u a = -1 := fp_pa_ge W ha
  show wpX_refuseInput post ((xx_nodes u), (xx_root u), (xx_codeLength u), (xx_mapWidth u), (xx_registersUsed u), (xx_depth u), (xx_overflow u), (xx_resultWidth u), (xx_resultRows u), (xx_tableCells u), (xx_tableRows u), (xx_kindOf u), (xx_first u), (xx_second u), (xx_p u), (xx_q u), (xx_r u), (xx_widthOf u), (xx_parent u), (xx_inPlan u), (xx_given u), (xx_store u), (xx_storeRows u), (xx_heads u), (xx_chain u), (xx_op u), (xx_opA u), (xx_opB u), (xx_opC u), (xx_opD u), (xx_opE u), (xx_map u), (xx_picked u), (xx_register u), (xx_loopAt u), (xx_loopCode u), (xx_result u), (xx_order u)) (nI a)
  refine br_f (nI_pos (by omega)) (br_t (by rw [hn]; exact nI_lt ha (by omega)) (And.intro (vp_in_nI (by omega) (by decide)) ?_))
  rw [fi_cl (by omega : a < 4096)]
  refine br_c (fun c => h0 ?_) (fun c => h1 ?_)
  · exact Classical.byContradiction fun z => absurd (hg.mpr z) (Int32.not_le.mpr c)
  · exact hg.mp (Int32.not_lt.mp c)
theorem fx_ic {u : SX} {a w : Nat} (post : Int32 → Prop) (ha : a < 12) (hw : xx_widthOf u a = nI w) (hw6 : w ≤ 6) (c : Int32) (h0 : ¬ fp_col c w → post 0) (h1 : fp_col c w → post 1) : wpX_isColumn post u (nI a) c := by
  have hc := fz_col (c := c) (w := w) (by omega)
  show wpX_isColumn post ((xx_nodes u), (xx_root u), (xx_codeLength u), (xx_mapWidth u), (xx_registersUsed u), (xx_depth u), (xx_overflow u), (xx_resultWidth u), (xx_resultRows u), (xx_tableCells u), (xx_tableRows u), (xx_kindOf u), (xx_first u), (xx_second u), (xx_p u), (xx_q u), (xx_r u), (xx_widthOf u), (xx_parent u), (xx_inPlan u), (xx_given u), (xx_store u), (xx_storeRows u), (xx_heads u), (xx_chain u), (xx_op u), (xx_opA u), (xx_opB u), (xx_opC u), (xx_opD u), (xx_opE u), (xx_map u), (xx_picked u), (xx_register u), (xx_loopAt u), (xx_loopCode u), (xx_result u), (xx_order u)) (nI a) c
  refine br_c (fun z => h0 fun y => (hc.mp y).1 z) (fun z => And.intro (vp_in_nI ha (by decide)) ?_)
  rw [fi_cl (by omega : a < 4096), hw]
  exact br_c (fun y => h0 fun q => (hc.mp q).2 y) (fun y => h1 (hc.mpr ⟨z, y⟩))
theorem fy_bn_bad {v : SY} (post : Int32 → Prop) (x : Int32) (hx : x < 0 ∨ ¬ x < yy_nodes v) (h : post 1) : wpY_badNode post v x := by
  show wpY_badNode post ((yy_nodes v), (yy_over v), (yy_resultRows v), (yy_resultWidth v), (yy_tables v), (yy_held v), (yy_kind v), (yy_left v), (yy_right v), (yy_p v), (yy_q v), (yy_r v), (yy_widths v), (yy_used v), (yy_rows v), (yy_given v), (yy_needed v), (yy_row v), (yy_result v)) x
  by_cases c : x < 0
  · exact br_t c h
  · exact br_f c (br_f (hx.resolve_left c) h)
theorem fy_bn {v : SY} {m a : Nat} (post : Int32 → Prop) (hn : yy_nodes v = nI m) (hm : m ≤ 12) (ha : a < m) (h : post 0) : wpY_badNode post v (nI a) := by
  show wpY_badNode post ((yy_nodes v), (yy_over v), (yy_resultRows v), (yy_resultWidth v), (yy_tables v), (yy_held v), (yy_kind v), (yy_left v), (yy_right v), (yy_p v), (yy_q v), (yy_r v), (yy_widths v), (yy_used v), (yy_rows v), (yy_given v), (yy_needed v), (yy_row v), (yy_result v)) (nI a)
  exact br_f (nI_pos (by omega)) (br_t (by rw [hn]; exact nI_lt ha (by omega)) h)
/-- the usual facts on an input node -/
theorem fz_node {u : SX} {v : SY} {m a : Nat} (hP : fz_pln u v m) (ha : a < m) : a < 12 ∧ vp_in (nI a) 12 ∧ xx_widthOf u a = nI (fp_wd (fx_pl u) a) ∧ yy_widths v a = nI (fp_wd (fx_pl u) a) ∧ 1 ≤ fp_wd (fx_pl u) a ∧ fp_wd (fx_pl u) a ≤ 6 := by
  obtain ⟨W, hn, P, hU⟩ := hP
  obtain ⟨k1, _, _, k4, k5, k6, _⟩ := fx_nd W rfl ha
  obtain ⟨_, _, _, y4, _⟩ := fy_nd W P ha
  exact ⟨k1, vp_in_nI k1 (by decide), k4, y4, k5, k6⟩
theorem fz_ix {x : Int32} {m : Nat} (hm : m ≤ 12) (h : ¬ (x < 0 ∨ ¬ x < nI m)) : ∃ a, a < m ∧ x = nI a := by
  have h0 : ¬ x < 0 := fun z => h (Or.inl z)
  have h1 : x < nI m := Classical.byContradiction fun z => h (Or.inr z)
  obtain ⟨a, ha, rfl⟩ := nI_of h0
  exact ⟨a, (nI_ltI ha (by omega)).mp h1, rfl⟩
theorem fz_full {m : Nat} (hm : m ≤ 12) (h : ¬ m < 12) : nI m = 12 ∧ ¬ nI m < 12 := by
  have e : m = 12 := by omega
  subst e
  exact ⟨rfl, by decide⟩
theorem fz_room {m : Nat} (h : m < 12) : nI m < 12 ∧ ¬ nI m = 12 :=
  ⟨nI_lt (b := 12) h (by decide), fun e => by have := (nI_eq (a := m) (b := 12) (by omega) (by decide)).mp e; omega⟩
theorem i_vc_filter {k : Nat} {u : SX} {v : SY} (I : i_Rel k u v) (hk : k + 5 ≤ 2560) (v1 : Int32) (v2 : Int32) (v3 : Int32) (v4 : Int32) : wpX_filter (fun r u' => wpY_filter (fun r' v' => r' = r ∧ i_Rel (k + 5) u' v') v v1 v2 v3 v4) u v1 v2 v3 v4 := by
  obtain ⟨⟨m, hP⟩, hTb, hRs⟩ := id I
  obtain ⟨W, hn, P, hU⟩ := id hP
  have hm := W.1
  by_cases hx : v1 < 0 ∨ ¬ v1 < xx_nodes u
  · have Y : wpY_filter (fun r' v' => r' = -3 ∧ i_Rel (k + 5) u v') v v1 v2 v3 v4 := by
      unfold wpY_filter; dsimp only
      exact fy_bn_bad (v := v) _ v1 (by rw [P.1, ← hn]; exact hx) (br_f (by decide) ⟨rfl, I⟩)
    unfold wpX_filter; dsimp only
    exact fx_ri_bad (u := u) _ v1 hx (br_f (by decide) Y)
  rw [hn] at hx
  obtain ⟨a, ha, rfl⟩ := fz_ix hm hx
  obtain ⟨n1, n2, n3, n4, n5, n6⟩ := fz_node hP ha
  have ya : ∀ post : Int32 → SY → Prop, (yy_used v a = 0 → (v2 < 0 → post (-5) v) ∧ (¬ v2 < 0 → vp_in (nI a) 12 ∧ ((v2 < nI (fp_wd (fx_pl u) a) → ((v3 < 0 → post (-6) v) ∧ (¬ v3 < 0 → ((v3 ≤ 5 → ((yy_nodes v = 12 → post (-2) v) ∧ (¬ yy_nodes v = 12 → vp_in (nI a) 12 ∧ wpY_make (fun r u' => wpY_say (fun u'' => post r u'') u' r v2 v3 v4) v 1 (nI a) (-1) (nI (fp_wd (fx_pl u) a))))) ∧ (¬ v3 ≤ 5 → post (-6) v))))) ∧ (¬ v2 < nI (fp_wd (fx_pl u) a) → post (-5) v)))) → (¬ yy_used v a = 0 → post (-4) v) → wpY_filter post v (nI a) v2 v3 v4 := by
    intro post h0 h1
    show wpY_filter post ((yy_nodes v), (yy_over v), (yy_resultRows v), (yy_resultWidth v), (yy_tables v), (yy_held v), (yy_kind v), (yy_left v), (yy_right v), (yy_p v), (yy_q v), (yy_r v), (yy_widths v), (yy_used v), (yy_rows v), (yy_given v), (yy_needed v), (yy_row v), (yy_result v)) (nI a) v2 v3 v4
    unfold wpY_filter; dsimp only
    refine fy_bn (v := v) _ P.1 hm ha (br_t rfl ⟨n2, ?_⟩)
    rw [fi_cl (by omega : a < 4096), n4]
    exact ⟨h0, h1⟩
  have hcol := fz_col (c := v2) (w := fp_wd (fx_pl u) a) (by omega)
  show wpX_filter _ ((xx_nodes u), (xx_root u), (xx_codeLength u), (xx_mapWidth u), (xx_registersUsed u), (xx_depth u), (xx_overflow u), (xx_resultWidth u), (xx_resultRows u), (xx_tableCells u), (xx_tableRows u), (xx_kindOf u), (xx_first u), (xx_second u), (xx_p u), (xx_q u), (xx_r u), (xx_widthOf u), (xx_parent u), (xx_inPlan u), (xx_given u), (xx_store u), (xx_storeRows u), (xx_heads u), (xx_chain u), (xx_op u), (xx_opA u), (xx_opB u), (xx_opC u), (xx_opD u), (xx_opE u), (xx_map u), (xx_picked u), (xx_register u), (xx_loopAt u), (xx_loopCode u), (xx_result u), (xx_order u)) (nI a) v2 v3 v4
  unfold wpX_filter; dsimp only
  refine fx_ri (u := u) _ W hn ha (fun hu => br_t rfl ?_) (fun hu => br_f (by decide) (ya _ (fun z => absurd ((hU a ha).mp z) hu) (fun _ => ⟨rfl, I⟩)))
  have hus := (hU a ha).mpr hu
  refine fx_ic (u := u) _ n1 n3 n6 v2 (fun hc => br_t rfl (ya _ (fun _ => br_c (fun _ => ⟨rfl, I⟩) (fun c => ⟨n2, br_f (fun y => hc (hcol.mpr ⟨c, Int32.not_le.mpr y⟩)) ⟨rfl, I⟩⟩)) (fun z => absurd hus z))) (fun hc => br_f (by decide) ?_)
  have c0 := (hcol.mp hc).1
  have c1 : v2 < nI (fp_wd (fx_pl u) a) := Int32.not_le.mp (hcol.mp hc).2
  refine br_c (fun z3 => ya _ (fun _ => br_f c0 ⟨n2, br_t c1 (br_t z3 ⟨rfl, I⟩)⟩) (fun z => absurd hus z)) (fun z3 => ?_)
  refine br_c (fun z4 => ?_) (fun z4 => ya _ (fun _ => br_f c0 ⟨n2, br_t c1 (br_f z3 (br_f z4 ⟨rfl, I⟩))⟩) (fun z => absurd hus z))
  rw [hn]
  by_cases hroom : m < 12
  · obtain ⟨r1, r2⟩ := fz_room hroom
    refine br_t r1 ⟨n2, ?_⟩
    rw [fi_cl (by omega : a < 4096), n3, ← hn]
    refine fx_make (u := u) _ hroom hn _ _ _ _ _ _ _ (fun _ => n2) (fun z => absurd (by decide) z) ?_
    refine ya _ (fun _ => br_f c0 ⟨n2, br_t c1 (br_f z3 (br_t z4 (br_f (by rw [P.1]; exact r2) ⟨n2, ?_⟩)))⟩) (fun z => absurd hus z)
    refine fy_make _ hroom P.1 _ _ _ _ (fun _ => n2) (fun z => absurd (by decide) z) ?_
    refine fy_say _ hroom _ _ _ ⟨rfl, ?_⟩
    exact fz_make (kd := 1) (wd := fp_wd (fx_pl u) a) (a := a) (b := 0) (A := nI a) (B := -1) hP hTb hRs hroom _ _ _ (by decide) n5 n6 ⟨fun z => absurd z (by decide), fun _ => ⟨rfl, ha, hu⟩, fun _ => rfl, fun z => absurd z (by unfold fz_two; decide)⟩ ⟨fun z => absurd z (by decide), fun _ => ⟨hc, rfl⟩, fun z => absurd z (by decide), fun z => absurd z (by decide), fun z => absurd z (by decide), fun z => absurd z (by decide), fun z => absurd z (by decide), fun z => absurd z (by decide), fun z => absurd z (by decide)⟩ (fun n hn' => ⟨fi_un (by omega), fi_un (by omega), fi_un (by omega)⟩) (fun _ _ => ⟨fi_us, fi_us, fi_us⟩)
  · obtain ⟨r1, r2⟩ := fz_full hm hroom
    refine br_f r2 ?_
    rw [← hn]
    exact ya _ (fun _ => br_f c0 ⟨n2, br_t c1 (br_f z3 (br_t z4 (br_t (by rw [P.1]; exact r1) ⟨rfl, I⟩)))⟩) (fun z => absurd hus z)
end
section
/-! ## tables -/
theorem i_vc_insert {k : Nat} {u : SX} {v : SY} (I : i_Rel k u v) (hk : k + 5 ≤ 2560) (v1 : Int32) (v2 : Int32) (v3 : Int32) (v4 : Int32) : wpX_insert (fun r u' => wpY_insert (fun r' v' => r' = r ∧ i_Rel (k + 5) u' v') v v1 v2 v3 v4) u v1 v2 v3 v4 := by
  obtain ⟨hPl, ⟨t1, t2, t3⟩, hRs⟩ := id I
  show wpX_insert (fun r u' => wpY_insert (fun r' v' => r' = r ∧ i_Rel (k + 5) u' v') ((yy_nodes v), (yy_over v), (yy_resultRows v), (yy_resultWidth v), (yy_tables v), (yy_held v), (yy_kind v), (yy_left v), (yy_right v), (yy_p v), (yy_q v), (yy_r v), (yy_widths v), (yy_used v), (yy_rows v), (yy_given v), (yy_needed v), (yy_row v), (yy_result v)) v1 v2 v3 v4) ((xx_nodes u), (xx_root u), (xx_codeLength u), (xx_mapWidth u), (xx_registersUsed u), (xx_depth u), (xx_overflow u), (xx_resultWidth u), (xx_resultRows u), (xx_tableCells u), (xx_tableRows u), (xx_kindOf u), (xx_first u), (xx_second u), (xx_p u), (xx_q u), (xx_r u), (xx_widthOf u), (xx_parent u), (xx_inPlan u), (xx_given u), (xx_store u), (xx_storeRows u), (xx_heads u), (xx_chain u), (xx_op u), (xx_opA u), (xx_opB u), (xx_opC u), (xx_opD u), (xx_opE u), (xx_map u), (xx_picked u), (xx_register u), (xx_loopAt u), (xx_loopCode u), (xx_result u), (xx_order u)) v1 v2 v3 v4
  unfold wpX_insert wpY_insert
  dsimp only
  refine br_c (fun c => br_t c (br_f (by decide) ⟨rfl, I⟩)) (fun c1 => ?_)
  refine br_c (fun c2 => ?_) (fun c => br_f c1 (br_f c (br_f (by decide) ⟨rfl, I⟩)))
  obtain ⟨t, ht, rfl⟩ := nI_of2 (M := 2) (n := 2) (by decide) c1 c2
  have hv := vp_in_nI (n := t) (N := 3) (by omega) (by decide)
  obtain ⟨h, h6, e⟩ := t3 t (by omega)
  have e' : yy_held v t = nI h := by rw [t2]; exact e
  rw [fi_cl (by omega : t < 4096), e, e', fi_u0]
  refine ⟨hv, ?_⟩
  intro x5 e5
  subst e5
  rw [fi_t0]
  by_cases hh : h < 6
  · refine br_t (nI_lt (b := 6) hh (by decide)) ?_
    have s1 : nI (18 * t + 3 * h) + 2 = nI (18 * t + 3 * h + 2) := nI_add _ 2
    intro x6 e6
    subst e6
    rw [nI_1, s1, fi_cl (by omega : 18 * t + 3 * h < 4096), fi_cl (by omega : 18 * t + 3 * h + 1 < 4096), fi_cl (by omega : 18 * t + 3 * h + 2 < 4096), nI_1]
    refine ⟨vp_in_nI (by omega) (by decide), ?_⟩
    intro x7 e7
    refine ⟨vp_in_nI (by omega) (by decide), ?_⟩
    intro x8 e8
    refine ⟨vp_in_nI (by omega) (by decide), ?_⟩
    intro x9 e9
    refine ⟨hv, ?_⟩
    intro x10 e10
    subst e7 e8 e9 e10
    refine br_f (nI_pos (by omega)) (br_t c2 (br_t rfl ⟨hv, br_f (fun z => ?_) ⟨hv, ?_⟩⟩))
    · have := (nI_eq (a := h) (b := 6) (by omega) (by decide)).mp z; omega
    · intro y1 f1
      subst f1
      rw [nI_1, s1, fi_cl (by omega : 18 * t + 3 * h < 4096), fi_cl (by omega : 18 * t + 3 * h + 1 < 4096), fi_cl (by omega : 18 * t + 3 * h + 2 < 4096)]
      refine ⟨vp_in_nI (by omega) (by decide), ?_⟩
      intro y2 f2
      refine ⟨vp_in_nI (by omega) (by decide), ?_⟩
      intro y3 f3
      refine ⟨vp_in_nI (by omega) (by decide), ?_⟩
      intro y4 f4
      refine ⟨hv, hv, ?_⟩
      intro y5 f5
      subst f2 f3 f4 f5
      refine ⟨hv, ?_, hPl, ⟨?_, ?_, ?_⟩, hRs⟩
      · rw [fi_us]
      · show upd (upd (upd (yy_tables v) _ _) _ _) _ _ = upd (upd (upd (xx_tableCells u) _ _) _ _) _ _
        rw [t1]
      · show upd (yy_held v) _ _ = upd (xx_tableRows u) _ _
        rw [t2]
      · intro s hs
        show ∃ h', h' ≤ 6 ∧ upd (xx_tableRows u) t (nI (h + 1)) s = nI h'
        by_cases z : s = t
        · subst z; exact ⟨h + 1, by omega, fi_us⟩
        · rw [fi_un z]; exact t3 s hs
  · have e6 : h = 6 := by omega
    subst e6
    refine br_f (by decide) (br_f (nI_pos (by omega)) (br_t c2 (br_t rfl ⟨hv, br_t rfl ⟨rfl, I⟩⟩)))
theorem i_vc_empty {k : Nat} {u : SX} {v : SY} (I : i_Rel k u v) (hk : k + 5 ≤ 2560) (v1 : Int32) : wpX_empty (fun r u' => wpY_empty (fun r' v' => r' = r ∧ i_Rel (k + 5) u' v') v v1) u v1 := by
  obtain ⟨hPl, ⟨t1, t2, t3⟩, hRs⟩ := id I
  show wpX_empty (fun r u' => wpY_empty (fun r' v' => r' = r ∧ i_Rel (k + 5) u' v') ((yy_nodes v), (yy_over v), (yy_resultRows v), (yy_resultWidth v), (yy_tables v), (yy_held v), (yy_kind v), (yy_left v), (yy_right v), (yy_p v), (yy_q v), (yy_r v), (yy_widths v), (yy_used v), (yy_rows v), (yy_given v), (yy_needed v), (yy_row v), (yy_result v)) v1) ((xx_nodes u), (xx_root u), (xx_codeLength u), (xx_mapWidth u), (xx_registersUsed u), (xx_depth u), (xx_overflow u), (xx_resultWidth u), (xx_resultRows u), (xx_tableCells u), (xx_tableRows u), (xx_kindOf u), (xx_first u), (xx_second u), (xx_p u), (xx_q u), (xx_r u), (xx_widthOf u), (xx_parent u), (xx_inPlan u), (xx_given u), (xx_store u), (xx_storeRows u), (xx_heads u), (xx_chain u), (xx_op u), (xx_opA u), (xx_opB u), (xx_opC u), (xx_opD u), (xx_opE u), (xx_map u), (xx_picked u), (xx_register u), (xx_loopAt u), (xx_loopCode u), (xx_result u), (xx_order u)) v1
  unfold wpX_empty wpY_empty
  dsimp only
  refine br_c (fun c => br_t c (br_f (by decide) ⟨rfl, I⟩)) (fun c1 => ?_)
  refine br_c (fun c2 => ?_) (fun c => br_f c1 (br_f c (br_f (by decide) ⟨rfl, I⟩)))
  obtain ⟨t, ht, rfl⟩ := nI_of2 (M := 2) (n := 2) (by decide) c1 c2
  have hv := vp_in_nI (n := t) (N := 3) (by omega) (by decide)
  rw [fi_cl (by omega : t < 4096)]
  refine ⟨hv, ?_⟩
  intro x2 e2
  refine ⟨hv, ?_⟩
  intro x3 e3
  refine br_f c1 (br_t c2 (br_t rfl ⟨hv, ?_⟩))
  intro y2 f2
  refine ⟨hv, ?_⟩
  intro y3 f3
  subst e3 f3
  refine ⟨by rw [e2, f2, t2], hPl, ⟨t1, ?_, ?_⟩, hRs⟩
  · show upd (yy_held v) _ _ = upd (xx_tableRows u) _ _
    rw [t2]
  · intro s hs
    show ∃ h', h' ≤ 6 ∧ upd (xx_tableRows u) t 0 s = nI h'
    by_cases z : s = t
    · subst z; exact ⟨0, by omega, fi_us⟩
    · rw [fi_un z]; exact t3 s hs
theorem i_vc_scan {k : Nat} {u : SX} {v : SY} (I : i_Rel k u v) (hk : k + 5 ≤ 2560) (v1 : Int32) : wpX_scan (fun r u' => wpY_scan (fun r' v' => r' = r ∧ i_Rel (k + 5) u' v') v v1) u v1 := by
  obtain ⟨⟨m, hP⟩, hTb, hRs⟩ := id I
  obtain ⟨W, hn, P, hU⟩ := id hP
  have hm := W.1
  show wpX_scan (fun r u' => wpY_scan (fun r' v' => r' = r ∧ i_Rel (k + 5) u' v') ((yy_nodes v), (yy_over v), (yy_resultRows v), (yy_resultWidth v), (yy_tables v), (yy_held v), (yy_kind v), (yy_left v), (yy_right v), (yy_p v), (yy_q v), (yy_r v), (yy_widths v), (yy_used v), (yy_rows v), (yy_given v), (yy_needed v), (yy_row v), (yy_result v)) v1) ((xx_nodes u), (xx_root u), (xx_codeLength u), (xx_mapWidth u), (xx_registersUsed u), (xx_depth u), (xx_overflow u), (xx_resultWidth u), (xx_resultRows u), (xx_tableCells u), (xx_tableRows u), (xx_kindOf u), (xx_first u), (xx_second u), (xx_p u), (xx_q u), (xx_r u), (xx_widthOf u), (xx_parent u), (xx_inPlan u), (xx_given u), (xx_store u), (xx_storeRows u), (xx_heads u), (xx_chain u), (xx_op u), (xx_opA u), (xx_opB u), (xx_opC u), (xx_opD u), (xx_opE u), (xx_map u), (xx_picked u), (xx_register u), (xx_loopAt u), (xx_loopCode u), (xx_result u), (xx_order u)) v1
  unfold wpX_scan wpY_scan
  dsimp only
  refine br_c (fun c => br_t c (br_f (by decide) ⟨rfl, I⟩)) (fun c1 => ?_)
  refine br_c (fun c2 => ?_) (fun c => br_f c1 (br_f c (br_f (by decide) ⟨rfl, I⟩)))
  obtain ⟨t, ht, rfl⟩ := nI_of2 (M := 2) (n := 2) (by decide) c1 c2
  by_cases hroom : m < 12
  · obtain ⟨r1, r2⟩ := fz_room hroom
    refine br_t (by rw [hn]; exact r1) ?_
    refine fx_make (u := u) _ hroom hn _ _ _ _ _ _ _ (fun z => absurd (by decide) z) (fun z => absurd (by decide) z) ?_
    refine br_f c1 (br_t c2 (br_t rfl (br_f (by rw [P.1]; exact r2) ?_)))
    refine fy_make (v := v) _ hroom P.1 _ _ _ _ (fun z => absurd (by decide) z) (fun z => absurd (by decide) z) ?_
    refine fy_say _ hroom _ _ _ ⟨rfl, ?_⟩
    exact fz_make (kd := 0) (wd := 3) (a := 0) (b := 0) (A := -1) (B := -1) hP hTb hRs hroom _ _ _ (by decide) (by decide) (by decide) ⟨fun _ => rfl, fun z => absurd rfl z, fun _ => rfl, fun z => absurd z (by unfold fz_two; decide)⟩ ⟨fun _ => ⟨⟨by rw [fi_cl (by omega)], by rw [fi_cl (by omega)]; omega⟩, rfl⟩, fun z => absurd z (by decide), fun z => absurd z (by decide), fun z => absurd z (by decide), fun z => absurd z (by decide), fun z => absurd z (by decide), fun z => absurd z (by decide), fun z => absurd z (by decide), fun z => absurd z (by decide)⟩ (fun n hn' => ⟨fi_un (by omega), fi_un (by omega), fi_un (by omega)⟩) (fun _ _ => ⟨fi_us, fi_us, fi_us⟩)
  · obtain ⟨r1, r2⟩ := fz_full hm hroom
    exact br_f (by rw [hn]; exact r2) (br_f c1 (br_t c2 (br_t rfl (br_t (by rw [P.1]; exact r1) ⟨rfl, I⟩))))
/-! ## group, distinct -/
theorem i_vc_group {k : Nat} {u : SX} {v : SY} (I : i_Rel k u v) (hk : k + 5 ≤ 2560) (v1 : Int32) (v2 : Int32) (v3 : Int32) (v4 : Int32) : wpX_group (fun r u' => wpY_group (fun r' v' => r' = r ∧ i_Rel (k + 5) u' v') v v1 v2 v3 v4) u v1 v2 v3 v4 := by
  obtain ⟨⟨m, hP⟩, hTb, hRs⟩ := id I
  obtain ⟨W, hn, P, hU⟩ := id hP
  have hm := W.1
  by_cases hx : v1 < 0 ∨ ¬ v1 < xx_nodes u
  · have Y : wpY_group (fun r' v' => r' = -3 ∧ i_Rel (k + 5) u v') v v1 v2 v3 v4 := by
      unfold wpY_group; dsimp only
      exact fy_bn_bad (v := v) _ v1 (by rw [P.1, ← hn]; exact hx) (br_f (by decide) ⟨rfl, I⟩)
    unfold wpX_group; dsimp only
    exact fx_ri_bad (u := u) _ v1 hx (br_f (by decide) Y)
  rw [hn] at hx
  obtain ⟨a, ha, rfl⟩ := fz_ix hm hx
  obtain ⟨n1, n2, n3, n4, n5, n6⟩ := fz_node hP ha
  have ya : ∀ post : Int32 → SY → Prop, (yy_used v a = 0 → (v2 < 0 → post (-5) v) ∧ (¬ v2 < 0 → vp_in (nI a) 12 ∧ ((nI (fp_wd (fx_pl u) a) ≤ v2 → post (-5) v) ∧ (¬ nI (fp_wd (fx_pl u) a) ≤ v2 → ((v4 < 0 → post (-5) v) ∧ (¬ v4 < 0 → vp_in (nI a) 12 ∧ ((v4 < nI (fp_wd (fx_pl u) a) → ((v3 < 0 → post (-6) v) ∧ (¬ v3 < 0 → ((v3 ≤ 3 → ((yy_nodes v = 12 → post (-2) v) ∧ (¬ yy_nodes v = 12 → wpY_make (fun r u' => wpY_say (fun u'' => post r u'') u' r v2 v3 v4) v 7 (nI a) (-1) 2))) ∧ (¬ v3 ≤ 3 → post (-6) v))))) ∧ (¬ v4 < nI (fp_wd (fx_pl u) a) → post (-5) v)))))))) → (¬ yy_used v a = 0 → post (-4) v) → wpY_group post v (nI a) v2 v3 v4 := by
    intro post h0 h1
    show wpY_group post ((yy_nodes v), (yy_over v), (yy_resultRows v), (yy_resultWidth v), (yy_tables v), (yy_held v), (yy_kind v), (yy_left v), (yy_right v), (yy_p v), (yy_q v), (yy_r v), (yy_widths v), (yy_used v), (yy_rows v), (yy_given v), (yy_needed v), (yy_row v), (yy_result v)) (nI a) v2 v3 v4
    unfold wpY_group; dsimp only
    refine fy_bn (v := v) _ P.1 hm ha (br_t rfl ⟨n2, ?_⟩)
    rw [fi_cl (by omega : a < 4096), n4]
    exact ⟨h0, h1⟩
  have hcol := fz_col (c := v2) (w := fp_wd (fx_pl u) a) (by omega)
  have hcol4 := fz_col (c := v4) (w := fp_wd (fx_pl u) a) (by omega)
  show wpX_group _ ((xx_nodes u), (xx_root u), (xx_codeLength u), (xx_mapWidth u), (xx_registersUsed u), (xx_depth u), (xx_overflow u), (xx_resultWidth u), (xx_resultRows u), (xx_tableCells u), (xx_tableRows u), (xx_kindOf u), (xx_first u), (xx_second u), (xx_p u), (xx_q u), (xx_r u), (xx_widthOf u), (xx_parent u), (xx_inPlan u), (xx_given u), (xx_store u), (xx_storeRows u), (xx_heads u), (xx_chain u), (xx_op u), (xx_opA u), (xx_opB u), (xx_opC u), (xx_opD u), (xx_opE u), (xx_map u), (xx_picked u), (xx_register u), (xx_loopAt u), (xx_loopCode u), (xx_result u), (xx_order u)) (nI a) v2 v3 v4
  unfold wpX_group; dsimp only
  refine fx_ri (u := u) _ W hn ha (fun hu => br_t rfl ?_) (fun hu => br_f (by decide) (ya _ (fun z => absurd ((hU a ha).mp z) hu) (fun _ => ⟨rfl, I⟩)))
  have hus := (hU a ha).mpr hu
  refine fx_ic (u := u) _ n1 n3 n6 v2 (fun hc => br_t rfl (ya _ (fun _ => br_c (fun _ => ⟨rfl, I⟩) (fun c => ⟨n2, br_t (Classical.byContradiction fun y => hc (hcol.mpr ⟨c, y⟩)) ⟨rfl, I⟩⟩)) (fun z => absurd hus z))) (fun hc => br_f (by decide) ?_)
  obtain ⟨c0, c1⟩ := hcol.mp hc
  refine fx_ic (u := u) _ n1 n3 n6 v4 (fun hd => br_t rfl (ya _ (fun _ => br_f c0 ⟨n2, br_f c1 (br_c (fun _ => ⟨rfl, I⟩) (fun c => ⟨n2, br_f (fun y => hd (hcol4.mpr ⟨c, Int32.not_le.mpr y⟩)) ⟨rfl, I⟩⟩))⟩) (fun z => absurd hus z))) (fun hd => br_f (by decide) ?_)
  have d0 := (hcol4.mp hd).1
  have d1 : v4 < nI (fp_wd (fx_pl u) a) := Int32.not_le.mp (hcol4.mp hd).2
  refine br_c (fun z3 => ya _ (fun _ => br_f c0 ⟨n2, br_f c1 (br_f d0 ⟨n2, br_t d1 (br_t z3 ⟨rfl, I⟩)⟩)⟩) (fun z => absurd hus z)) (fun z3 => ?_)
  refine br_c (fun z4 => ?_) (fun z4 => ya _ (fun _ => br_f c0 ⟨n2, br_f c1 (br_f d0 ⟨n2, br_t d1 (br_f z3 (br_f z4 ⟨rfl, I⟩))⟩)⟩) (fun z => absurd hus z))
  rw [hn]
  by_cases hroom : m < 12
  · obtain ⟨r1, r2⟩ := fz_room hroom
    refine br_t r1 ?_
    rw [← hn]
    refine fx_make (u := u) _ hroom hn _ _ _ _ _ _ _ (fun _ => n2) (fun z => absurd (by decide) z) ?_
    refine ya _ (fun _ => br_f c0 ⟨n2, br_f c1 (br_f d0 ⟨n2, br_t d1 (br_f z3 (br_t z4 (br_f (by rw [P.1]; exact r2) ?_)))⟩)⟩) (fun z => absurd hus z)
    refine fy_make _ hroom P.1 _ _ _ _ (fun _ => n2) (fun z => absurd (by decide) z) ?_
    refine fy_say _ hroom _ _ _ ⟨rfl, ?_⟩
    obtain ⟨j, hj, rfl⟩ := nI_of2 (M := 3) (n := 3) (by decide) z3 z4
    exact fz_make (kd := 7) (wd := 2) (a := a) (b := 0) (A := nI a) (B := -1) hP hTb hRs hroom _ _ _ (by decide) (by decide) (by decide) ⟨fun z => absurd z (by decide), fun _ => ⟨rfl, ha, hu⟩, fun _ => rfl, fun z => absurd z (by unfold fz_two; decide)⟩ ⟨fun z => absurd z (by decide), fun z => absurd z (by decide), fun z => absurd z (by decide), fun z => absurd z (by decide), fun z => absurd z (by decide), fun z => absurd z (by decide), fun _ => ⟨hc, ⟨by rw [fi_cl (by omega)], by rw [fi_cl (by omega)]; omega⟩, hd, rfl⟩, fun z => absurd z (by decide), fun z => absurd z (by decide)⟩ (fun n hn' => ⟨fi_un (by omega), fi_un (by omega), fi_un (by omega)⟩) (fun _ _ => ⟨fi_us, fi_us, fi_us⟩)
  · obtain ⟨r1, r2⟩ := fz_full hm hroom
    refine br_f r2 ?_
    rw [← hn]
    exact ya _ (fun _ => br_f c0 ⟨n2, br_f c1 (br_f d0 ⟨n2, br_t d1 (br_f z3 (br_t z4 (br_t (by rw [P.1]; exact r1) ⟨rfl, I⟩)))⟩)⟩) (fun z => absurd hus z)
theorem i_vc_distinct {k : Nat} {u : SX} {v : SY} (I : i_Rel k u v) (hk : k + 5 ≤ 2560) (v1 : Int32) : wpX_distinct (fun r u' => wpY_distinct (fun r' v' => r' = r ∧ i_Rel (k + 5) u' v') v v1) u v1 := by
  obtain ⟨⟨m, hP⟩, hTb, hRs⟩ := id I
  obtain ⟨W, hn, P, hU⟩ := id hP
  have hm := W.1
  by_cases hx : v1 < 0 ∨ ¬ v1 < xx_nodes u
  · have Y : wpY_distinct (fun r' v' => r' = -3 ∧ i_Rel (k + 5) u v') v v1 := by
      unfold wpY_distinct; dsimp only
      exact fy_bn_bad (v := v) _ v1 (by rw [P.1, ← hn]; exact hx) (br_f (by decide) ⟨rfl, I⟩)
    unfold wpX_distinct; dsimp only
    exact fx_ri_bad (u := u) _ v1 hx (br_f (by decide) Y)
  rw [hn] at hx
  obtain ⟨a, ha, rfl⟩ := fz_ix hm hx
  obtain ⟨n1, n2, n3, n4, n5, n6⟩ := fz_node hP ha
  have ya : ∀ post : Int32 → SY → Prop, (yy_used v a = 0 → (yy_nodes v = 12 → post (-2) v) ∧ (¬ yy_nodes v = 12 → vp_in (nI a) 12 ∧ wpY_make post v 8 (nI a) (-1) (nI (fp_wd (fx_pl u) a)))) → (¬ yy_used v a = 0 → post (-4) v) → wpY_distinct post v (nI a) := by
    intro post h0 h1
    show wpY_distinct post ((yy_nodes v), (yy_over v), (yy_resultRows v), (yy_resultWidth v), (yy_tables v), (yy_held v), (yy_kind v), (yy_left v), (yy_right v), (yy_p v), (yy_q v), (yy_r v), (yy_widths v), (yy_used v), (yy_rows v), (yy_given v), (yy_needed v), (yy_row v), (yy_result v)) (nI a)
    unfold wpY_distinct; dsimp only
    refine fy_bn (v := v) _ P.1 hm ha (br_t rfl ⟨n2, ?_⟩)
    rw [fi_cl (by omega : a < 4096), n4]
    exact ⟨h0, h1⟩
  show wpX_distinct _ ((xx_nodes u), (xx_root u), (xx_codeLength u), (xx_mapWidth u), (xx_registersUsed u), (xx_depth u), (xx_overflow u), (xx_resultWidth u), (xx_resultRows u), (xx_tableCells u), (xx_tableRows u), (xx_kindOf u), (xx_first u), (xx_second u), (xx_p u), (xx_q u), (xx_r u), (xx_widthOf u), (xx_parent u), (xx_inPlan u), (xx_given u), (xx_store u), (xx_storeRows u), (xx_heads u), (xx_chain u), (xx_op u), (xx_opA u), (xx_opB u), (xx_opC u), (xx_opD u), (xx_opE u), (xx_map u), (xx_picked u), (xx_register u), (xx_loopAt u), (xx_loopCode u), (xx_result u), (xx_order u)) (nI a)
  unfold wpX_distinct; dsimp only
  refine fx_ri (u := u) _ W hn ha (fun hu => br_t rfl ?_) (fun hu => br_f (by decide) (ya _ (fun z => absurd ((hU a ha).mp z) hu) (fun _ => ⟨rfl, I⟩)))
  have hus := (hU a ha).mpr hu
  rw [hn]
  by_cases hroom : m < 12
  · obtain ⟨r1, r2⟩ := fz_room hroom
    refine br_t r1 ⟨n2, ?_⟩
    rw [fi_cl (by omega : a < 4096), n3, ← hn]
    refine fx_make (u := u) _ hroom hn _ _ _ _ _ _ _ (fun _ => n2) (fun z => absurd (by decide) z) ?_
    refine ya _ (fun _ => br_f (by rw [P.1]; exact r2) ⟨n2, ?_⟩) (fun z => absurd hus z)
    refine fy_make _ hroom P.1 _ _ _ _ (fun _ => n2) (fun z => absurd (by decide) z) ⟨rfl, ?_⟩
    exact fz_make (kd := 8) (wd := fp_wd (fx_pl u) a) (a := a) (b := 0) (A := nI a) (B := -1) hP hTb hRs hroom _ _ _ (by decide) n5 n6 ⟨fun z => absurd z (by decide), fun _ => ⟨rfl, ha, hu⟩, fun _ => rfl, fun z => absurd z (by unfold fz_two; decide)⟩ ⟨fun z => absurd z (by decide), fun z => absurd z (by decide), fun z => absurd z (by decide), fun z => absurd z (by decide), fun z => absurd z (by decide), fun z => absurd z (by decide), fun z => absurd z (by decide), fun _ => rfl, fun z => absurd z (by decide)⟩ (fun n hn' => ⟨rfl, rfl, rfl⟩) (fun z => absurd rfl z)
  · obtain ⟨r1, r2⟩ := fz_full hm hroom
    refine br_f r2 ?_
    rw [← hn]
    exact ya _ (fun _ => br_t (by rw [P.1]; exact r1) ⟨rfl, I⟩) (fun z => absurd hus z)
/-! ## extend -/
theorem i_vc_extend {k : Nat} {u : SX} {v : SY} (I : i_Rel k u v) (hk : k + 5 ≤ 2560) (v1 : Int32) (v2 : Int32) (v3 : Int32) (v4 : Int32) : wpX_extend (fun r u' => wpY_extend (fun r' v' => r' = r ∧ i_Rel (k + 5) u' v') v v1 v2 v3 v4) u v1 v2 v3 v4 := by
  obtain ⟨⟨m, hP⟩, hTb, hRs⟩ := id I
  obtain ⟨W, hn, P, hU⟩ := id hP
  have hm := W.1
  by_cases hx : v1 < 0 ∨ ¬ v1 < xx_nodes u
  · have Y : wpY_extend (fun r' v' => r' = -3 ∧ i_Rel (k + 5) u v') v v1 v2 v3 v4 := by
      unfold wpY_extend; dsimp only
      exact fy_bn_bad (v := v) _ v1 (by rw [P.1, ← hn]; exact hx) (br_f (by decide) ⟨rfl, I⟩)
    unfold wpX_extend; dsimp only
    exact fx_ri_bad (u := u) _ v1 hx (br_f (by decide) Y)
  rw [hn] at hx
  obtain ⟨a, ha, rfl⟩ := fz_ix hm hx
  obtain ⟨n1, n2, n3, n4, n5, n6⟩ := fz_node hP ha
  have ya : ∀ post : Int32 → SY → Prop, (yy_used v a = 0 → (v2 < 0 → post (-6) v) ∧ (¬ v2 < 0 → (v2 ≤ 4 → (v3 < 0 → post (-5) v) ∧ (¬ v3 < 0 → vp_in (nI a) 12 ∧ (nI (fp_wd (fx_pl u) a) ≤ v3 → post (-5) v) ∧ (¬ nI (fp_wd (fx_pl u) a) ≤ v3 → (v4 < 0 → post (-5) v) ∧ (¬ v4 < 0 → vp_in (nI a) 12 ∧ (v4 < nI (fp_wd (fx_pl u) a) → vp_in (nI a) 12 ∧ (nI (fp_wd (fx_pl u) a) = 6 → post (-7) v) ∧ (¬ nI (fp_wd (fx_pl u) a) = 6 → (yy_nodes v = 12 → post (-2) v) ∧ (¬ yy_nodes v = 12 → vp_in (nI a) 12 ∧ wpY_make (fun r u' => wpY_say (fun u'' => post r u'') u' r v2 v3 v4) v 2 (nI a) (-1) (nI (fp_wd (fx_pl u) a) + 1)))) ∧ (¬ v4 < nI (fp_wd (fx_pl u) a) → post (-5) v))))) ∧ (¬ v2 ≤ 4 → post (-6) v))) → (¬ yy_used v a = 0 → post (-4) v) → wpY_extend post v (nI a) v2 v3 v4 := by
    intro post h0 h1
    show wpY_extend post ((yy_nodes v), (yy_over v), (yy_resultRows v), (yy_resultWidth v), (yy_tables v), (yy_held v), (yy_kind v), (yy_left v), (yy_right v), (yy_p v), (yy_q v), (yy_r v), (yy_widths v), (yy_used v), (yy_rows v), (yy_given v), (yy_needed v), (yy_row v), (yy_result v)) (nI a) v2 v3 v4
    unfold wpY_extend; dsimp only
    refine fy_bn (v := v) _ P.1 hm ha (br_t rfl ⟨n2, ?_⟩)
    rw [fi_cl (by omega : a < 4096), n4]
    exact ⟨h0, h1⟩
  have hcol := fz_col (c := v3) (w := fp_wd (fx_pl u) a) (by omega)
  have hcol4 := fz_col (c := v4) (w := fp_wd (fx_pl u) a) (by omega)
  show wpX_extend _ ((xx_nodes u), (xx_root u), (xx_codeLength u), (xx_mapWidth u), (xx_registersUsed u), (xx_depth u), (xx_overflow u), (xx_resultWidth u), (xx_resultRows u), (xx_tableCells u), (xx_tableRows u), (xx_kindOf u), (xx_first u), (xx_second u), (xx_p u), (xx_q u), (xx_r u), (xx_widthOf u), (xx_parent u), (xx_inPlan u), (xx_given u), (xx_store u), (xx_storeRows u), (xx_heads u), (xx_chain u), (xx_op u), (xx_opA u), (xx_opB u), (xx_opC u), (xx_opD u), (xx_opE u), (xx_map u), (xx_picked u), (xx_register u), (xx_loopAt u), (xx_loopCode u), (xx_result u), (xx_order u)) (nI a) v2 v3 v4
  unfold wpX_extend; dsimp only
  refine fx_ri (u := u) _ W hn ha (fun hu => br_t rfl ?_) (fun hu => br_f (by decide) (ya _ (fun z => absurd ((hU a ha).mp z) hu) (fun _ => ⟨rfl, I⟩)))
  have hus := (hU a ha).mpr hu
  refine br_c (fun z3 => ya _ (fun _ => br_t z3 ⟨rfl, I⟩) (fun z => absurd hus z)) (fun z3 => ?_)
  refine br_c (fun z4 => ?_) (fun z4 => ya _ (fun _ => br_f z3 (br_f z4 ⟨rfl, I⟩)) (fun z => absurd hus z))
  refine fx_ic (u := u) _ n1 n3 n6 v3 (fun hc => br_t rfl (ya _ (fun _ => br_f z3 (br_t z4 (br_c (fun _ => ⟨rfl, I⟩) (fun c => ⟨n2, br_t (Classical.byContradiction fun y => hc (hcol.mpr ⟨c, y⟩)) ⟨rfl, I⟩⟩)))) (fun z => absurd hus z))) (fun hc => br_f (by decide) ?_)
  obtain ⟨c0, c1⟩ := hcol.mp hc
  refine fx_ic (u := u) _ n1 n3 n6 v4 (fun hd => br_t rfl (ya _ (fun _ => br_f z3 (br_t z4 (br_f c0 ⟨n2, br_f c1 (br_c (fun _ => ⟨rfl, I⟩) (fun c => ⟨n2, br_f (fun y => hd (hcol4.mpr ⟨c, Int32.not_le.mpr y⟩)) ⟨rfl, I⟩⟩))⟩))) (fun z => absurd hus z))) (fun hd => br_f (by decide) ⟨n2, ?_⟩)
  have d0 := (hcol4.mp hd).1
  have d1 : v4 < nI (fp_wd (fx_pl u) a) := Int32.not_le.mp (hcol4.mp hd).2
  rw [fi_cl (by omega : a < 4096), n3]
  by_cases hw : fp_wd (fx_pl u) a < 6
  · have hw' : ¬ nI (fp_wd (fx_pl u) a) = 6 := fun z => by have := (nI_eq (a := fp_wd (fx_pl u) a) (b := 6) (by omega) (by decide)).mp z; omega
    refine br_t (nI_lt (b := 6) hw (by decide)) ?_
    rw [hn]
    by_cases hroom : m < 12
    · obtain ⟨r1, r2⟩ := fz_room hroom
      refine br_t r1 ⟨n2, ?_⟩
      rw [← hn, nI_1]
      refine fx_make (u := u) _ hroom hn _ _ _ _ _ _ _ (fun _ => n2) (fun z => absurd (by decide) z) ?_
      refine ya _ (fun _ => br_f z3 (br_t z4 (br_f c0 ⟨n2, br_f c1 (br_f d0 ⟨n2, br_t d1 ⟨n2, br_f hw' (br_f (by rw [P.1]; exact r2) ⟨n2, ?_⟩)⟩⟩)⟩))) (fun z => absurd hus z)
      rw [nI_1]
      refine fy_make _ hroom P.1 _ _ _ _ (fun _ => n2) (fun z => absurd (by decide) z) ?_
      refine fy_say _ hroom _ _ _ ⟨rfl, ?_⟩
      obtain ⟨j, hj, rfl⟩ := nI_of2 (M := 4) (n := 4) (by decide) z3 z4
      exact fz_make (kd := 2) (wd := fp_wd (fx_pl u) a + 1) (a := a) (b := 0) (A := nI a) (B := -1) hP hTb hRs hroom _ _ _ (by decide) (by omega) (by omega) ⟨fun z => absurd z (by decide), fun _ => ⟨rfl, ha, hu⟩, fun _ => rfl, fun z => absurd z (by unfold fz_two; decide)⟩ ⟨fun z => absurd z (by decide), fun z => absurd z (by decide), fun _ => ⟨⟨by rw [fi_cl (by omega)], by rw [fi_cl (by omega)]; omega⟩, hc, hd, rfl⟩, fun z => absurd z (by decide), fun z => absurd z (by decide), fun z => absurd z (by decide), fun z => absurd z (by decide), fun z => absurd z (by decide), fun z => absurd z (by decide)⟩ (fun n hn' => ⟨fi_un (by omega), fi_un (by omega), fi_un (by omega)⟩) (fun _ _ => ⟨fi_us, fi_us, fi_us⟩)
    · obtain ⟨r1, r2⟩ := fz_full hm hroom
      refine br_f r2 ?_
      rw [← hn]
      exact ya _ (fun _ => br_f z3 (br_t z4 (br_f c0 ⟨n2, br_f c1 (br_f d0 ⟨n2, br_t d1 ⟨n2, br_f hw' (br_t (by rw [P.1]; exact r1) ⟨rfl, I⟩)⟩⟩)⟩))) (fun z => absurd hus z)
  · have e6 : fp_wd (fx_pl u) a = 6 := by omega
    refine br_f (nI_nlt (b := 6) (by omega) (by omega)) ?_
    exact ya _ (fun _ => br_f z3 (br_t z4 (br_f c0 ⟨n2, br_f c1 (br_f d0 ⟨n2, br_t d1 ⟨n2, br_t (by rw [e6]; rfl) ⟨rfl, I⟩⟩⟩)⟩))) (fun z => absurd hus z)
end
section
/-! ## two inputs -/
theorem fx_ris_bad {u : SX} (post : Int32 → Prop) (x y : Int32) (hx : (x < 0 ∨ ¬ x < xx_nodes u) ∨ (y < 0 ∨ ¬ y < xx_nodes u)) (h : post (-3)) : wpX_refuseInputs post u x y := by
  show wpX_refuseInputs post ((xx_nodes u), (xx_root u), (xx_codeLength u), (xx_mapWidth u), (xx_registersUsed u), (xx_depth u), (xx_overflow u), (xx_resultWidth u), (xx_resultRows u), (xx_tableCells u), (xx_tableRows u), (xx_kindOf u), (xx_first u), (xx_second u), (xx_p u), (xx_q u), (xx_r u), (xx_widthOf u), (xx_parent u), (xx_inPlan u), (xx_given u), (xx_store u), (xx_storeRows u), (xx_heads u), (xx_chain u), (xx_op u), (xx_opA u), (xx_opB u), (xx_opC u), (xx_opD u), (xx_opE u), (xx_map u), (xx_picked u), (xx_register u), (xx_loopAt u), (xx_loopCode u), (xx_result u), (xx_order u)) x y
  refine br_c (fun _ => h) (fun c1 => br_c (fun _ => h) (fun c2 => br_c (fun _ => h) (fun c3 => ?_)))
  have c2' : x < xx_nodes u := Int32.not_le.mp c2
  exact br_f (fun z => by
    rcases hx with (q | q) | (q | q)
    · exact c1 q
    · exact q c2'
    · exact c3 q
    · exact q z) h
theorem fx_ris {u : SX} {m a b : Nat} (post : Int32 → Prop) (W : fp_WF (fx_pl u) m) (hn : xx_nodes u = nI m) (ha : a < m) (hb : b < m) (h0 : a ≠ b → xx_parent u a = -1 → xx_parent u b = -1 → post 0) (h1 : ¬ (a ≠ b ∧ xx_parent u a = -1 ∧ xx_parent u b = -1) → post (-4)) : wpX_refuseInputs post u (nI a) (nI b) := by
  have hm := W.1
  have hga : 0 ≤ xx_parent u a ↔ ¬ xx_parent u a = -1 := fp_pa_ge W ha
  have hgb : 0 ≤ xx_parent u b ↔ ¬ xx_parent u b = -1 := fp_pa_ge W hb
  show wpX_refuseInputs post ((xx_nodes u), (xx_root u), (xx_codeLength u), (xx_mapWidth u), (xx_registersUsed u), (xx_depth u), (xx_overflow u), (xx_resultWidth u), (xx_resultRows u), (xx_tableCells u), (xx_tableRows u), (xx_kindOf u), (xx_first u), (xx_second u), (xx_p u), (xx_q u), (xx_r u), (xx_widthOf u), (xx_parent u), (xx_inPlan u), (xx_given u), (xx_store u), (xx_storeRows u), (xx_heads u), (xx_chain u), (xx_op u), (xx_opA u), (xx_opB u), (xx_opC u), (xx_opD u), (xx_opE u), (xx_map u), (xx_picked u), (xx_register u), (xx_loopAt u), (xx_loopCode u), (xx_result u), (xx_order u)) (nI a) (nI b)
  refine br_f (nI_pos (by omega)) (br_f (by rw [hn]; exact nI_ge ha (by omega)) (br_f (nI_pos (by omega)) (br_t (by rw [hn]; exact nI_lt hb (by omega)) ?_)))
  refine pk_eq a b (fun e => h1 (fun z => z.1 e)) (fun e => And.intro (vp_in_nI (by omega) (by decide)) ?_)
  rw [fi_cl (by omega : a < 4096)]
  refine br_c (fun c => h1 (fun z => hga.mp c z.2.1)) (fun c => And.intro (vp_in_nI (by omega) (by decide)) ?_)
  rw [fi_cl (by omega : b < 4096)]
  have pa : xx_parent u a = -1 := Classical.byContradiction fun z => c (hga.mpr z)
  refine br_c (fun d => h0 e pa ?_) (fun d => h1 (fun z => hgb.mp (Int32.not_lt.mp d) z.2.2))
  exact Classical.byContradiction fun z => absurd (hgb.mpr z) (Int32.not_le.mpr d)
section
variable {u : SX} {v : SY} {m : Nat}
theorem fy_two106 {kd a b : Nat} {v3 v4 : Int32} (post : Int32 → SY → Prop) (hP : fz_pln u v m) (ha : a < m) (hb : b < m) (hkd : kd ≤ 9)
    (h2 : ¬ m < 12 → post (-2) v) (h1 : m < 12 → post (nI m) ((nI (m + 1)), (yy_over v), (yy_resultRows v), (yy_resultWidth v), (yy_tables v), (yy_held v), (upd (yy_kind v) m (nI kd)), (upd (yy_left v) m (nI a)), (upd (yy_right v) m (nI b)), (upd (yy_p v) m v3), (upd (yy_q v) m v4), (upd (yy_r v) m 0), (upd (yy_widths v) m (nI (if kd = 4 then fp_wd (fx_pl u) a + fp_wd (fx_pl u) b else fp_wd (fx_pl u) a))), (fz_ch (upd (yy_used v) m 0) (nI a) (nI b) 1), (yy_rows v), (yy_given v), (yy_needed v), (yy_row v), (yy_result v))) :
    wY_two_106 post (nI kd) (nI a) (nI b) v3 v4 (yy_nodes v) (yy_over v) (yy_resultRows v) (yy_resultWidth v) (yy_tables v) (yy_held v) (yy_kind v) (yy_left v) (yy_right v) (yy_p v) (yy_q v) (yy_r v) (yy_widths v) (yy_used v) (yy_rows v) (yy_given v) (yy_needed v) (yy_row v) (yy_result v) := by
  obtain ⟨W, hn, P, hU⟩ := id hP
  have hm := W.1
  obtain ⟨n1, n2, n3, n4, n5, n6⟩ := fz_node hP ha
  obtain ⟨q1, q2, q3, q4, q5, q6⟩ := fz_node hP hb
  by_cases hroom : m < 12
  · obtain ⟨r1, r2⟩ := fz_room hroom
    refine br_f (by rw [P.1]; exact r2) ?_
    have h1' := h1 hroom
    refine pk_eq kd 4 (fun e => And.intro n2 (And.intro q2 ?_)) (fun e => And.intro n2 ?_)
    · rw [fi_cl (by omega : a < 4096), fi_cl (by omega : b < 4096), n4, q4, nI_add]
      rw [if_pos e] at h1'
      refine fy_make (v := v) _ hroom P.1 _ _ _ _ (fun _ => n2) (fun _ => q2) ?_
      exact fy_say _ hroom _ _ _ h1'
    · rw [fi_cl (by omega : a < 4096), n4]
      rw [if_neg e] at h1'
      refine fy_make (v := v) _ hroom P.1 _ _ _ _ (fun _ => n2) (fun _ => q2) ?_
      exact fy_say _ hroom _ _ _ h1'
  · obtain ⟨r1, r2⟩ := fz_full hm hroom
    exact br_t (by rw [P.1]; exact r1) (h2 hroom)
theorem fz_match (I : fz_R u v) {kd : Nat} (hkd : kd = 4 ∨ kd = 5 ∨ kd = 6) (v1 v2 v3 v4 : Int32) : ∃ r u' v', fz_R u' v' ∧ (∀ post : Int32 → SX → Prop, post r u' → wpX_matching post u (nI kd) v1 v2 v3 v4) ∧ (∀ post : Int32 → SY → Prop, post r v' → wpY_two post v (nI kd) v1 v2 v3 v4) := by
  obtain ⟨⟨m, hP⟩, hTb, hRs⟩ := id I
  obtain ⟨W, hn, P, hU⟩ := id hP
  have hm := W.1
  by_cases hx : (v1 < 0 ∨ ¬ v1 < xx_nodes u) ∨ (v2 < 0 ∨ ¬ v2 < xx_nodes u)
  · refine ⟨-3, u, v, I, fun post h => ?_, fun post h => ?_⟩
    · show wpX_matching post ((xx_nodes u), (xx_root u), (xx_codeLength u), (xx_mapWidth u), (xx_registersUsed u), (xx_depth u), (xx_overflow u), (xx_resultWidth u), (xx_resultRows u), (xx_tableCells u), (xx_tableRows u), (xx_kindOf u), (xx_first u), (xx_second u), (xx_p u), (xx_q u), (xx_r u), (xx_widthOf u), (xx_parent u), (xx_inPlan u), (xx_given u), (xx_store u), (xx_storeRows u), (xx_heads u), (xx_chain u), (xx_op u), (xx_opA u), (xx_opB u), (xx_opC u), (xx_opD u), (xx_opE u), (xx_map u), (xx_picked u), (xx_register u), (xx_loopAt u), (xx_loopCode u), (xx_result u), (xx_order u)) (nI kd) v1 v2 v3 v4
      unfold wpX_matching; dsimp only
      exact fx_ris_bad (u := u) _ v1 v2 hx (br_f (by decide) h)
    · show wpY_two post ((yy_nodes v), (yy_over v), (yy_resultRows v), (yy_resultWidth v), (yy_tables v), (yy_held v), (yy_kind v), (yy_left v), (yy_right v), (yy_p v), (yy_q v), (yy_r v), (yy_widths v), (yy_used v), (yy_rows v), (yy_given v), (yy_needed v), (yy_row v), (yy_result v)) (nI kd) v1 v2 v3 v4
      unfold wpY_two; dsimp only
      have hx' : (v1 < 0 ∨ ¬ v1 < yy_nodes v) ∨ (v2 < 0 ∨ ¬ v2 < yy_nodes v) := by rw [P.1, ← hn]; exact hx
      by_cases c : v1 < 0 ∨ ¬ v1 < yy_nodes v
      · exact fy_bn_bad (v := v) _ v1 c (br_f (by decide) h)
      · have c' : ¬ (v1 < 0 ∨ ¬ v1 < nI m) := by rw [← P.1]; exact c
        obtain ⟨a, ha, rfl⟩ := fz_ix hm c'
        refine fy_bn (v := v) _ P.1 hm ha (br_t rfl ?_)
        exact fy_bn_bad (v := v) _ v2 (hx'.resolve_left c) (br_f (by decide) h)
  have hx1 : ¬ (v1 < 0 ∨ ¬ v1 < nI m) := by rw [← hn]; exact fun z => hx (Or.inl z)
  have hx2 : ¬ (v2 < 0 ∨ ¬ v2 < nI m) := by rw [← hn]; exact fun z => hx (Or.inr z)
  obtain ⟨a, ha, rfl⟩ := fz_ix hm hx1
  obtain ⟨b, hb, rfl⟩ := fz_ix hm hx2
  obtain ⟨n1, n2, n3, n4, n5, n6⟩ := fz_node hP ha
  obtain ⟨q1, q2, q3, q4, q5, q6⟩ := fz_node hP hb
  have ya : ∀ post : Int32 → SY → Prop, ((yy_used v a = 0 → vp_in (nI b) 12 ∧ (yy_used v b = 0 → (nI a = nI b → post (-4) v) ∧ (¬ nI a = nI b → (v3 < 0 → post (-5) v) ∧ (¬ v3 < 0 → vp_in (nI a) 12 ∧ (nI (fp_wd (fx_pl u) a) ≤ v3 → post (-5) v) ∧ (¬ nI (fp_wd (fx_pl u) a) ≤ v3 → (v4 < 0 → post (-5) v) ∧ (¬ v4 < 0 → vp_in (nI b) 12 ∧ (v4 < nI (fp_wd (fx_pl u) b) → (nI kd = 4 → vp_in (nI a) 12 ∧ vp_in (nI b) 12 ∧ (nI (fp_wd (fx_pl u) a) + nI (fp_wd (fx_pl u) b) ≤ 6 → wY_two_106 post (nI kd) (nI a) (nI b) v3 v4 (yy_nodes v) (yy_over v) (yy_resultRows v) (yy_resultWidth v) (yy_tables v) (yy_held v) (yy_kind v) (yy_left v) (yy_right v) (yy_p v) (yy_q v) (yy_r v) (yy_widths v) (yy_used v) (yy_rows v) (yy_given v) (yy_needed v) (yy_row v) (yy_result v)) ∧ (¬ nI (fp_wd (fx_pl u) a) + nI (fp_wd (fx_pl u) b) ≤ 6 → post (-7) v)) ∧ (¬ nI kd = 4 → wY_two_106 post (nI kd) (nI a) (nI b) v3 v4 (yy_nodes v) (yy_over v) (yy_resultRows v) (yy_resultWidth v) (yy_tables v) (yy_held v) (yy_kind v) (yy_left v) (yy_right v) (yy_p v) (yy_q v) (yy_r v) (yy_widths v) (yy_used v) (yy_rows v) (yy_given v) (yy_needed v) (yy_row v) (yy_result v))) ∧ (¬ v4 < nI (fp_wd (fx_pl u) b) → post (-5) v)))))) ∧ (¬ yy_used v b = 0 → post (-4) v)) ∧ (¬ yy_used v a = 0 → post (-4) v)) → wpY_two post v (nI kd) (nI a) (nI b) v3 v4 := by
    intro post h0
    show wpY_two post ((yy_nodes v), (yy_over v), (yy_resultRows v), (yy_resultWidth v), (yy_tables v), (yy_held v), (yy_kind v), (yy_left v), (yy_right v), (yy_p v), (yy_q v), (yy_r v), (yy_widths v), (yy_used v), (yy_rows v), (yy_given v), (yy_needed v), (yy_row v), (yy_result v)) (nI kd) (nI a) (nI b) v3 v4
    unfold wpY_two; dsimp only
    refine fy_bn (v := v) _ P.1 hm ha (br_t rfl (fy_bn (v := v) _ P.1 hm hb (br_t rfl ⟨n2, ?_⟩)))
    rw [fi_cl (by omega : a < 4096), fi_cl (by omega : b < 4096), n4, q4]
    exact h0
  have xa : ∀ post : Int32 → SX → Prop, wpX_refuseInputs (fun r_1 => (r_1 = 0 → wpX_isColumn (fun r_41 => (r_41 = 0 → post (-5) u) ∧ (¬ r_41 = 0 → wpX_isColumn (fun r_81 => (r_81 = 0 → post (-5) u) ∧ (¬ r_81 = 0 → (nI kd = 4 → vp_in (nI a) 12 ∧ (vp_in (nI b) 12 ∧ wX_matching_66 post (nI kd) (nI a) (nI b) v3 v4 (nI (fp_wd (fx_pl u) a) + nI (fp_wd (fx_pl u) b)) (xx_nodes u) (xx_root u) (xx_codeLength u) (xx_mapWidth u) (xx_registersUsed u) (xx_depth u) (xx_overflow u) (xx_resultWidth u) (xx_resultRows u) (xx_tableCells u) (xx_tableRows u) (xx_kindOf u) (xx_first u) (xx_second u) (xx_p u) (xx_q u) (xx_r u) (xx_widthOf u) (xx_parent u) (xx_inPlan u) (xx_given u) (xx_store u) (xx_storeRows u) (xx_heads u) (xx_chain u) (xx_op u) (xx_opA u) (xx_opB u) (xx_opC u) (xx_opD u) (xx_opE u) (xx_map u) (xx_picked u) (xx_register u) (xx_loopAt u) (xx_loopCode u) (xx_result u) (xx_order u))) ∧ (¬ nI kd = 4 → vp_in (nI a) 12 ∧ wX_matching_66 post (nI kd) (nI a) (nI b) v3 v4 (nI (fp_wd (fx_pl u) a)) (xx_nodes u) (xx_root u) (xx_codeLength u) (xx_mapWidth u) (xx_registersUsed u) (xx_depth u) (xx_overflow u) (xx_resultWidth u) (xx_resultRows u) (xx_tableCells u) (xx_tableRows u) (xx_kindOf u) (xx_first u) (xx_second u) (xx_p u) (xx_q u) (xx_r u) (xx_widthOf u) (xx_parent u) (xx_inPlan u) (xx_given u) (xx_store u) (xx_storeRows u) (xx_heads u) (xx_chain u) (xx_op u) (xx_opA u) (xx_opB u) (xx_opC u) (xx_opD u) (xx_opE u) (xx_map u) (xx_picked u) (xx_register u) (xx_loopAt u) (xx_loopCode u) (xx_result u) (xx_order u)))) u (nI b) v4)) u (nI a) v3) ∧ (¬ r_1 = 0 → post r_1 u)) u (nI a) (nI b) → wpX_matching post u (nI kd) (nI a) (nI b) v3 v4 := by
    intro post h0
    show wpX_matching post ((xx_nodes u), (xx_root u), (xx_codeLength u), (xx_mapWidth u), (xx_registersUsed u), (xx_depth u), (xx_overflow u), (xx_resultWidth u), (xx_resultRows u), (xx_tableCells u), (xx_tableRows u), (xx_kindOf u), (xx_first u), (xx_second u), (xx_p u), (xx_q u), (xx_r u), (xx_widthOf u), (xx_parent u), (xx_inPlan u), (xx_given u), (xx_store u), (xx_storeRows u), (xx_heads u), (xx_chain u), (xx_op u), (xx_opA u), (xx_opB u), (xx_opC u), (xx_opD u), (xx_opE u), (xx_map u), (xx_picked u), (xx_register u), (xx_loopAt u), (xx_loopCode u), (xx_result u), (xx_order u)) (nI kd) (nI a) (nI b) v3 v4
    unfold wpX_matching; dsimp only
    rw [fi_cl (by omega : a < 4096), fi_cl (by omega : b < 4096), n3, q3]
    exact h0
  by_cases hus : a ≠ b ∧ xx_parent u a = -1 ∧ xx_parent u b = -1
  case neg =>
    refine ⟨-4, u, v, I, fun post h => xa post ?_, fun post h => ya post ?_⟩
    · exact fx_ris (u := u) _ W hn ha hb (fun z1 z2 z3 => absurd ⟨z1, z2, z3⟩ hus) (fun _ => br_f (by decide) h)
    · refine br_c (fun c1 => ⟨q2, br_c (fun c2 => ?_) (fun _ => h)⟩) (fun _ => h)
      refine br_t ?_ h
      refine Classical.byContradiction fun z => hus ⟨fun e => z (by rw [e]), (hU a ha).mp c1, (hU b hb).mp c2⟩
  obtain ⟨hab, hua, hub⟩ := hus
  have ua := (hU a ha).mpr hua
  have ub := (hU b hb).mpr hub
  have nab : ¬ nI a = nI b := fun z => hab ((nI_eq (by omega) (by omega)).mp z)
  have hcol := fz_col (c := v3) (w := fp_wd (fx_pl u) a) (by omega)
  have hcol4 := fz_col (c := v4) (w := fp_wd (fx_pl u) b) (by omega)
  by_cases hc : fp_col v3 (fp_wd (fx_pl u) a)
  case neg =>
    refine ⟨-5, u, v, I, fun post h => xa post ?_, fun post h => ya post ?_⟩
    · exact fx_ris (u := u) _ W hn ha hb (fun _ _ _ => br_t rfl (fx_ic (u := u) _ n1 n3 n6 v3 (fun _ => br_t rfl h) (fun z => absurd z hc))) (fun z => absurd ⟨hab, hua, hub⟩ z)
    · exact br_t ua ⟨q2, br_t ub (br_f nab (br_c (fun _ => h) (fun c => ⟨n2, br_t (Classical.byContradiction fun y => hc (hcol.mpr ⟨c, y⟩)) h⟩)))⟩
  obtain ⟨c0, c1⟩ := hcol.mp hc
  by_cases hd : fp_col v4 (fp_wd (fx_pl u) b)
  case neg =>
    refine ⟨-5, u, v, I, fun post h => xa post ?_, fun post h => ya post ?_⟩
    · exact fx_ris (u := u) _ W hn ha hb (fun _ _ _ => br_t rfl (fx_ic (u := u) _ n1 n3 n6 v3 (fun z => absurd hc z) (fun _ => br_f (by decide) (fx_ic (u := u) _ q1 q3 q6 v4 (fun _ => br_t rfl h) (fun z => absurd z hd))))) (fun z => absurd ⟨hab, hua, hub⟩ z)
    · exact br_t ua ⟨q2, br_t ub (br_f nab (br_f c0 ⟨n2, br_f c1 (br_c (fun _ => h) (fun c => ⟨q2, br_f (fun y => hd (hcol4.mpr ⟨c, Int32.not_le.mpr y⟩)) h⟩))⟩))⟩
  have d0 := (hcol4.mp hd).1
  have d1 : v4 < nI (fp_wd (fx_pl u) b) := Int32.not_le.mp (hcol4.mp hd).2
  have xb : ∀ post : Int32 → SX → Prop, wX_matching_66 post (nI kd) (nI a) (nI b) v3 v4 (nI (if kd = 4 then fp_wd (fx_pl u) a + fp_wd (fx_pl u) b else fp_wd (fx_pl u) a)) (xx_nodes u) (xx_root u) (xx_codeLength u) (xx_mapWidth u) (xx_registersUsed u) (xx_depth u) (xx_overflow u) (xx_resultWidth u) (xx_resultRows u) (xx_tableCells u) (xx_tableRows u) (xx_kindOf u) (xx_first u) (xx_second u) (xx_p u) (xx_q u) (xx_r u) (xx_widthOf u) (xx_parent u) (xx_inPlan u) (xx_given u) (xx_store u) (xx_storeRows u) (xx_heads u) (xx_chain u) (xx_op u) (xx_opA u) (xx_opB u) (xx_opC u) (xx_opD u) (xx_opE u) (xx_map u) (xx_picked u) (xx_register u) (xx_loopAt u) (xx_loopCode u) (xx_result u) (xx_order u) → wpX_matching post u (nI kd) (nI a) (nI b) v3 v4 := by
    intro post h
    refine xa post (fx_ris (u := u) _ W hn ha hb (fun _ _ _ => br_t rfl (fx_ic (u := u) _ n1 n3 n6 v3 (fun z => absurd hc z) (fun _ => br_f (by decide) (fx_ic (u := u) _ q1 q3 q6 v4 (fun z => absurd hd z) (fun _ => br_f (by decide) ?_))))) (fun z => absurd ⟨hab, hua, hub⟩ z))
    refine pk_eq kd 4 (fun e => ⟨n2, q2, ?_⟩) (fun e => ⟨n2, ?_⟩)
    · rw [if_pos e] at h; rw [nI_add]; exact h
    · rw [if_neg e] at h; exact h
  have yb : ∀ post : Int32 → SY → Prop, ((kd = 4 → fp_wd (fx_pl u) a + fp_wd (fx_pl u) b ≤ 6) → wY_two_106 post (nI kd) (nI a) (nI b) v3 v4 (yy_nodes v) (yy_over v) (yy_resultRows v) (yy_resultWidth v) (yy_tables v) (yy_held v) (yy_kind v) (yy_left v) (yy_right v) (yy_p v) (yy_q v) (yy_r v) (yy_widths v) (yy_used v) (yy_rows v) (yy_given v) (yy_needed v) (yy_row v) (yy_result v)) → (kd = 4 → ¬ fp_wd (fx_pl u) a + fp_wd (fx_pl u) b ≤ 6 → post (-7) v) → wpY_two post v (nI kd) (nI a) (nI b) v3 v4 := by
    intro post h h7
    refine ya post (br_t ua ⟨q2, br_t ub (br_f nab (br_f c0 ⟨n2, br_f c1 (br_f d0 ⟨q2, br_t d1 ?_⟩)⟩))⟩)
    refine pk_eq kd 4 (fun e => ⟨n2, q2, ?_⟩) (fun e => h (fun z => absurd z e))
    rw [nI_add]
    exact pk_le (fp_wd (fx_pl u) a + fp_wd (fx_pl u) b) 6 (fun z => h (fun _ => z)) (fun z => h7 e (by omega))
  by_cases hw : kd = 4 ∧ ¬ fp_wd (fx_pl u) a + fp_wd (fx_pl u) b ≤ 6
  · refine ⟨-7, u, v, I, fun post h => xb post ?_, fun post h => yb post (fun z => absurd (z hw.1) hw.2) (fun _ _ => h)⟩
    rw [if_pos hw.1]
    exact br_f (nI_ge (a := 6) (by omega) (by omega)) h
  have hwd : (if kd = 4 then fp_wd (fx_pl u) a + fp_wd (fx_pl u) b else fp_wd (fx_pl u) a) ≤ 6 := by
    by_cases e : kd = 4
    · rw [if_pos e]; exact Classical.byContradiction fun z => hw ⟨e, z⟩
    · rw [if_neg e]; exact n6
  have hwd1 : 1 ≤ (if kd = 4 then fp_wd (fx_pl u) a + fp_wd (fx_pl u) b else fp_wd (fx_pl u) a) := by
    by_cases e : kd = 4
    · rw [if_pos e]; omega
    · rw [if_neg e]; exact n5
  have h7no : ∀ post : Int32 → SY → Prop, kd = 4 → ¬ fp_wd (fx_pl u) a + fp_wd (fx_pl u) b ≤ 6 → post (-7) v := fun _ z1 z2 => absurd ⟨z1, z2⟩ hw
  by_cases hroom : m < 12
  · obtain ⟨r1, r2⟩ := fz_room hroom
    refine ⟨nI m, _, _, fz_make (kd := kd) (wd := if kd = 4 then fp_wd (fx_pl u) a + fp_wd (fx_pl u) b else fp_wd (fx_pl u) a) (a := a) (b := b) (A := nI a) (B := nI b) (P := v3) (Q := v4) (R := 0) hP hTb hRs hroom (upd (yy_p v) m v3) (upd (yy_q v) m v4) (upd (yy_r v) m 0) (by omega) hwd1 hwd ⟨fun z => by omega, fun _ => ⟨rfl, ha, hua⟩, fun z => absurd (by unfold fz_two; omega) z, fun _ => ⟨rfl, hb, fun z => hab z.symm, hub⟩⟩ ⟨fun z => by omega, fun z => by omega, fun z => by omega, fun z => by omega, fun z => ⟨hc, hd, by rw [if_pos z]⟩, fun z => ⟨hc, hd, by rw [if_neg (by omega)]⟩, fun z => by omega, fun z => by omega, fun z => by omega⟩ (fun n hn' => ⟨fi_un (by omega), fi_un (by omega), fi_un (by omega)⟩) (fun _ _ => ⟨fi_us, fi_us, fi_us⟩), fun post h => xb post ?_, fun post h => yb post (fun _ => fy_two106 post hP ha hb (by omega) (fun z => absurd hroom z) (fun _ => h)) (h7no post)⟩
    refine br_t (nI_le (b := 6) hwd (by decide)) (br_t (by rw [hn]; exact r1) ?_)
    exact fx_make (u := u) _ hroom hn _ _ _ _ _ _ _ (fun _ => n2) (fun _ => q2) h
  · obtain ⟨r1, r2⟩ := fz_full hm hroom
    refine ⟨-2, u, v, I, fun post h => xb post ?_, fun post h => yb post (fun _ => fy_two106 post hP ha hb (by omega) (fun _ => h) (fun z => absurd z hroom)) (h7no post)⟩
    exact br_t (nI_le (b := 6) hwd (by decide)) (br_f (by rw [hn]; exact r2) h)
end
theorem i_vc_join {k : Nat} {u : SX} {v : SY} (I : i_Rel k u v) (hk : k + 5 ≤ 2560) (v1 : Int32) (v2 : Int32) (v3 : Int32) (v4 : Int32) : wpX_join (fun r u' => wpY_join (fun r' v' => r' = r ∧ i_Rel (k + 5) u' v') v v1 v2 v3 v4) u v1 v2 v3 v4 := by
  obtain ⟨r, u', v', hR, hX, hY⟩ := fz_match I (kd := 4) (Or.inl rfl) v1 v2 v3 v4
  unfold wpX_join
  refine hX _ ?_
  show wpY_join (fun r' v' => r' = r ∧ i_Rel (k + 5) u' v') v v1 v2 v3 v4
  unfold wpY_join
  exact hY _ ⟨rfl, hR⟩
theorem i_vc_semi {k : Nat} {u : SX} {v : SY} (I : i_Rel k u v) (hk : k + 5 ≤ 2560) (v1 : Int32) (v2 : Int32) (v3 : Int32) (v4 : Int32) : wpX_semi (fun r u' => wpY_semi (fun r' v' => r' = r ∧ i_Rel (k + 5) u' v') v v1 v2 v3 v4) u v1 v2 v3 v4 := by
  obtain ⟨r, u', v', hR, hX, hY⟩ := fz_match I (kd := 5) (Or.inr (Or.inl rfl)) v1 v2 v3 v4
  unfold wpX_semi
  refine hX _ ?_
  show wpY_semi (fun r' v' => r' = r ∧ i_Rel (k + 5) u' v') v v1 v2 v3 v4
  unfold wpY_semi
  exact hY _ ⟨rfl, hR⟩
theorem i_vc_anti {k : Nat} {u : SX} {v : SY} (I : i_Rel k u v) (hk : k + 5 ≤ 2560) (v1 : Int32) (v2 : Int32) (v3 : Int32) (v4 : Int32) : wpX_anti (fun r u' => wpY_anti (fun r' v' => r' = r ∧ i_Rel (k + 5) u' v') v v1 v2 v3 v4) u v1 v2 v3 v4 := by
  obtain ⟨r, u', v', hR, hX, hY⟩ := fz_match I (kd := 6) (Or.inr (Or.inr rfl)) v1 v2 v3 v4
  unfold wpX_anti
  refine hX _ ?_
  show wpY_anti (fun r' v' => r' = r ∧ i_Rel (k + 5) u' v') v v1 v2 v3 v4
  unfold wpY_anti
  exact hY _ ⟨rfl, hR⟩
end
section
/-! ## union -/
theorem i_vc_union {k : Nat} {u : SX} {v : SY} (I : i_Rel k u v) (hk : k + 5 ≤ 2560) (v1 : Int32) (v2 : Int32) : wpX_union (fun r u' => wpY_union (fun r' v' => r' = r ∧ i_Rel (k + 5) u' v') v v1 v2) u v1 v2 := by
  obtain ⟨⟨m, hP⟩, hTb, hRs⟩ := id I
  obtain ⟨W, hn, P, hU⟩ := id hP
  have hm := W.1
  by_cases hx : (v1 < 0 ∨ ¬ v1 < xx_nodes u) ∨ (v2 < 0 ∨ ¬ v2 < xx_nodes u)
  · have Y : wpY_union (fun r' v' => r' = -3 ∧ i_Rel (k + 5) u v') v v1 v2 := by
      unfold wpY_union; dsimp only
      have hx' : (v1 < 0 ∨ ¬ v1 < yy_nodes v) ∨ (v2 < 0 ∨ ¬ v2 < yy_nodes v) := by rw [P.1, ← hn]; exact hx
      by_cases c : v1 < 0 ∨ ¬ v1 < yy_nodes v
      · exact fy_bn_bad (v := v) _ v1 c (br_f (by decide) ⟨rfl, I⟩)
      · have c' : ¬ (v1 < 0 ∨ ¬ v1 < nI m) := by rw [← P.1]; exact c
        obtain ⟨a, ha, rfl⟩ := fz_ix hm c'
        refine fy_bn (v := v) _ P.1 hm ha (br_t rfl ?_)
        exact fy_bn_bad (v := v) _ v2 (hx'.resolve_left c) (br_f (by decide) ⟨rfl, I⟩)
    unfold wpX_union; dsimp only
    exact fx_ris_bad (u := u) _ v1 v2 hx (br_f (by decide) Y)
  have hx1 : ¬ (v1 < 0 ∨ ¬ v1 < nI m) := by rw [← hn]; exact fun z => hx (Or.inl z)
  have hx2 : ¬ (v2 < 0 ∨ ¬ v2 < nI m) := by rw [← hn]; exact fun z => hx (Or.inr z)
  obtain ⟨a, ha, rfl⟩ := fz_ix hm hx1
  obtain ⟨b, hb, rfl⟩ := fz_ix hm hx2
  obtain ⟨n1, n2, n3, n4, n5, n6⟩ := fz_node hP ha
  obtain ⟨q1, q2, q3, q4, q5, q6⟩ := fz_node hP hb
  have ya : ∀ post : Int32 → SY → Prop, ((yy_used v a = 0 → vp_in (nI b) 12 ∧ (yy_used v b = 0 → (nI a = nI b → post (-4) v) ∧ (¬ nI a = nI b → vp_in (nI a) 12 ∧ vp_in (nI b) 12 ∧ (nI (fp_wd (fx_pl u) a) = nI (fp_wd (fx_pl u) b) → (yy_nodes v = 12 → post (-2) v) ∧ (¬ yy_nodes v = 12 → vp_in (nI a) 12 ∧ wpY_make post v 9 (nI a) (nI b) (nI (fp_wd (fx_pl u) a)))) ∧ (¬ nI (fp_wd (fx_pl u) a) = nI (fp_wd (fx_pl u) b) → post (-7) v))) ∧ (¬ yy_used v b = 0 → post (-4) v)) ∧ (¬ yy_used v a = 0 → post (-4) v)) → wpY_union post v (nI a) (nI b) := by
    intro post h0
    show wpY_union post ((yy_nodes v), (yy_over v), (yy_resultRows v), (yy_resultWidth v), (yy_tables v), (yy_held v), (yy_kind v), (yy_left v), (yy_right v), (yy_p v), (yy_q v), (yy_r v), (yy_widths v), (yy_used v), (yy_rows v), (yy_given v), (yy_needed v), (yy_row v), (yy_result v)) (nI a) (nI b)
    unfold wpY_union; dsimp only
    refine fy_bn (v := v) _ P.1 hm ha (br_t rfl (fy_bn (v := v) _ P.1 hm hb (br_t rfl ⟨n2, ?_⟩)))
    rw [fi_cl (by omega : a < 4096), fi_cl (by omega : b < 4096), n4, q4]
    exact h0
  show wpX_union _ ((xx_nodes u), (xx_root u), (xx_codeLength u), (xx_mapWidth u), (xx_registersUsed u), (xx_depth u), (xx_overflow u), (xx_resultWidth u), (xx_resultRows u), (xx_tableCells u), (xx_tableRows u), (xx_kindOf u), (xx_first u), (xx_second u), (xx_p u), (xx_q u), (xx_r u), (xx_widthOf u), (xx_parent u), (xx_inPlan u), (xx_given u), (xx_store u), (xx_storeRows u), (xx_heads u), (xx_chain u), (xx_op u), (xx_opA u), (xx_opB u), (xx_opC u), (xx_opD u), (xx_opE u), (xx_map u), (xx_picked u), (xx_register u), (xx_loopAt u), (xx_loopCode u), (xx_result u), (xx_order u)) (nI a) (nI b)
  unfold wpX_union; dsimp only
  refine fx_ris (u := u) _ W hn ha hb (fun hab hua hub => br_t rfl ⟨n2, q2, ?_⟩) (fun hus => br_f (by decide) (ya _ ?_))
  · have ua := (hU a ha).mpr hua
    have ub := (hU b hb).mpr hub
    have nab : ¬ nI a = nI b := fun z => hab ((nI_eq (by omega) (by omega)).mp z)
    rw [fi_cl (by omega : a < 4096), fi_cl (by omega : b < 4096), n3, q3]
    refine br_c (fun hw => ?_) (fun hw => ya _ (br_t ua ⟨q2, br_t ub (br_f nab ⟨n2, q2, br_f hw ⟨rfl, I⟩⟩)⟩))
    have hwe : fp_wd (fx_pl u) a = fp_wd (fx_pl u) b := (nI_eq (by omega) (by omega)).mp hw
    rw [hn]
    by_cases hroom : m < 12
    · obtain ⟨r1, r2⟩ := fz_room hroom
      refine br_t r1 ⟨n2, ?_⟩
      rw [← hn]
      refine fx_make (u := u) _ hroom hn _ _ _ _ _ _ _ (fun _ => n2) (fun _ => q2) ?_
      refine ya _ (br_t ua ⟨q2, br_t ub (br_f nab ⟨n2, q2, br_t hw (br_f (by rw [P.1]; exact r2) ⟨n2, ?_⟩)⟩)⟩)
      refine fy_make _ hroom P.1 _ _ _ _ (fun _ => n2) (fun _ => q2) ⟨rfl, ?_⟩
      exact fz_make (kd := 9) (wd := fp_wd (fx_pl u) a) (a := a) (b := b) (A := nI a) (B := nI b) hP hTb hRs hroom _ _ _ (by decide) n5 n6 ⟨fun z => absurd z (by decide), fun _ => ⟨rfl, ha, hua⟩, fun z => absurd (by unfold fz_two; decide) z, fun _ => ⟨rfl, hb, fun z => hab z.symm, hub⟩⟩ ⟨fun z => absurd z (by decide), fun z => absurd z (by decide), fun z => absurd z (by decide), fun z => absurd z (by decide), fun z => absurd z (by decide), fun z => absurd z (by decide), fun z => absurd z (by decide), fun z => absurd z (by decide), fun _ => ⟨rfl, hwe⟩⟩ (fun n hn' => ⟨rfl, rfl, rfl⟩) (fun _ z => absurd rfl z)
    · obtain ⟨r1, r2⟩ := fz_full hm hroom
      refine br_f r2 ?_
      rw [← hn]
      exact ya _ (br_t ua ⟨q2, br_t ub (br_f nab ⟨n2, q2, br_t hw (br_t (by rw [P.1]; exact r1) ⟨rfl, I⟩)⟩)⟩)
  · refine br_c (fun c1 => ⟨q2, br_c (fun c2 => ?_) (fun _ => ⟨rfl, I⟩)⟩) (fun _ => ⟨rfl, I⟩)
    refine br_t ?_ ⟨rfl, I⟩
    exact Classical.byContradiction fun z => hus ⟨fun e => z (by rw [e]), (hU a ha).mp c1, (hU b hb).mp c2⟩
/-! ## pick -/
theorem fz_pc {c : Int32} {w : Nat} (hw : w < 2 ^ 31) : (c = -1 ∨ fp_col c w) ↔ (¬ c < -1 ∧ ¬ nI w ≤ c) := by
  have e1 : (-1 : Int32).toInt = -1 := by decide
  constructor
  · rintro (h | h)
    · subst h
      refine ⟨by decide, fun z => ?_⟩
      rw [Int32.le_iff_toInt_le, nI_toInt hw, e1] at z
      omega
    · obtain ⟨h1, h2⟩ := (fz_col hw).mp h
      refine ⟨fun z => h1 ?_, h2⟩
      exact Int32.lt_trans z (by decide)
  · rintro ⟨h1, h2⟩
    by_cases c0 : c < 0
    · left
      apply Int32.toInt_inj.mp
      rw [Int32.lt_iff_toInt_lt, e1] at h1
      rw [Int32.lt_iff_toInt_lt, show (0 : Int32).toInt = 0 from by decide] at c0
      rw [e1]; omega
    · exact Or.inr ((fz_col hw).mpr ⟨c0, h2⟩)
theorem i_vc_pick {k : Nat} {u : SX} {v : SY} (I : i_Rel k u v) (hk : k + 5 ≤ 2560) (v1 : Int32) (v2 : Int32) (v3 : Int32) (v4 : Int32) : wpX_pick (fun r u' => wpY_pick (fun r' v' => r' = r ∧ i_Rel (k + 5) u' v') v v1 v2 v3 v4) u v1 v2 v3 v4 := by
  obtain ⟨⟨m, hP⟩, hTb, hRs⟩ := id I
  obtain ⟨W, hn, P, hU⟩ := id hP
  have hm := W.1
  by_cases hx : v1 < 0 ∨ ¬ v1 < xx_nodes u
  · have Y : wpY_pick (fun r' v' => r' = -3 ∧ i_Rel (k + 5) u v') v v1 v2 v3 v4 := by
      unfold wpY_pick; dsimp only
      exact fy_bn_bad (v := v) _ v1 (by rw [P.1, ← hn]; exact hx) (br_f (by decide) ⟨rfl, I⟩)
    unfold wpX_pick; dsimp only
    exact fx_ri_bad (u := u) _ v1 hx (br_f (by decide) Y)
  rw [hn] at hx
  obtain ⟨a, ha, rfl⟩ := fz_ix hm hx
  obtain ⟨n1, n2, n3, n4, n5, n6⟩ := fz_node hP ha
  generalize hw : fp_wd (fx_pl u) a = w at n3 n4 n5 n6
  have ya : ∀ post : Int32 → SY → Prop, (yy_used v a = 0 → (v2 < 0 → post (-5) v) ∧ (¬ v2 < 0 → (nI w ≤ v2 → post (-5) v) ∧ (¬ nI w ≤ v2 → (v3 < -1 → post (-5) v) ∧ (¬ v3 < -1 → (nI w ≤ v3 → post (-5) v) ∧ (¬ nI w ≤ v3 → (v4 < -1 → post (-5) v) ∧ (¬ v4 < -1 → (v4 < nI w → (yy_nodes v = 12 → post (-2) v) ∧ (¬ yy_nodes v = 12 → (v3 < 0 → wY_pick_94 post v2 v3 v4 0 1 (-1) (nI a) 3 (yy_nodes v) (yy_over v) (yy_resultRows v) (yy_resultWidth v) (yy_tables v) (yy_held v) (yy_kind v) (yy_left v) (yy_right v) (yy_p v) (yy_q v) (yy_r v) (yy_widths v) (yy_used v) (yy_rows v) (yy_given v) (yy_needed v) (yy_row v) (yy_result v)) ∧ (¬ v3 < 0 → wY_pick_94 post v2 v3 v4 1 1 (-1) (nI a) 3 (yy_nodes v) (yy_over v) (yy_resultRows v) (yy_resultWidth v) (yy_tables v) (yy_held v) (yy_kind v) (yy_left v) (yy_right v) (yy_p v) (yy_q v) (yy_r v) (yy_widths v) (yy_used v) (yy_rows v) (yy_given v) (yy_needed v) (yy_row v) (yy_result v)))) ∧ (¬ v4 < nI w → post (-5) v))))))) → (¬ yy_used v a = 0 → post (-4) v) → wpY_pick post v (nI a) v2 v3 v4 := by
    intro post h0 h1
    show wpY_pick post ((yy_nodes v), (yy_over v), (yy_resultRows v), (yy_resultWidth v), (yy_tables v), (yy_held v), (yy_kind v), (yy_left v), (yy_right v), (yy_p v), (yy_q v), (yy_r v), (yy_widths v), (yy_used v), (yy_rows v), (yy_given v), (yy_needed v), (yy_row v), (yy_result v)) (nI a) v2 v3 v4
    unfold wpY_pick; dsimp only
    refine fy_bn (v := v) _ P.1 hm ha (br_t rfl ⟨n2, ?_⟩)
    rw [fi_cl (by omega : a < 4096), n4]
    refine br_c (fun hu => ⟨n2, ?_⟩) h1
    intro x5 e5
    subst e5
    exact h0 hu
  have hcol := fz_col (c := v2) (w := w) (by omega)
  have hc3 := fz_pc (c := v3) (w := w) (by omega)
  have hc4 := fz_pc (c := v4) (w := w) (by omega)
  have y5 : ¬ (fp_col v2 w ∧ (v3 = -1 ∨ fp_col v3 w) ∧ (v4 = -1 ∨ fp_col v4 w)) → yy_used v a = 0 → wpY_pick (fun r' v' => r' = -5 ∧ i_Rel (k + 5) u v') v (nI a) v2 v3 v4 := by
    intro hno hus
    refine ya _ (fun _ => ?_) (fun z => absurd hus z)
    refine br_c (fun _ => ⟨rfl, I⟩) (fun a1 => br_c (fun _ => ⟨rfl, I⟩) (fun a2 => br_c (fun _ => ⟨rfl, I⟩) (fun a3 => br_c (fun _ => ⟨rfl, I⟩) (fun a4 => br_c (fun _ => ⟨rfl, I⟩) (fun a5 => br_f (fun a6 => ?_) ⟨rfl, I⟩)))))
    exact hno ⟨hcol.mpr ⟨a1, a2⟩, hc3.mpr ⟨a3, a4⟩, hc4.mpr ⟨a5, Int32.not_le.mpr a6⟩⟩
  show wpX_pick _ ((xx_nodes u), (xx_root u), (xx_codeLength u), (xx_mapWidth u), (xx_registersUsed u), (xx_depth u), (xx_overflow u), (xx_resultWidth u), (xx_resultRows u), (xx_tableCells u), (xx_tableRows u), (xx_kindOf u), (xx_first u), (xx_second u), (xx_p u), (xx_q u), (xx_r u), (xx_widthOf u), (xx_parent u), (xx_inPlan u), (xx_given u), (xx_store u), (xx_storeRows u), (xx_heads u), (xx_chain u), (xx_op u), (xx_opA u), (xx_opB u), (xx_opC u), (xx_opD u), (xx_opE u), (xx_map u), (xx_picked u), (xx_register u), (xx_loopAt u), (xx_loopCode u), (xx_result u), (xx_order u)) (nI a) v2 v3 v4
  unfold wpX_pick; dsimp only
  refine fx_ri (u := u) _ W hn ha (fun hu => br_t rfl ?_) (fun hu => br_f (by decide) (ya _ (fun z => absurd ((hU a ha).mp z) hu) (fun _ => ⟨rfl, I⟩)))
  have hus := (hU a ha).mpr hu
  have x57 : ∀ x6 z0 : Int32, (¬ x6 = 0 ↔ (v3 = -1 ∨ fp_col v3 w)) → (¬ z0 = 0 ↔ (v4 = -1 ∨ fp_col v4 w)) → wX_pick_57 (fun r u' => wpY_pick (fun r' v' => r' = r ∧ i_Rel (k + 5) u' v') v (nI a) v2 v3 v4) (nI a) v2 v3 v4 x6 z0 (xx_nodes u) (xx_root u) (xx_codeLength u) (xx_mapWidth u) (xx_registersUsed u) (xx_depth u) (xx_overflow u) (xx_resultWidth u) (xx_resultRows u) (xx_tableCells u) (xx_tableRows u) (xx_kindOf u) (xx_first u) (xx_second u) (xx_p u) (xx_q u) (xx_r u) (xx_widthOf u) (xx_parent u) (xx_inPlan u) (xx_given u) (xx_store u) (xx_storeRows u) (xx_heads u) (xx_chain u) (xx_op u) (xx_opA u) (xx_opB u) (xx_opC u) (xx_opD u) (xx_opE u) (xx_map u) (xx_picked u) (xx_register u) (xx_loopAt u) (xx_loopCode u) (xx_result u) (xx_order u) := by
    intro x6 z0 h6 h0
    unfold wX_pick_57
    refine fx_ic (u := u) _ n1 n3 n6 v2 (fun hc => br_t rfl (y5 (fun z => hc z.1) hus)) (fun hc => br_f (by decide) ?_)
    refine br_c (fun e => y5 (fun z => h6.mpr z.2.1 e) hus) (fun e6 => ?_)
    refine br_c (fun e => y5 (fun z => h0.mpr z.2.2 e) hus) (fun e0 => ?_)
    have o3 := h6.mp e6
    have o4 := h0.mp e0
    obtain ⟨a1, a2⟩ := hcol.mp hc
    obtain ⟨a3, a4⟩ := hc3.mp o3
    obtain ⟨a5, a6⟩ := hc4.mp o4
    have a6' : v4 < nI w := Int32.not_le.mp a6
    rw [hn]
    by_cases hroom : m < 12
    · obtain ⟨r1, r2⟩ := fz_room hroom
      refine br_t r1 ?_
      have p3 : ¬ v3 < 0 → fp_col v3 w := fun z => o3.resolve_left (fun e => z (by rw [e]; decide))
      have p4 : ¬ v4 < 0 → fp_col v4 w := fun z => o4.resolve_left (fun e => z (by rw [e]; decide))
      have fin : ∀ wd, wd = 1 + (if v3 < 0 then 0 else 1) + (if v4 < 0 then 0 else 1) → (∀ post : Int32 → SY → Prop, wpY_make (fun r u' => wpY_say (fun u'' => post r u'') u' r v2 v3 v4) v 3 (nI a) (-1) (nI wd) → wpY_pick post v (nI a) v2 v3 v4) → wpX_make (fun r u' => wpY_pick (fun r' v' => r' = r ∧ i_Rel (k + 5) u' v') v (nI a) v2 v3 v4) u 3 (nI a) (-1) v2 v3 v4 (nI wd) := by
        intro wd hwd hy
        refine fx_make (u := u) _ hroom hn _ _ _ _ _ _ _ (fun _ => n2) (fun z => absurd (by decide) z) ?_
        refine hy _ (fy_make _ hroom P.1 _ _ _ _ (fun _ => n2) (fun z => absurd (by decide) z) ?_)
        refine fy_say _ hroom _ _ _ ⟨rfl, ?_⟩
        have hwd6 : 1 ≤ wd ∧ wd ≤ 6 := by
          rw [hwd]
          by_cases z3 : v3 < 0
          · by_cases z4 : v4 < 0
            · rw [if_pos z3, if_pos z4]; omega
            · rw [if_pos z3, if_neg z4]; omega
          · by_cases z4 : v4 < 0
            · rw [if_neg z3, if_pos z4]; omega
            · rw [if_neg z3, if_neg z4]; omega
        exact fz_make (kd := 3) (wd := wd) (a := a) (b := 0) (A := nI a) (B := -1) hP hTb hRs hroom _ _ _ (by decide) hwd6.1 hwd6.2 ⟨fun z => absurd z (by decide), fun _ => ⟨rfl, ha, hu⟩, fun _ => rfl, fun z => absurd z (by unfold fz_two; decide)⟩ ⟨fun z => absurd z (by decide), fun z => absurd z (by decide), fun z => absurd z (by decide), fun _ => by rw [hw]; exact ⟨hc, p3, p4, hwd⟩, fun z => absurd z (by decide), fun z => absurd z (by decide), fun z => absurd z (by decide), fun z => absurd z (by decide), fun z => absurd z (by decide)⟩ (fun n hn' => ⟨fi_un (by omega), fi_un (by omega), fi_un (by omega)⟩) (fun _ _ => ⟨fi_us, fi_us, fi_us⟩)
      have yb : ∀ post : Int32 → SY → Prop, ((v3 < 0 → wY_pick_94 post v2 v3 v4 0 1 (-1) (nI a) 3 (yy_nodes v) (yy_over v) (yy_resultRows v) (yy_resultWidth v) (yy_tables v) (yy_held v) (yy_kind v) (yy_left v) (yy_right v) (yy_p v) (yy_q v) (yy_r v) (yy_widths v) (yy_used v) (yy_rows v) (yy_given v) (yy_needed v) (yy_row v) (yy_result v)) ∧ (¬ v3 < 0 → wY_pick_94 post v2 v3 v4 1 1 (-1) (nI a) 3 (yy_nodes v) (yy_over v) (yy_resultRows v) (yy_resultWidth v) (yy_tables v) (yy_held v) (yy_kind v) (yy_left v) (yy_right v) (yy_p v) (yy_q v) (yy_r v) (yy_widths v) (yy_used v) (yy_rows v) (yy_given v) (yy_needed v) (yy_row v) (yy_result v))) → wpY_pick post v (nI a) v2 v3 v4 := fun post h => ya post (fun _ => br_f a1 (br_f a2 (br_f a3 (br_f a4 (br_f a5 (br_t a6' (br_f (by rw [P.1]; exact r2) h))))))) (fun z => absurd hus z)
      rw [← hn]
      refine br_c (fun z3 => br_c (fun z4 => ?_) (fun z4 => ?_)) (fun z3 => br_c (fun z4 => ?_) (fun z4 => ?_))
      · intro x8 e8
        subst e8
        exact fin 1 (by rw [if_pos z3, if_pos z4]) fun post h => yb post (br_t z3 (br_t z4 h))
      · intro x8 e8
        subst e8
        exact fin 2 (by rw [if_pos z3, if_neg z4]) fun post h => yb post (br_t z3 (br_f z4 h))
      · intro x8 e8
        subst e8
        exact fin 2 (by rw [if_neg z3, if_pos z4]) fun post h => yb post (br_f z3 (br_t z4 h))
      · intro x8 e8
        subst e8
        exact fin 3 (by rw [if_neg z3, if_neg z4]) fun post h => yb post (br_f z3 (br_f z4 h))
    · obtain ⟨r1, r2⟩ := fz_full hm hroom
      refine br_f r2 ?_
      rw [← hn]
      exact ya _ (fun _ => br_f a1 (br_f a2 (br_f a3 (br_f a4 (br_f a5 (br_t a6' (br_t (by rw [P.1]; exact r1) ⟨rfl, I⟩))))))) (fun z => absurd hus z)
  have x34 : ∀ x6 : Int32, (¬ x6 = 0 ↔ (v3 = -1 ∨ fp_col v3 w)) → wX_pick_34 (fun r u' => wpY_pick (fun r' v' => r' = r ∧ i_Rel (k + 5) u' v') v (nI a) v2 v3 v4) (nI a) v2 v3 v4 x6 (xx_nodes u) (xx_root u) (xx_codeLength u) (xx_mapWidth u) (xx_registersUsed u) (xx_depth u) (xx_overflow u) (xx_resultWidth u) (xx_resultRows u) (xx_tableCells u) (xx_tableRows u) (xx_kindOf u) (xx_first u) (xx_second u) (xx_p u) (xx_q u) (xx_r u) (xx_widthOf u) (xx_parent u) (xx_inPlan u) (xx_given u) (xx_store u) (xx_storeRows u) (xx_heads u) (xx_chain u) (xx_op u) (xx_opA u) (xx_opB u) (xx_opC u) (xx_opD u) (xx_opE u) (xx_map u) (xx_picked u) (xx_register u) (xx_loopAt u) (xx_loopCode u) (xx_result u) (xx_order u) := by
    intro x6 h6
    refine br_c (fun e => x57 x6 1 h6 ⟨fun _ => Or.inl e, fun _ => by decide⟩) (fun e => ?_)
    refine fx_ic (u := u) _ n1 n3 n6 v4 (fun hc => br_t rfl (x57 x6 0 h6 ⟨fun z => absurd rfl z, fun z => absurd (z.resolve_left e) hc⟩)) (fun hc => br_f (by decide) (x57 x6 1 h6 ⟨fun _ => Or.inr hc, fun _ => by decide⟩))
  refine br_c (fun e => x34 1 ⟨fun _ => Or.inl e, fun _ => by decide⟩) (fun e => ?_)
  exact fx_ic (u := u) _ n1 n3 n6 v3 (fun hc => br_t rfl (x34 0 ⟨fun z => absurd rfl z, fun z => absurd (z.resolve_left e) hc⟩)) (fun hc => br_f (by decide) (x34 1 ⟨fun _ => Or.inr hc, fun _ => by decide⟩))
end
