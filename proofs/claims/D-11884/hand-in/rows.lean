section
/-! atoms (i, j, k): k = 4 a free place i; else a pair (i, j) of kind k. A fold: a list of atoms -/
abbrev rf_At : Type := Nat × Nat × Nat
abbrev rf_Fo : Type := List rf_At
def rf_sc (C : rf_At → Int) : rf_Fo → Int
  | [] => 0
  | a :: f => C a + rf_sc C f
theorem rf_sc_app (C : rf_At → Int) (f g : rf_Fo) : rf_sc C (f ++ g) = rf_sc C f + rf_sc C g := by
  induction f with
  | nil => simp [rf_sc]
  | cons a f ih =>
    rw [List.cons_append, rf_sc, rf_sc, ih]
    omega
/-- the scores of the valid folds among F -/
def rf_L (V : rf_At → Bool) (C : rf_At → Int) (F : List rf_Fo) : List Int :=
  F.filterMap (fun f => if f.all V then some (rf_sc C f) else none)
theorem rf_L_nil (V : rf_At → Bool) (C : rf_At → Int) : rf_L V C [] = [] := rfl
theorem rf_L_app (V : rf_At → Bool) (C : rf_At → Int) (F G : List rf_Fo) : rf_L V C (F ++ G) = rf_L V C F ++ rf_L V C G := by
  unfold rf_L
  exact List.filterMap_append
theorem rf_L_cons (V : rf_At → Bool) (C : rf_At → Int) (f : rf_Fo) (F : List rf_Fo) : rf_L V C (f :: F) = (if f.all V then [rf_sc C f] else []) ++ rf_L V C F := by
  unfold rf_L
  rw [List.filterMap_cons]
  cases f.all V <;> rfl
theorem rf_L_pre (V : rf_At → Bool) (C : rf_At → Int) (f : rf_Fo) (G : List rf_Fo) : rf_L V C (G.map (fun g => f ++ g)) = if f.all V then (rf_L V C G).map (fun y => rf_sc C f + y) else [] := by
  induction G with
  | nil => cases f.all V <;> rfl
  | cons g G ih =>
    rw [List.map_cons, rf_L_cons, rf_L_cons, ih, List.all_append, rf_sc_app]
    cases f.all V <;> cases g.all V <;> simp
def rf_pr (F G : List rf_Fo) : List rf_Fo := F.flatMap (fun f => G.map (fun g => f ++ g))
def rf_pi (L M : List Int) : List Int := L.flatMap (fun x => M.map (fun y => x + y))
theorem rf_pr_cons (f : rf_Fo) (F G : List rf_Fo) : rf_pr (f :: F) G = G.map (fun g => f ++ g) ++ rf_pr F G := by
  unfold rf_pr
  rw [List.flatMap_cons]
theorem rf_pi_cons (x : Int) (L M : List Int) : rf_pi (x :: L) M = M.map (fun y => x + y) ++ rf_pi L M := by
  unfold rf_pi
  rw [List.flatMap_cons]
theorem rf_L_pr (V : rf_At → Bool) (C : rf_At → Int) (F G : List rf_Fo) : rf_L V C (rf_pr F G) = rf_pi (rf_L V C F) (rf_L V C G) := by
  induction F with
  | nil => rfl
  | cons f F ih =>
    rw [rf_pr_cons, rf_L_app, ih, rf_L_pre, rf_L_cons]
    cases f.all V
    · simp
    · simp [rf_pi_cons]
/-- the triple (score, best, all) stands for the list L of scores -/
def rf_R (L : List Int) (s b a : Int32) : Prop :=
  a = nI L.length ∧ ((L = [] ∧ b = 0) ∨ ∃ m, m ∈ L ∧ (∀ x, x ∈ L → x ≤ m) ∧ s = Int32.ofInt m ∧ b = nI (L.count m))
theorem rf_R_nil (s : Int32) : rf_R [] s 0 0 := ⟨rfl, Or.inl ⟨rfl, rfl⟩⟩
theorem rf_R_one (v : Int) : rf_R [v] (Int32.ofInt v) 1 1 :=
  ⟨rfl, Or.inr ⟨v, by simp, fun x h => by simp at h; omega, rfl, by simp; rfl⟩⟩
theorem rf_oi {m : Int} (h1 : -100000 ≤ m) (h2 : m ≤ 100000) : (Int32.ofInt m).toInt = m := Int32.toInt_ofInt_of_le (by omega) (by omega)
theorem rf_ole {m n : Int} (h1 : -100000 ≤ m) (h2 : m ≤ 100000) (h3 : -100000 ≤ n) (h4 : n ≤ 100000) : Int32.ofInt m ≤ Int32.ofInt n ↔ m ≤ n := by
  rw [Int32.le_iff_toInt_le, rf_oi h1 h2, rf_oi h3 h4]
theorem rf_olt {m n : Int} (h1 : -100000 ≤ m) (h2 : m ≤ 100000) (h3 : -100000 ≤ n) (h4 : n ≤ 100000) : Int32.ofInt m < Int32.ofInt n ↔ m < n := by
  rw [Int32.lt_iff_toInt_lt, rf_oi h1 h2, rf_oi h3 h4]
theorem rf_oeq {m n : Int} (h1 : -100000 ≤ m) (h2 : m ≤ 100000) (h3 : -100000 ≤ n) (h4 : n ≤ 100000) : Int32.ofInt m = Int32.ofInt n ↔ m = n := by
  rw [← Int32.toInt_inj, rf_oi h1 h2, rf_oi h3 h4]
theorem rf_cnt {L : List Int} {m : Int} (h : m ∈ L) : 0 < L.count m ∧ L.count m ≤ L.length :=
  ⟨List.count_pos_iff.mpr h, List.count_le_length⟩
theorem rf_cnt0 {L : List Int} {m m' : Int} (h : ∀ x, x ∈ L → x ≤ m') (hl : m' < m) : L.count m = 0 :=
  List.count_eq_zero.mpr (fun hx => by have := h m hx; omega)
theorem rf_R_b {L : List Int} {s b a : Int32} (h : rf_R L s b a) (hl : L.length ≤ 100000) : b = 0 ↔ L = [] := by
  rcases h.2 with ⟨e, e0⟩ | ⟨m, i1, x1, e1, e2⟩
  · exact ⟨fun _ => e, fun _ => e0⟩
  · have c := rf_cnt i1
    refine ⟨fun z => ?_, fun z => ?_⟩
    · rw [e2] at z
      exact absurd z (nI_ne0 c.1 (by omega))
    · rw [z] at i1
      exact absurd i1 (by simp)
theorem rf_R_a {L : List Int} {s b a : Int32} (h : rf_R L s b a) (hl : L.length ≤ 100000) : a = 0 ↔ L = [] := by
  rw [h.1, ← nI_0, nI_eq (by omega) (by omega)]
  exact List.length_eq_zero_iff
theorem rf_R_sh {L : List Int} {s b a : Int32} (c : Int) (h : rf_R L s b a) : rf_R (L.map (fun y => c + y)) (Int32.ofInt c + s) b a := by
  have hc : ∀ (m : Int) (L : List Int), (L.map (fun y => c + y)).count (c + m) = L.count m := by
    intro m L
    induction L with
    | nil => rfl
    | cons x L ih =>
      have e : (c + x == c + m) = (x == m) := by
        rw [Bool.eq_iff_iff, beq_iff_eq, beq_iff_eq]
        omega
      rw [List.map_cons, List.count_cons, List.count_cons, ih, e]
  refine ⟨by rw [List.length_map]; exact h.1, ?_⟩
  rcases h.2 with ⟨e, e0⟩ | ⟨m, i1, x1, e1, e2⟩
  · exact Or.inl ⟨by rw [e]; rfl, e0⟩
  · refine Or.inr ⟨c + m, List.mem_map.mpr ⟨m, i1, rfl⟩, fun x hx => ?_, ?_, ?_⟩
    · obtain ⟨y, hy, e⟩ := List.mem_map.mp hx
      have := x1 y hy
      omega
    · rw [e1, Int32.ofInt_add]
    · rw [hc, e2]
theorem rf_pi_len (L M : List Int) : (rf_pi L M).length = L.length * M.length := by
  induction L with
  | nil => simp [rf_pi]
  | cons x L ih =>
    rw [rf_pi_cons, List.length_append, ih, List.length_map, List.length_cons, Nat.add_mul]
    omega
theorem rf_pi_nil (L : List Int) : rf_pi L [] = [] := by
  induction L with
  | nil => rfl
  | cons x L ih => rw [rf_pi_cons, ih]; rfl
theorem rf_pi_cnt (M : List Int) (m1 m2 : Int) (h2 : ∀ x, x ∈ M → x ≤ m2) (L : List Int) (h1 : ∀ x, x ∈ L → x ≤ m1) : (rf_pi L M).count (m1 + m2) = L.count m1 * M.count m2 := by
  induction L with
  | nil => simp [rf_pi]
  | cons x L ih =>
    have hx := h1 x (by simp)
    rw [rf_pi_cons, List.count_append, ih (fun y hy => h1 y (by simp [hy])), List.count_cons, Nat.add_mul]
    have hm : ∀ K : List Int, (∀ z, z ∈ K → z ≤ m2) → (K.map (fun y => x + y)).count (m1 + m2) = (if (x == m1) = true then 1 else 0) * K.count m2 := by
      intro K hK
      induction K with
      | nil => simp
      | cons z K ih2 =>
        have hz := hK z (by simp)
        rw [List.map_cons, List.count_cons, List.count_cons, ih2 (fun y hy => hK y (by simp [hy])), Nat.mul_add]
        congr 1
        by_cases e1 : x = m1
        · by_cases e2 : z = m2
          · simp [e1, e2]
          · have : ¬ x + z = m1 + m2 := by omega
            simp [e1, e2]
        · have : ¬ x + z = m1 + m2 := by omega
          simp [e1, this]
    rw [hm M h2]
    omega
theorem rf_R_pi {L M : List Int} {s b a s' b' a' : Int32} (h : rf_R L s b a) (h' : rf_R M s' b' a') : rf_R (rf_pi L M) (s + s') (b * b') (a * a') := by
  refine ⟨by rw [h.1, h'.1, pk_mul, rf_pi_len], ?_⟩
  rcases h.2 with ⟨e, e0⟩ | ⟨m, i1, x1, e1, e2⟩
  · exact Or.inl ⟨by rw [e]; rfl, by rw [e0]; exact Int32.zero_mul⟩
  · rcases h'.2 with ⟨e', e0'⟩ | ⟨m', i1', x1', e1', e2'⟩
    · exact Or.inl ⟨by rw [e']; exact rf_pi_nil L, by rw [e0']; exact Int32.mul_zero⟩
    · refine Or.inr ⟨m + m', List.mem_flatMap.mpr ⟨m, i1, List.mem_map.mpr ⟨m', i1', rfl⟩⟩, fun x hx => ?_, ?_, ?_⟩
      · obtain ⟨y, hy, hz⟩ := List.mem_flatMap.mp hx
        obtain ⟨z, hz1, e⟩ := List.mem_map.mp hz
        have := x1 y hy
        have := x1' z hz1
        omega
      · rw [e1, e1', Int32.ofInt_add]
      · rw [rf_pi_cnt M m m' x1' L x1, e2, e2', pk_mul]
/-- a list of folds that is small -/
def rf_B (F : List rf_Fo) : Prop := F.length ≤ 60 ∧ ∀ f, f ∈ F → f.length ≤ 6
theorem rf_B_l {F G : List rf_Fo} (h : rf_B (F ++ G)) : rf_B F :=
  ⟨by have := h.1; rw [List.length_append] at this; omega, fun f hf => h.2 f (List.mem_append_left _ hf)⟩
theorem rf_B_r {F G : List rf_Fo} (h : rf_B (F ++ G)) : rf_B G :=
  ⟨by have := h.1; rw [List.length_append] at this; omega, fun f hf => h.2 f (List.mem_append_right _ hf)⟩
theorem rf_sc_b {C : rf_At → Int} (hC : ∀ a, -100 ≤ C a ∧ C a ≤ 100) (f : rf_Fo) : -(100 * (f.length : Int)) ≤ rf_sc C f ∧ rf_sc C f ≤ 100 * (f.length : Int) := by
  induction f with
  | nil => simp [rf_sc]
  | cons a f ih =>
    have := hC a
    rw [rf_sc, List.length_cons]
    omega
theorem rf_L_mem {V : rf_At → Bool} {C : rf_At → Int} {F : List rf_Fo} {x : Int} : x ∈ rf_L V C F ↔ ∃ f, f ∈ F ∧ f.all V = true ∧ x = rf_sc C f := by
  unfold rf_L
  rw [List.mem_filterMap]
  refine ⟨fun ⟨f, hf, e⟩ => ⟨f, hf, ?_⟩, fun ⟨f, hf, h1, h2⟩ => ⟨f, hf, by rw [if_pos h1, h2]⟩⟩
  by_cases h : f.all V = true
  · rw [if_pos h] at e
    exact ⟨h, (Option.some.inj e).symm⟩
  · rw [if_neg h] at e
    exact absurd e (by simp)
theorem rf_L_b {V : rf_At → Bool} {C : rf_At → Int} (hC : ∀ a, -100 ≤ C a ∧ C a ≤ 100) {F : List rf_Fo} (h : rf_B F) {x : Int} (hx : x ∈ rf_L V C F) : -600 ≤ x ∧ x ≤ 600 := by
  obtain ⟨f, hf, _, e⟩ := rf_L_mem.mp hx
  have h1 := rf_sc_b hC f
  have h2 := h.2 f hf
  omega
theorem rf_L_len {V : rf_At → Bool} {C : rf_At → Int} {F : List rf_Fo} (h : rf_B F) : (rf_L V C F).length ≤ 60 :=
  Nat.le_trans (List.length_filterMap_le _ _) h.1
theorem rf_fm {α β : Type} (g : Nat → List β) (s m n : Nat) (h : m ≤ n) : ∃ R, (List.range' s n).flatMap g = (List.range' s m).flatMap g ++ R := by
  refine ⟨(List.range' (s + m) (n - m)).flatMap g, ?_⟩
  rw [← List.flatMap_append, List.range'_append_1]
  congr 2
  omega
theorem rf_fs {β : Type} (g : Nat → List β) (s k : Nat) (h : s ≤ k) : (List.range' s (k + 1 - s)).flatMap g = (List.range' s (k - s)).flatMap g ++ g k := by
  rw [show k + 1 - s = (k - s) + 1 by omega, List.range'_1_concat, List.flatMap_append, show s + (k - s) = k by omega]
  simp
end
section
/-! the table of all folds, by fuel; l = 0, 1, 2: places i .. j - 1 with at least l pairs at the top; l = 3: i and j are a pair -/
def rf_fr (i j : Nat) : rf_Fo := (List.range' i (j - i)).map (fun k => (k, k, 4))
def rf_ty (i j k l : Nat) : Nat := if k = i + 1 ∧ l + 1 = j then 1 else 2
def rf_sI (T : Nat → Nat → Nat → List rf_Fo) (i j k : Nat) : List rf_Fo :=
  (List.range' (k + 1) (j - (k + 1))).flatMap (fun l => (T 3 k l).map (fun f => ((i, j, rf_ty i j k l) :: (rf_fr (i + 1) k ++ rf_fr (l + 1) j)) ++ f))
def rf_sP (T : Nat → Nat → Nat → List rf_Fo) (i j : Nat) : List rf_Fo :=
  if i < j then ([(i, j, 0) :: rf_fr (i + 1) j] ++ (List.range' (i + 1) (j - (i + 1))).flatMap (rf_sI T i j)) ++ (T 2 (i + 1) j).map (fun f => [(i, j, 3)] ++ f) else []
def rf_sA (T : Nat → Nat → Nat → List rf_Fo) (l i j : Nat) : List rf_Fo :=
  if i = j then (if l = 0 then [[]] else [])
  else (T l (i + 1) j).map (fun f => [(i, i, 4)] ++ f) ++ (List.range' (i + 1) (j - (i + 1))).flatMap (fun k => rf_pr (T 3 i k) (T (l - 1) (k + 1) j))
def rf_Tn : Nat → Nat → Nat → Nat → List rf_Fo
  | 0 => fun _ _ _ => []
  | n + 1 => fun l i j => if l = 3 then rf_sP (rf_Tn n) i j else rf_sA (rf_Tn n) l i j
def rf_T (l i j : Nat) : List rf_Fo := rf_Tn 14 l i j
def rf_de (F G : List rf_Fo) : Bool := F == G
theorem rf_de_e {F G : List rf_Fo} (h : rf_de F G = true) : F = G := eq_of_beq h
theorem rf_eqA0 : ∀ l, l < 3 → ∀ j, j < 7 → ∀ i, i < j + 1 → rf_de (rf_T l i j) (rf_sA rf_T l i j) = true := by decide +kernel
theorem rf_eqP0 : ∀ j, j < 6 → ∀ i, i < j + 1 → rf_de (rf_T 3 i j) (rf_sP rf_T i j) = true := by decide +kernel
theorem rf_eqA (l : Nat) (hl : l < 3) (j : Nat) (hj : j < 7) (i : Nat) (hi : i < j + 1) : rf_T l i j = rf_sA rf_T l i j := rf_de_e (rf_eqA0 l hl j hj i hi)
theorem rf_eqP (j : Nat) (hj : j < 6) (i : Nat) (hi : i < j + 1) : rf_T 3 i j = rf_sP rf_T i j := rf_de_e (rf_eqP0 j hj i hi)
def rf_bb (F : List rf_Fo) : Bool := decide (F.length ≤ 60) && F.all (fun f => decide (f.length ≤ 6))
theorem rf_bb_B {F : List rf_Fo} (h : rf_bb F = true) : rf_B F := by
  unfold rf_bb at h
  rw [Bool.and_eq_true, decide_eq_true_eq, List.all_eq_true] at h
  exact ⟨h.1, fun f hf => of_decide_eq_true (h.2 f hf)⟩
theorem rf_bT0 : ∀ l, l < 3 → ∀ j, j < 7 → ∀ i, i < j + 1 → rf_bb (rf_T l i j) = true := by decide +kernel
theorem rf_bP0 : ∀ j, j < 6 → ∀ i, i < j + 1 → rf_bb (rf_T 3 i j) = true := by decide +kernel
theorem rf_bT {l i j : Nat} (hl : l < 3) (hi : i ≤ j) (hj : j ≤ 6) : rf_B (rf_T l i j) := rf_bb_B (rf_bT0 l hl j (by omega) i (by omega))
theorem rf_bP {i j : Nat} (hi : i ≤ j) (hj : j < 6) : rf_B (rf_T 3 i j) := rf_bb_B (rf_bP0 j hj i (by omega))
end
section
/-! the small methods -/
section
variable {gap size fo fs s b a : Int32} {a1 a2 a3 a4 a5 a6 a7 a8 a9 a10 a11 a12 : Nat → Int32}
theorem rf_offer {post : St2 → Prop} {L M : List Int} {v p q : Int32} (hL : rf_R L s b a) (hM : rf_R M v p q) (bL : ∀ x, x ∈ L → -10000 ≤ x ∧ x ≤ 10000) (bM : ∀ x, x ∈ M → -10000 ≤ x ∧ x ≤ 10000) (lL : L.length ≤ 10000) (lM : M.length ≤ 10000)
    (H : ∀ s' b' a', rf_R (L ++ M) s' b' a' → post (gap, size, fo, fs, s', b', a', a1, a2, a3, a4, a5, a6, a7, a8, a9, a10, a11, a12)) :
    wpX_offer post (gap, size, fo, fs, s, b, a, a1, a2, a3, a4, a5, a6, a7, a8, a9, a10, a11, a12) v p q := by
  have hA : a + q = nI (L ++ M).length := by rw [hL.1, hM.1, nI_add, List.length_append]
  unfold wpX_offer
  refine nm_e ?_
  refine br_c (fun h0 => ?_) (fun h0 => ?_)
  · have e : M = [] := (rf_R_b hM (by omega)).mp h0
    refine H _ _ _ ⟨hA, ?_⟩
    rw [e, List.append_nil]
    exact hL.2
  · rcases hM.2 with ⟨_, z⟩ | ⟨m2, i2, x2, es2, eb2⟩
    · exact absurd z h0
    · refine br_c (fun hb => ?_) (fun hb => ?_)
      · have e : L = [] := (rf_R_b hL (by omega)).mp hb
        refine H _ _ _ ⟨hA, Or.inr ⟨m2, ?_, ?_, es2, ?_⟩⟩
        · rw [e]; exact i2
        · rw [e]; exact x2
        · rw [e]; exact eb2
      · rcases hL.2 with ⟨_, z⟩ | ⟨m1, i1, x1, es1, eb1⟩
        · exact absurd z hb
        · have k1 := bL m1 i1
          have k2 := bM m2 i2
          refine br_c (fun hle => br_c (fun heq => nm_e ?_) (fun hne => ?_)) (fun hgt => ?_)
          · rw [es1, es2, rf_oeq (by omega) (by omega) (by omega) (by omega)] at heq
            refine H _ _ _ ⟨hA, Or.inr ⟨m1, List.mem_append_left _ i1, fun x hx => ?_, es1, ?_⟩⟩
            · rcases List.mem_append.mp hx with g | g
              · exact x1 x g
              · have := x2 x g
                omega
            · rw [eb1, eb2, nI_add, List.count_append, heq]
          · rw [es1, es2, rf_ole (by omega) (by omega) (by omega) (by omega)] at hle
            rw [es1, es2, rf_oeq (by omega) (by omega) (by omega) (by omega)] at hne
            refine H _ _ _ ⟨hA, Or.inr ⟨m1, List.mem_append_left _ i1, fun x hx => ?_, es1, ?_⟩⟩
            · rcases List.mem_append.mp hx with g | g
              · exact x1 x g
              · have := x2 x g
                omega
            · rw [eb1, List.count_append, rf_cnt0 x2 (by omega)]
              rfl
          · rw [es1, es2, rf_ole (by omega) (by omega) (by omega) (by omega)] at hgt
            refine H _ _ _ ⟨hA, Or.inr ⟨m2, List.mem_append_right _ i2, fun x hx => ?_, es2, ?_⟩⟩
            · rcases List.mem_append.mp hx with g | g
              · have := x1 x g
                omega
              · exact x2 x g
            · rw [eb2, List.count_append, rf_cnt0 x1 (by omega), Nat.zero_add]
theorem rf_offerF {post : St2 → Prop} {V : rf_At → Bool} {C : rf_At → Int} (hC : ∀ a, -100 ≤ C a ∧ C a ≤ 100) {F G : List rf_Fo} {v p q : Int32} (hL : rf_R (rf_L V C F) s b a) (hM : rf_R (rf_L V C G) v p q) (hB : rf_B (F ++ G))
    (H : ∀ s' b' a', rf_R (rf_L V C (F ++ G)) s' b' a' → post (gap, size, fo, fs, s', b', a', a1, a2, a3, a4, a5, a6, a7, a8, a9, a10, a11, a12)) :
    wpX_offer post (gap, size, fo, fs, s, b, a, a1, a2, a3, a4, a5, a6, a7, a8, a9, a10, a11, a12) v p q := by
  have l1 := rf_L_len (V := V) (C := C) (rf_B_l hB)
  have l2 := rf_L_len (V := V) (C := C) (rf_B_r hB)
  rw [rf_L_app] at H
  exact rf_offer hL hM (fun x hx => by have := rf_L_b hC (rf_B_l hB) hx; omega) (fun x hx => by have := rf_L_b hC (rf_B_r hB) hx; omega) (by omega) (by omega) H
/-- the kind of a pair of bases -/
def rf_kl (lo hi : Int32) : Int32 := if lo = 0 ∧ hi = 3 then 0 else if lo = 1 ∧ hi = 2 then 1 else if lo = 2 ∧ hi = 3 then 2 else -1
def rf_kd (x y : Int32) : Int32 := if y ≤ x then rf_kl y x else rf_kl x y
theorem rf_kl_r (lo hi : Int32) : rf_kl lo hi = nI 0 ∨ rf_kl lo hi = nI 1 ∨ rf_kl lo hi = nI 2 ∨ rf_kl lo hi = -1 := by
  unfold rf_kl
  split
  · exact Or.inl rfl
  · split
    · exact Or.inr (Or.inl rfl)
    · split
      · exact Or.inr (Or.inr (Or.inl rfl))
      · exact Or.inr (Or.inr (Or.inr rfl))
theorem rf_kd_r (x y : Int32) : rf_kd x y = nI 0 ∨ rf_kd x y = nI 1 ∨ rf_kd x y = nI 2 ∨ rf_kd x y = -1 := by
  unfold rf_kd
  split
  · exact rf_kl_r _ _
  · exact rf_kl_r _ _
theorem rf_kd_c (x y : Int32) : (rf_kd x y).toNatClampNeg < 3 := by
  rcases rf_kd_r x y with h | h | h | h <;> rw [h] <;> decide
theorem rf_kd_n {x y : Int32} (h : ¬ rf_kd x y < 0) : ∃ k, k < 3 ∧ rf_kd x y = nI k := by
  rcases rf_kd_r x y with e | e | e | e
  · exact ⟨0, by omega, e⟩
  · exact ⟨1, by omega, e⟩
  · exact ⟨2, by omega, e⟩
  · rw [e] at h
    exact absurd (by decide) h
theorem rf_kl_ok {post : Int32 → Prop} {lo hi : Int32} (H : post (rf_kl lo hi)) : wX_kindOf_21 post lo hi := by
  unfold rf_kl at H
  have k45 : ¬ (lo = 0 ∧ hi = 3) → ¬ (lo = 1 ∧ hi = 2) → wX_kindOf_45 post lo hi := by
    intro n0 n1
    rw [if_neg n0, if_neg n1] at H
    refine br_c (fun h2 => br_c (fun h3 => ?_) (fun h3 => ?_)) (fun h2 => ?_)
    · rw [if_pos ⟨h2, h3⟩] at H
      exact H
    · rw [if_neg (fun z => h3 z.2)] at H
      exact H
    · rw [if_neg (fun z => h2 z.1)] at H
      exact H
  have k33 : ¬ (lo = 0 ∧ hi = 3) → wX_kindOf_33 post lo hi := by
    intro n0
    refine br_c (fun h2 => br_c (fun h3 => ?_) (fun h3 => ?_)) (fun h2 => ?_)
    · rw [if_neg n0, if_pos ⟨h2, h3⟩] at H
      exact H
    · exact k45 n0 (fun z => h3 z.2)
    · exact k45 n0 (fun z => h2 z.1)
  refine br_c (fun h2 => br_c (fun h3 => ?_) (fun h3 => ?_)) (fun h2 => ?_)
  · rw [if_pos ⟨h2, h3⟩] at H
    exact H
  · exact k33 (fun z => h3 z.2)
  · exact k33 (fun z => h2 z.1)
theorem rf_kindOf {post : Int32 → Prop} {x y : Int32} (H : post (rf_kd x y)) : wpX_kindOf post () x y := by
  unfold rf_kd at H
  unfold wpX_kindOf wX_kindOf_10
  refine br_c (fun h => ?_) (fun h => ?_)
  · rw [if_pos h] at H
    exact br_t h (rf_kl_ok H)
  · rw [if_neg h] at H
    exact br_f h (rf_kl_ok H)
def rf_bi (b : Bool) : Int32 := if b then 1 else 0
def rf_fit (gap : Int32) (a1 : Nat → Int32) (i j : Nat) : Bool := decide (¬ nI j - nI i ≤ gap) && decide (¬ rf_kd (a1 i) (a1 j) < 0)
theorem rf_doFit {post : Int32 → Prop} {i j : Nat} (hi : i < 11) (hj : j < 11) (H : post (rf_bi (rf_fit gap a1 i j))) :
    wpX_doFit post (gap, size, fo, fs, s, b, a, a1, a2, a3, a4, a5, a6, a7, a8, a9, a10, a11, a12) (nI i) (nI j) := by
  unfold rf_fit at H
  unfold wpX_doFit
  refine br_c (fun h => ?_) (fun h => ⟨pk_in i 11 hi, pk_in j 11 hj, ?_⟩)
  · rw [decide_eq_false (not_not_intro h)] at H
    exact H
  · rw [nI_clamp (show i < 2 ^ 31 by omega), nI_clamp (show j < 2 ^ 31 by omega)]
    rw [decide_eq_true h] at H
    refine rf_kindOf (br_c (fun h2 => ?_) (fun h2 => ?_))
    · rw [decide_eq_false (not_not_intro h2)] at H
      exact H
    · rw [decide_eq_true h2] at H
      exact H
def rf_kp (fo fs : Int32) (i j : Nat) : Bool := decide (fo < 0 ∨ (nI i = fo ↔ nI j = fs))
def rf_f1 (a3 : Nat → Int32) (i : Nat) : Bool := decide (a3 i = 0 ∨ a3 i = 2)
def rf_f2 (a3 : Nat → Int32) (j : Nat) : Bool := decide (a3 j = 0 ∨ a3 j = 3)
def rf_mp (gap fo fs : Int32) (a1 a3 : Nat → Int32) (i j : Nat) : Bool := rf_f1 a3 i && (rf_f2 a3 j && (rf_kp fo fs i j && rf_fit gap a1 i j))
theorem rf_mp92 {post : Int32 → Prop} {i j : Nat} (hi : i < 11) (hj : j < 11) (p q r : Bool) (H : post (rf_bi (p && (q && (r && rf_fit gap a1 i j))))) :
    wX_mayPair_92 post (nI i) (nI j) (rf_bi p) (rf_bi q) (rf_bi r) gap size fo fs s b a a1 a2 a3 a4 a5 a6 a7 a8 a9 a10 a11 a12 := by
  unfold wX_mayPair_92
  cases p
  · exact br_t rfl H
  · refine br_f (by decide) ?_
    cases q
    · exact br_t rfl H
    · refine br_f (by decide) ?_
      cases r
      · exact br_t rfl H
      · refine br_f (by decide) (rf_doFit hi hj ?_)
        cases h : rf_fit gap a1 i j
        · rw [h] at H
          exact br_t rfl H
        · rw [h] at H
          exact br_f (by decide) H
theorem rf_mp49 {post : Int32 → Prop} {i j : Nat} (hi : i < 11) (hj : j < 11) (p q : Bool) (H : post (rf_bi (p && (q && (rf_kp fo fs i j && rf_fit gap a1 i j))))) :
    wX_mayPair_49 post (nI i) (nI j) (rf_bi p) (rf_bi q) gap size fo fs s b a a1 a2 a3 a4 a5 a6 a7 a8 a9 a10 a11 a12 := by
  have e : ∀ r : Bool, rf_kp fo fs i j = r → wX_mayPair_92 post (nI i) (nI j) (rf_bi p) (rf_bi q) (rf_bi r) gap size fo fs s b a a1 a2 a3 a4 a5 a6 a7 a8 a9 a10 a11 a12 := by
    intro r hr
    rw [hr] at H
    exact rf_mp92 hi hj p q r H
  unfold rf_kp at e
  unfold wX_mayPair_49
  refine br_c (fun h => e true (decide_eq_true (Or.inl h))) (fun h => br_c (fun h1 => ?_) (fun h1 => ?_))
  · unfold wX_mayPair_71
    refine br_c (fun h2 => br_t rfl (e true (decide_eq_true (Or.inr ⟨fun _ => h2, fun _ => h1⟩)))) (fun h2 => br_f (by decide) (e false (decide_eq_false ?_)))
    exact fun z => z.elim h (fun w => h2 (w.mp h1))
  · unfold wX_mayPair_71
    refine br_c (fun h2 => br_f (by decide) (e false (decide_eq_false ?_))) (fun h2 => br_t rfl (e true (decide_eq_true (Or.inr ⟨fun z => absurd z h1, fun z => absurd z h2⟩))))
    exact fun z => z.elim h (fun w => h1 (w.mpr h2))
theorem rf_mp24 {post : Int32 → Prop} {i j : Nat} (hi : i < 11) (hj : j < 11) (p : Bool) (H : post (rf_bi (p && (rf_f2 a3 j && (rf_kp fo fs i j && rf_fit gap a1 i j))))) :
    wX_mayPair_24 post (nI i) (nI j) (rf_bi p) gap size fo fs s b a a1 a2 a3 a4 a5 a6 a7 a8 a9 a10 a11 a12 := by
  have e : ∀ q : Bool, rf_f2 a3 j = q → wX_mayPair_49 post (nI i) (nI j) (rf_bi p) (rf_bi q) gap size fo fs s b a a1 a2 a3 a4 a5 a6 a7 a8 a9 a10 a11 a12 := by
    intro r hr
    rw [hr] at H
    exact rf_mp49 hi hj p r H
  unfold rf_f2 at e
  unfold wX_mayPair_24
  rw [nI_clamp (show j < 2 ^ 31 by omega)]
  refine ⟨pk_in j 11 hj, br_c (fun h => e true (decide_eq_true (Or.inl h))) (fun h => ⟨pk_in j 11 hj, br_c (fun h1 => e true (decide_eq_true (Or.inr h1))) (fun h1 => e false (decide_eq_false ?_))⟩)⟩
  exact fun z => z.elim h h1
theorem rf_mayPair {post : Int32 → Prop} {i j : Nat} (hi : i < 11) (hj : j < 11) (H : post (rf_bi (rf_mp gap fo fs a1 a3 i j))) :
    wpX_mayPair post (gap, size, fo, fs, s, b, a, a1, a2, a3, a4, a5, a6, a7, a8, a9, a10, a11, a12) (nI i) (nI j) := by
  have e : ∀ q : Bool, rf_f1 a3 i = q → wX_mayPair_24 post (nI i) (nI j) (rf_bi q) gap size fo fs s b a a1 a2 a3 a4 a5 a6 a7 a8 a9 a10 a11 a12 := by
    intro r hr
    unfold rf_mp at H
    rw [hr] at H
    exact rf_mp24 hi hj r H
  unfold rf_f1 at e
  unfold wpX_mayPair
  dsimp only
  rw [nI_clamp (show i < 2 ^ 31 by omega)]
  refine ⟨pk_in i 11 hi, br_c (fun h => e true (decide_eq_true (Or.inl h))) (fun h => ⟨pk_in i 11 hi, br_c (fun h1 => e true (decide_eq_true (Or.inr h1))) (fun h1 => e false (decide_eq_false ?_))⟩)⟩
  exact fun z => z.elim h h1
/-- which atoms the state allows, and what they score -/
def rf_V (gap fo fs : Int32) (a1 a3 : Nat → Int32) (t : rf_At) : Bool := if t.2.2 = 4 then decide (¬ 1 < a3 t.1) else rf_mp gap fo fs a1 a3 t.1 t.2.1
def rf_ow (a1 a4 : Nat → Int32) (i j : Nat) : Int := (a4 (rf_kd (a1 i) (a1 j)).toNatClampNeg).toInt
def rf_C (a1 a4 : Nat → Int32) (t : rf_At) : Int :=
  if t.2.2 = 0 then rf_ow a1 a4 t.1 t.2.1 else if t.2.2 = 1 then rf_ow a1 a4 t.1 t.2.1 + (a4 3).toInt else if t.2.2 = 2 then rf_ow a1 a4 t.1 t.2.1 - (a4 4).toInt else if t.2.2 = 3 then rf_ow a1 a4 t.1 t.2.1 - (a4 5).toInt else 0
theorem rf_C_b (ht : ∀ k, k < 6 → 0 ≤ (a4 k).toInt ∧ (a4 k).toInt ≤ 20) (t : rf_At) : -100 ≤ rf_C a1 a4 t ∧ rf_C a1 a4 t ≤ 100 := by
  have h1 := ht (rf_kd (a1 t.1) (a1 t.2.1)).toNatClampNeg (by have := rf_kd_c (a1 t.1) (a1 t.2.1); omega)
  have h3 := ht 3 (by omega)
  have h4 := ht 4 (by omega)
  have h5 := ht 5 (by omega)
  unfold rf_C rf_ow
  split
  · omega
  · split
    · omega
    · split
      · omega
      · split
        · omega
        · omega
theorem rf_fr_s {i j : Nat} (h : i < j) : rf_fr i j = (i, i, 4) :: rf_fr (i + 1) j := by
  unfold rf_fr
  rw [show j - i = (j - (i + 1)) + 1 by omega, List.range'_succ, List.map_cons]
theorem rf_fr_0 {i j : Nat} (h : j ≤ i) : rf_fr i j = [] := by
  unfold rf_fr
  rw [show j - i = 0 by omega]
  rfl
theorem rf_sc_fr (i j : Nat) : rf_sc (rf_C a1 a4) (rf_fr i j) = 0 := by
  unfold rf_fr
  generalize List.range' i (j - i) = l
  induction l with
  | nil => rfl
  | cons k l ih =>
    rw [List.map_cons, rf_sc, ih]
    rfl
theorem rf_isFree2 {post : Int32 → Prop} {j : Nat} (hj : j < 11) (d : Nat) : ∀ i, j - i = d → post (rf_bi ((rf_fr i j).all (rf_V gap fo fs a1 a3))) → i < 12 →
    wX_isFree_2 post (nI j) gap size fo fs s b a a1 a2 a3 a4 a5 a6 a7 a8 a9 a10 a11 a12 (d + 1) (nI i) := by
  induction d with
  | zero =>
    intro i hd H hi
    rw [rf_fr_0 (by omega)] at H
    exact pk_le j i (fun _ => H) (fun z => absurd z (by omega))
  | succ d ih =>
    intro i hd H hi
    rw [rf_fr_s (by omega), List.all_cons] at H
    refine pk_le j i (fun z => absurd z (by omega)) (fun z => ⟨pk_in i 11 (by omega), ?_⟩)
    have e : rf_V gap fo fs a1 a3 (i, i, 4) = decide (¬ 1 < a3 i) := rfl
    rw [nI_clamp (show i < 2 ^ 31 by omega)]
    refine br_c (fun h => br_t rfl ?_) (fun h => br_f (by decide) (nm_r (nI_1 i) (ih (i + 1) (by omega) ?_ (by omega))))
    · rw [e, decide_eq_false (not_not_intro h)] at H
      exact H
    · rw [e, decide_eq_true h] at H
      exact H
theorem rf_isFree {post : Int32 → Prop} {x : Int32} {i j : Nat} (hi : i < 12) (hj : j < 11) (hx : x = nI i) (H : post (rf_bi ((rf_fr i j).all (rf_V gap fo fs a1 a3)))) :
    wpX_isFree post (gap, size, fo, fs, s, b, a, a1, a2, a3, a4, a5, a6, a7, a8, a9, a10, a11, a12) x (nI j) := by
  rw [hx]
  exact ⟨j - i + 1, rf_isFree2 hj (j - i) i rfl H hi⟩
end
end
section
/-! offerInner, solvePair -/
theorem rf_L_none {V : rf_At → Bool} {C : rf_At → Int} {F : List rf_Fo} (h : ∀ f, f ∈ F → f.all V = false) : rf_L V C F = [] := by
  induction F with
  | nil => rfl
  | cons f F ih =>
    rw [rf_L_cons, h f (by simp), ih (fun g hg => h g (by simp [hg]))]
    rfl
theorem rf_pred {j : Nat} (h : 0 < j) : nI j - 1 = nI (j - 1) := by
  obtain ⟨m, rfl⟩ : ∃ m, j = m + 1 := ⟨j - 1, by omega⟩
  exact nI_pred m
def rf_gI (i j k l : Nat) : List rf_Fo := (rf_T 3 k l).map (fun f => ((i, j, rf_ty i j k l) :: (rf_fr (i + 1) k ++ rf_fr (l + 1) j)) ++ f)
theorem rf_sI_eq (i j k : Nat) : rf_sI rf_T i j k = (List.range' (k + 1) (j - (k + 1))).flatMap (rf_gI i j k) := rfl
theorem rf_ty_4 (i j k l : Nat) : ¬ rf_ty i j k l = 4 := by
  unfold rf_ty
  split <;> omega
theorem rf_V_p (gap fo fs : Int32) (a1 a3 : Nat → Int32) (i j k : Nat) (h : ¬ k = 4) : rf_V gap fo fs a1 a3 (i, j, k) = rf_mp gap fo fs a1 a3 i j := if_neg h
theorem rf_i2 (i j : Nat) : (12 : Int32) * nI i + nI j = nI (12 * i + j) := by
  rw [show (12 : Int32) = nI 12 from rfl, pk_mul, nI_add]
theorem rf_i3 (l i j : Nat) : (144 : Int32) * nI l + 12 * nI i + nI j = nI (144 * l + 12 * i + j) := by
  rw [show (144 : Int32) = nI 144 from rfl, show (12 : Int32) = nI 12 from rfl, pk_mul, pk_mul, nI_add, nI_add]
section
variable {gap size fo fs s b a : Int32} {a1 a2 a3 a4 a5 a6 a7 a8 a9 a10 a11 a12 : Nat → Int32}
theorem rf_oI17 {post : St2 → Prop} {i j k : Nat} {own : Int32} (hik : i < k) (hkj : k < j) (hj : j < 6) (ht : ∀ k, k < 6 → 0 ≤ (a4 k).toInt ∧ (a4 k).toInt ≤ 20)
    (hown : own = Int32.ofInt (rf_ow a1 a4 i j)) (hmp : rf_mp gap fo fs a1 a3 i j = true) (hfr : (rf_fr (i + 1) k).all (rf_V gap fo fs a1 a3) = true) {F : List rf_Fo} (hB : rf_B (F ++ rf_sI rf_T i j k))
    (hP : ∀ l, k < l → l < j → rf_R (rf_L (rf_V gap fo fs a1 a3) (rf_C a1 a4) (rf_T 3 k l)) (a5 (12 * k + l)) (a6 (12 * k + l)) (a7 (12 * k + l)))
    (H : ∀ s' b' a', rf_R (rf_L (rf_V gap fo fs a1 a3) (rf_C a1 a4) (F ++ rf_sI rf_T i j k)) s' b' a' → post (gap, size, fo, fs, s', b', a', a1, a2, a3, a4, a5, a6, a7, a8, a9, a10, a11, a12))
    (n : Nat) : ∀ (l : Nat) (s b a : Int32), k < l → l ≤ j → j - l < n → rf_R (rf_L (rf_V gap fo fs a1 a3) (rf_C a1 a4) (F ++ (List.range' (k + 1) (l - (k + 1))).flatMap (rf_gI i j k))) s b a →
      wX_offerInner_17 post (nI i) (nI j) (nI k) own n (nI l) gap size fo fs s b a a1 a2 a3 a4 a5 a6 a7 a8 a9 a10 a11 a12 := by
  induction n with
  | zero => intro l s b a _ _ h; omega
  | succ n ih =>
    intro l s b a hkl hlj hn hR
    refine pk_le j l (fun z => ?_) (fun z => ?_)
    · have e : l = j := by omega
      rw [e] at hR
      exact H s b a hR
    · have hs := rf_fs (rf_gI i j k) (k + 1) l (by omega)
      have hB' : rf_B ((F ++ (List.range' (k + 1) (l - (k + 1))).flatMap (rf_gI i j k)) ++ rf_gI i j k l) := by
        obtain ⟨R, hR2⟩ := rf_fm (α := Nat) (rf_gI i j k) (k + 1) (l + 1 - (k + 1)) (j - (k + 1)) (by omega)
        rw [rf_sI_eq, hR2, hs, ← List.append_assoc, ← List.append_assoc] at hB
        exact rf_B_l hB
      have nx : ∀ s' b' a', rf_R (rf_L (rf_V gap fo fs a1 a3) (rf_C a1 a4) ((F ++ (List.range' (k + 1) (l - (k + 1))).flatMap (rf_gI i j k)) ++ rf_gI i j k l)) s' b' a' →
          wX_offerInner_17 post (nI i) (nI j) (nI k) own n (nI (l + 1)) gap size fo fs s' b' a' a1 a2 a3 a4 a5 a6 a7 a8 a9 a10 a11 a12 := by
        intro s' b' a' h
        refine ih (l + 1) s' b' a' (by omega) (by omega) (by omega) ?_
        rw [hs, ← List.append_assoc]
        exact h
      have skip : rf_L (rf_V gap fo fs a1 a3) (rf_C a1 a4) (rf_gI i j k l) = [] → wX_offerInner_17 post (nI i) (nI j) (nI k) own n (nI (l + 1)) gap size fo fs s b a a1 a2 a3 a4 a5 a6 a7 a8 a9 a10 a11 a12 := by
        intro e
        refine nx s b a ?_
        rw [rf_L_app, e, List.append_nil]
        exact hR
      have hp := hP l hkl z
      have hlen := rf_L_len (V := rf_V gap fo fs a1 a3) (C := rf_C a1 a4) (rf_bP (Nat.le_of_lt hkl) (show l < 6 by omega))
      have hpre : rf_L (rf_V gap fo fs a1 a3) (rf_C a1 a4) (rf_gI i j k l) = if (rf_fr (l + 1) j).all (rf_V gap fo fs a1 a3) then (rf_L (rf_V gap fo fs a1 a3) (rf_C a1 a4) (rf_T 3 k l)).map (fun y => rf_C a1 a4 (i, j, rf_ty i j k l) + y) else [] := by
        unfold rf_gI
        rw [rf_L_pre, List.all_cons, List.all_append, hfr, rf_V_p _ _ _ _ _ _ _ _ (rf_ty_4 i j k l), hmp, rf_sc, rf_sc_app, rf_sc_fr, rf_sc_fr, Int.add_zero, Int.add_zero, Bool.true_and, Bool.true_and]
      refine nm_r (rf_i2 k l) ⟨pk_in (12 * k + l) 144 (by omega), ?_⟩
      rw [nI_clamp (show 12 * k + l < 2 ^ 31 by omega)]
      refine br_c (fun h => nm_r (nI_1 l) (skip ?_)) (fun h => rf_isFree (i := l + 1) (by omega) (by omega) (nI_1 l) ?_)
      · have e : rf_L (rf_V gap fo fs a1 a3) (rf_C a1 a4) (rf_T 3 k l) = [] := by
          rw [hp.1] at h
          rcases Nat.eq_zero_or_pos (rf_L (rf_V gap fo fs a1 a3) (rf_C a1 a4) (rf_T 3 k l)).length with g | g
          · exact List.length_eq_zero_iff.mp g
          · exact absurd h (nI_nle g (by omega))
        rw [hpre, e]
        simp
      · cases hf : (rf_fr (l + 1) j).all (rf_V gap fo fs a1 a3)
        · refine br_t rfl (nm_r (nI_1 l) (skip ?_))
          rw [hpre, hf]
          rfl
        · rw [hf, if_pos rfl] at hpre
          have off : ∀ ex : Int32, own + ex = Int32.ofInt (rf_C a1 a4 (i, j, rf_ty i j k l)) →
              wX_offerInner_97 post (wX_offerInner_17 post (nI i) (nI j) (nI k) own n) (nI i) (nI j) (nI k) own (nI l) (nI (12 * k + l)) ex gap size fo fs s b a a1 a2 a3 a4 a5 a6 a7 a8 a9 a10 a11 a12 := by
            intro ex hex
            refine ⟨pk_in (12 * k + l) 144 (by omega), pk_in (12 * k + l) 144 (by omega), pk_in (12 * k + l) 144 (by omega), ?_⟩
            rw [nI_clamp (show 12 * k + l < 2 ^ 31 by omega)]
            refine rf_offerF (rf_C_b ht) hR (G := rf_gI i j k l) ?_ hB' (fun s' b' a' h => nm_r (nI_1 l) (nx s' b' a' h))
            rw [hpre, hex]
            exact rf_R_sh _ hp
          have o2 : ¬ (k = i + 1 ∧ l + 1 = j) → wX_offerInner_73 post (wX_offerInner_17 post (nI i) (nI j) (nI k) own n) (nI i) (nI j) (nI k) own (nI l) (nI (12 * k + l)) gap size fo fs s b a a1 a2 a3 a4 a5 a6 a7 a8 a9 a10 a11 a12 := by
            intro hn2
            refine br_t rfl (off _ ?_)
            have e : rf_C a1 a4 (i, j, rf_ty i j k l) = rf_ow a1 a4 i j - (a4 4).toInt := by
              unfold rf_ty
              rw [if_neg hn2]
              rfl
            rw [e, Int32.ofInt_sub, Int32.ofInt_toInt, hown]
            grind
          refine br_f (by decide) (pk_eq k (i + 1) (fun g1 => pk_eq l (j - 1) (fun g2 => br_f (by decide) (off _ ?_)) (fun g2 => o2 (fun w => g2 (by omega))) rfl (rf_pred (by omega))) (fun g1 => o2 (fun w => g1 w.1)) rfl (nI_1 i))
          have e : rf_C a1 a4 (i, j, rf_ty i j k l) = rf_ow a1 a4 i j + (a4 3).toInt := by
            unfold rf_ty
            rw [if_pos ⟨g1, by omega⟩]
            rfl
          rw [e, Int32.ofInt_add, Int32.ofInt_toInt, hown]
theorem rf_offerInner {post : St2 → Prop} {i j k : Nat} {own : Int32} (hik : i < k) (hkj : k < j) (hj : j < 6) (ht : ∀ k, k < 6 → 0 ≤ (a4 k).toInt ∧ (a4 k).toInt ≤ 20)
    (hown : own = Int32.ofInt (rf_ow a1 a4 i j)) (hmp : rf_mp gap fo fs a1 a3 i j = true) {F : List rf_Fo} (hB : rf_B (F ++ rf_sI rf_T i j k))
    (hP : ∀ l, k < l → l < j → rf_R (rf_L (rf_V gap fo fs a1 a3) (rf_C a1 a4) (rf_T 3 k l)) (a5 (12 * k + l)) (a6 (12 * k + l)) (a7 (12 * k + l)))
    (hR : rf_R (rf_L (rf_V gap fo fs a1 a3) (rf_C a1 a4) F) s b a)
    (H : ∀ s' b' a', rf_R (rf_L (rf_V gap fo fs a1 a3) (rf_C a1 a4) (F ++ rf_sI rf_T i j k)) s' b' a' → post (gap, size, fo, fs, s', b', a', a1, a2, a3, a4, a5, a6, a7, a8, a9, a10, a11, a12)) :
    wpX_offerInner post (gap, size, fo, fs, s, b, a, a1, a2, a3, a4, a5, a6, a7, a8, a9, a10, a11, a12) (nI i) (nI j) (nI k) own := by
  unfold wpX_offerInner
  refine rf_isFree (i := i + 1) (by omega) (by omega) (nI_1 i) ?_
  cases hf : (rf_fr (i + 1) k).all (rf_V gap fo fs a1 a3)
  · refine br_t rfl (H s b a ?_)
    have e : rf_L (rf_V gap fo fs a1 a3) (rf_C a1 a4) (rf_sI rf_T i j k) = [] := by
      apply rf_L_none
      intro f hf2
      obtain ⟨l, _, h3⟩ := List.mem_flatMap.mp hf2
      obtain ⟨g, _, e⟩ := List.mem_map.mp h3
      rw [← e, List.all_append, List.all_cons, List.all_append, hf]
      simp
    rw [rf_L_app, e, List.append_nil]
    exact hR
  · refine br_f (by decide) (nm_r (nI_1 k) ⟨j - (k + 1) + 1, rf_oI17 hik hkj hj ht hown hmp hf hB hP H _ (k + 1) s b a (by omega) (by omega) (by omega) ?_⟩)
    have e : F ++ (List.range' (k + 1) (k + 1 - (k + 1))).flatMap (rf_gI i j k) = F := by
      rw [Nat.sub_self]
      exact List.append_nil F
    rw [e]
    exact hR
theorem rf_sp148 {post : St2 → Prop} {i j : Nat} (hi : i < 6) (hj : j < 6)
    (H : post (gap, size, fo, fs, s, b, a, a1, a2, a3, a4, upd a5 (12 * i + j) s, upd a6 (12 * i + j) b, upd a7 (12 * i + j) a, a8, a9, a10, a11, a12)) :
    wX_solvePair_148 post (nI i) (nI j) gap size fo fs s b a a1 a2 a3 a4 a5 a6 a7 a8 a9 a10 a11 a12 := by
  unfold wX_solvePair_148
  rw [rf_i2, nI_clamp (show 12 * i + j < 2 ^ 31 by omega)]
  exact ⟨pk_in (12 * i + j) 144 (by omega), nm_e ⟨pk_in (12 * i + j) 144 (by omega), nm_e ⟨pk_in (12 * i + j) 144 (by omega), nm_e H⟩⟩⟩
theorem rf_sp79 {post : St2 → Prop} {i j : Nat} {own : Int32} (hij : i < j) (hj : j < 6) (ht : ∀ k, k < 6 → 0 ≤ (a4 k).toInt ∧ (a4 k).toInt ≤ 20)
    (hown : own = Int32.ofInt (rf_ow a1 a4 i j)) (hmp : rf_mp gap fo fs a1 a3 i j = true)
    (hP : ∀ k l, i < k → k < l → l < j → rf_R (rf_L (rf_V gap fo fs a1 a3) (rf_C a1 a4) (rf_T 3 k l)) (a5 (12 * k + l)) (a6 (12 * k + l)) (a7 (12 * k + l)))
    (hA : rf_R (rf_L (rf_V gap fo fs a1 a3) (rf_C a1 a4) (rf_T 2 (i + 1) j)) (a8 (288 + 12 * (i + 1) + j)) (a9 (288 + 12 * (i + 1) + j)) (a10 (288 + 12 * (i + 1) + j)))
    (H : ∀ s' b' a', rf_R (rf_L (rf_V gap fo fs a1 a3) (rf_C a1 a4) (rf_T 3 i j)) s' b' a' → post (gap, size, fo, fs, s', b', a', a1, a2, a3, a4, upd a5 (12 * i + j) s', upd a6 (12 * i + j) b', upd a7 (12 * i + j) a', a8, a9, a10, a11, a12))
    (n : Nat) : ∀ (k : Nat) (s b a : Int32), i < k → k ≤ j → j - k < n → rf_R (rf_L (rf_V gap fo fs a1 a3) (rf_C a1 a4) ([(i, j, 0) :: rf_fr (i + 1) j] ++ (List.range' (i + 1) (k - (i + 1))).flatMap (rf_sI rf_T i j))) s b a →
      wX_solvePair_79 post (nI i) (nI j) own n (nI k) gap size fo fs s b a a1 a2 a3 a4 a5 a6 a7 a8 a9 a10 a11 a12 := by
  have hT : rf_T 3 i j = ([(i, j, 0) :: rf_fr (i + 1) j] ++ (List.range' (i + 1) (j - (i + 1))).flatMap (rf_sI rf_T i j)) ++ (rf_T 2 (i + 1) j).map (fun f => [(i, j, 3)] ++ f) := by
    rw [rf_eqP j hj i (by omega)]
    exact if_pos hij
  have hB := rf_bP (Nat.le_of_lt hij) hj
  rw [hT] at hB H
  induction n with
  | zero => intro k s b a _ _ h; omega
  | succ n ih =>
    intro k s b a hik hkj hn hR
    refine pk_le j k (fun z => ?_) (fun z => ?_)
    · have e : k = j := by omega
      rw [e] at hR
      have e8 : (288 : Int32) + 12 * (nI i + 1) + nI j = nI (288 + 12 * (i + 1) + j) := by
        rw [nI_1, show (288 : Int32) = nI 288 from rfl, show (12 : Int32) = nI 12 from rfl, pk_mul, nI_add, nI_add]
      refine nm_r e8 ⟨pk_in (288 + 12 * (i + 1) + j) 432 (by omega), pk_in (288 + 12 * (i + 1) + j) 432 (by omega), pk_in (288 + 12 * (i + 1) + j) 432 (by omega), ?_⟩
      rw [nI_clamp (show 288 + 12 * (i + 1) + j < 2 ^ 31 by omega)]
      refine rf_offerF (rf_C_b ht) hR (G := (rf_T 2 (i + 1) j).map (fun f => [(i, j, 3)] ++ f)) ?_ hB (fun s' b' a' h => rf_sp148 (by omega) hj (H s' b' a' h))
      have e3 : ([(i, j, 3)] : rf_Fo).all (rf_V gap fo fs a1 a3) = true := by
        rw [List.all_cons, rf_V_p _ _ _ _ _ _ _ _ (by omega), hmp]
        rfl
      have e5 : rf_sc (rf_C a1 a4) [(i, j, 3)] = rf_ow a1 a4 i j - (a4 5).toInt := by
        show rf_ow a1 a4 i j - (a4 5).toInt + 0 = _
        omega
      rw [rf_L_pre, if_pos e3, hown, show Int32.ofInt (rf_ow a1 a4 i j) - a4 5 = Int32.ofInt (rf_sc (rf_C a1 a4) [(i, j, 3)]) by rw [e5, Int32.ofInt_sub, Int32.ofInt_toInt]]
      exact rf_R_sh _ hA
    · have hs := rf_fs (rf_sI rf_T i j) (i + 1) k (by omega)
      have hB' : rf_B (([(i, j, 0) :: rf_fr (i + 1) j] ++ (List.range' (i + 1) (k - (i + 1))).flatMap (rf_sI rf_T i j)) ++ rf_sI rf_T i j k) := by
        obtain ⟨R, hR2⟩ := rf_fm (α := Nat) (rf_sI rf_T i j) (i + 1) (k + 1 - (i + 1)) (j - (i + 1)) (by omega)
        have h2 := rf_B_l hB
        rw [hR2, hs, ← List.append_assoc, ← List.append_assoc] at h2
        exact rf_B_l h2
      refine rf_offerInner hik z hj ht hown hmp hB' (fun l h1 h2 => hP k l hik h1 h2) hR (fun s' b' a' h => nm_r (nI_1 k) (ih (k + 1) s' b' a' (by omega) (by omega) (by omega) ?_))
      rw [hs, ← List.append_assoc]
      exact h
theorem rf_clear {post : St2 → Prop} (H : post (gap, size, fo, fs, -1000, 0, 0, a1, a2, a3, a4, a5, a6, a7, a8, a9, a10, a11, a12)) :
    wpX_clear post (gap, size, fo, fs, s, b, a, a1, a2, a3, a4, a5, a6, a7, a8, a9, a10, a11, a12) := H
theorem rf_solvePair {post : St2 → Prop} {x : Int32} {i j : Nat} (hij : i ≤ j) (hj : j < 6) (hx : x = nI j) (ht : ∀ k, k < 6 → 0 ≤ (a4 k).toInt ∧ (a4 k).toInt ≤ 20)
    (hP : ∀ k l, i < k → k < l → l < j → rf_R (rf_L (rf_V gap fo fs a1 a3) (rf_C a1 a4) (rf_T 3 k l)) (a5 (12 * k + l)) (a6 (12 * k + l)) (a7 (12 * k + l)))
    (hA : i < j → rf_R (rf_L (rf_V gap fo fs a1 a3) (rf_C a1 a4) (rf_T 2 (i + 1) j)) (a8 (288 + 12 * (i + 1) + j)) (a9 (288 + 12 * (i + 1) + j)) (a10 (288 + 12 * (i + 1) + j)))
    (H : ∀ s' b' a', rf_R (rf_L (rf_V gap fo fs a1 a3) (rf_C a1 a4) (rf_T 3 i j)) s' b' a' → post (gap, size, fo, fs, s', b', a', a1, a2, a3, a4, upd a5 (12 * i + j) s', upd a6 (12 * i + j) b', upd a7 (12 * i + j) a', a8, a9, a10, a11, a12)) :
    wpX_solvePair post (gap, size, fo, fs, s, b, a, a1, a2, a3, a4, a5, a6, a7, a8, a9, a10, a11, a12) (nI i) x := by
  rw [hx]
  have nil : rf_L (rf_V gap fo fs a1 a3) (rf_C a1 a4) (rf_T 3 i j) = [] → wX_solvePair_148 post (nI i) (nI j) gap size fo fs (-1000) 0 0 a1 a2 a3 a4 a5 a6 a7 a8 a9 a10 a11 a12 := by
    intro e
    refine rf_sp148 (by omega) hj (H _ _ _ ?_)
    rw [e]
    exact rf_R_nil _
  unfold wpX_solvePair
  refine rf_clear ?_
  refine pk_le j i (fun z => nil ?_) (fun z => rf_mayPair (by omega) (by omega) ?_)
  · rw [rf_eqP j hj i (by omega)]
    unfold rf_sP
    rw [if_neg (by omega)]
    rfl
  · cases hmp : rf_mp gap fo fs a1 a3 i j
    · refine br_t rfl (nil ?_)
      rw [rf_eqP j hj i (by omega)]
      unfold rf_sP
      rw [if_pos z]
      apply rf_L_none
      intro f hf
      have hv : ∀ k, ¬ k = 4 → ∀ g : rf_Fo, List.all ((i, j, k) :: g) (rf_V gap fo fs a1 a3) = false := by
        intro k hk g
        rw [List.all_cons, rf_V_p _ _ _ _ _ _ _ _ hk, hmp]
        rfl
      rcases List.mem_append.mp hf with h | h
      · rcases List.mem_append.mp h with h | h
        · rw [List.mem_singleton.mp h]
          exact hv 0 (by omega) _
        · obtain ⟨k, _, h3⟩ := List.mem_flatMap.mp h
          obtain ⟨l, _, h4⟩ := List.mem_flatMap.mp h3
          obtain ⟨g, _, e⟩ := List.mem_map.mp h4
          rw [← e]
          exact hv _ (rf_ty_4 i j k l) _
      · obtain ⟨g, _, e⟩ := List.mem_map.mp h
        rw [← e]
        exact hv 3 (by omega) _
    · refine br_f (by decide) ⟨pk_in i 11 (by omega), pk_in j 11 (by omega), ?_⟩
      rw [nI_clamp (show i < 2 ^ 31 by omega), nI_clamp (show j < 2 ^ 31 by omega)]
      have hk : ¬ rf_kd (a1 i) (a1 j) < 0 := by
        unfold rf_mp rf_fit at hmp
        simp only [Bool.and_eq_true, decide_eq_true_eq] at hmp
        exact hmp.2.2.2.2
      obtain ⟨k, hk3, ek⟩ := rf_kd_n hk
      have hown : a4 k = Int32.ofInt (rf_ow a1 a4 i j) := by
        unfold rf_ow
        rw [ek, nI_clamp (by omega), Int32.ofInt_toInt]
      refine rf_kindOf ?_
      rw [ek]
      refine ⟨pk_in k 6 (by omega), ?_⟩
      rw [nI_clamp (show k < 2 ^ 31 by omega)]
      refine nm_e (rf_isFree (i := i + 1) (by omega) (by omega) (nI_1 i) ?_)
      have main : ∀ o : Bool, (rf_fr (i + 1) j).all (rf_V gap fo fs a1 a3) = o → wX_solvePair_71 post (nI i) (nI j) (a4 k) (rf_bi o) (rf_bi o) (a4 k) gap size fo fs (-1000) 0 0 a1 a2 a3 a4 a5 a6 a7 a8 a9 a10 a11 a12 := by
        intro o ho
        have hT : rf_T 3 i j = ([(i, j, 0) :: rf_fr (i + 1) j] ++ (List.range' (i + 1) (j - (i + 1))).flatMap (rf_sI rf_T i j)) ++ (rf_T 2 (i + 1) j).map (fun f => [(i, j, 3)] ++ f) := by
          rw [rf_eqP j hj i (by omega)]
          exact if_pos z
        have hB := rf_bP (Nat.le_of_lt z) hj
        rw [hT] at hB
        have hBh : rf_B ([] ++ [(i, j, 0) :: rf_fr (i + 1) j]) := rf_B_l (rf_B_l hB)
        refine rf_offerF (V := rf_V gap fo fs a1 a3) (C := rf_C a1 a4) (rf_C_b ht) (rf_R_nil _) (F := []) (G := [(i, j, 0) :: rf_fr (i + 1) j]) ?_ hBh (fun s' b' a' h => nm_r (nI_1 i) ⟨j - (i + 1) + 1, rf_sp79 z hj ht hown hmp hP (hA z) H _ (i + 1) s' b' a' (by omega) (by omega) (by omega) ?_⟩)
        · have ec : rf_sc (rf_C a1 a4) ((i, j, 0) :: rf_fr (i + 1) j) = rf_ow a1 a4 i j := by
            rw [rf_sc, rf_sc_fr]
            show rf_ow a1 a4 i j + 0 = _
            omega
          rw [rf_L_cons, List.all_cons, rf_V_p _ _ _ _ _ _ _ _ (show ¬ (0 : Nat) = 4 by omega), hmp, ho, ec, hown]
          cases o
          · exact rf_R_nil _
          · exact rf_R_one _
        · have e : [(i, j, 0) :: rf_fr (i + 1) j] ++ (List.range' (i + 1) (i + 1 - (i + 1))).flatMap (rf_sI rf_T i j) = [] ++ [(i, j, 0) :: rf_fr (i + 1) j] := by
            rw [Nat.sub_self]
            rfl
          rw [e]
          exact h
      cases ho : (rf_fr (i + 1) j).all (rf_V gap fo fs a1 a3)
      · exact br_t rfl (br_t rfl (main false ho))
      · exact br_f (by decide) (br_f (by decide) (main true ho))
end
end
section
/-! solveAny, solve -/
section
variable {gap size fo fs s b a : Int32} {a1 a2 a3 a4 a5 a6 a7 a8 a9 a10 a11 a12 : Nat → Int32}
theorem rf_mayBeFree {post : Int32 → Prop} {i : Nat} (hi : i < 11) (H : post (rf_bi (rf_V gap fo fs a1 a3 (i, i, 4)))) :
    wpX_mayBeFree post (gap, size, fo, fs, s, b, a, a1, a2, a3, a4, a5, a6, a7, a8, a9, a10, a11, a12) (nI i) := by
  have e : rf_V gap fo fs a1 a3 (i, i, 4) = decide (¬ 1 < a3 i) := rfl
  refine ⟨pk_in i 11 hi, ?_⟩
  rw [nI_clamp (show i < 2 ^ 31 by omega)]
  refine br_c (fun h => ?_) (fun h => ?_)
  · rw [e, decide_eq_false (not_not_intro h)] at H
    exact H
  · rw [e, decide_eq_true h] at H
    exact H
theorem rf_sa191 {post : St2 → Prop} {l i j : Nat} (hl : l < 3) (hi : i < 7) (hj : j < 7)
    (H : post (gap, size, fo, fs, s, b, a, a1, a2, a3, a4, a5, a6, a7, upd a8 (144 * l + 12 * i + j) s, upd a9 (144 * l + 12 * i + j) b, upd a10 (144 * l + 12 * i + j) a, a11, a12)) :
    wX_solveAny_191 post (nI i) (nI j) (nI l) gap size fo fs s b a a1 a2 a3 a4 a5 a6 a7 a8 a9 a10 a11 a12 := by
  unfold wX_solveAny_191
  refine nm_r (rf_i3 l i j) ?_
  rw [nI_clamp (show 144 * l + 12 * i + j < 2 ^ 31 by omega)]
  exact ⟨pk_in (144 * l + 12 * i + j) 432 (by omega), nm_e ⟨pk_in (144 * l + 12 * i + j) 432 (by omega), nm_e ⟨pk_in (144 * l + 12 * i + j) 432 (by omega), nm_e H⟩⟩⟩
theorem rf_sa99 {post : St2 → Prop} {l i j : Nat} (hl : l < 3) (hij : i < j) (hj : j ≤ 6) (ht : ∀ k, k < 6 → 0 ≤ (a4 k).toInt ∧ (a4 k).toInt ≤ 20)
    (hP : ∀ k, i < k → k < j → rf_R (rf_L (rf_V gap fo fs a1 a3) (rf_C a1 a4) (rf_T 3 i k)) (a5 (12 * i + k)) (a6 (12 * i + k)) (a7 (12 * i + k)))
    (hA : ∀ l' k, l' < 3 → i < k → k ≤ j → rf_R (rf_L (rf_V gap fo fs a1 a3) (rf_C a1 a4) (rf_T l' k j)) (a8 (144 * l' + 12 * k + j)) (a9 (144 * l' + 12 * k + j)) (a10 (144 * l' + 12 * k + j)))
    (H : ∀ s' b' a', rf_R (rf_L (rf_V gap fo fs a1 a3) (rf_C a1 a4) (rf_T l i j)) s' b' a' → post (gap, size, fo, fs, s', b', a', a1, a2, a3, a4, a5, a6, a7, upd a8 (144 * l + 12 * i + j) s', upd a9 (144 * l + 12 * i + j) b', upd a10 (144 * l + 12 * i + j) a', a11, a12))
    (n : Nat) : ∀ (k : Nat) (s b a : Int32), i < k → k ≤ j → j - k < n → rf_R (rf_L (rf_V gap fo fs a1 a3) (rf_C a1 a4) ((rf_T l (i + 1) j).map (fun f => [(i, i, 4)] ++ f) ++ (List.range' (i + 1) (k - (i + 1))).flatMap (fun k => rf_pr (rf_T 3 i k) (rf_T (l - 1) (k + 1) j)))) s b a →
      wX_solveAny_99 post (nI i) (nI j) (nI l) (nI (l - 1)) n (nI k) gap size fo fs s b a a1 a2 a3 a4 a5 a6 a7 a8 a9 a10 a11 a12 := by
  have hT : rf_T l i j = (rf_T l (i + 1) j).map (fun f => [(i, i, 4)] ++ f) ++ (List.range' (i + 1) (j - (i + 1))).flatMap (fun k => rf_pr (rf_T 3 i k) (rf_T (l - 1) (k + 1) j)) := by
    rw [rf_eqA l hl j (by omega) i (by omega)]
    exact if_neg (by omega)
  have hB := rf_bT hl (Nat.le_of_lt hij) hj
  rw [hT] at hB H
  induction n with
  | zero => intro k s b a _ _ h; omega
  | succ n ih =>
    intro k s b a hik hkj hn hR
    refine pk_le j k (fun z => ?_) (fun z => ?_)
    · have e : k = j := by omega
      rw [e] at hR
      exact rf_sa191 hl (by omega) (by omega) (H s b a hR)
    · have hs := rf_fs (fun k => rf_pr (rf_T 3 i k) (rf_T (l - 1) (k + 1) j)) (i + 1) k (by omega)
      have hB' : rf_B (((rf_T l (i + 1) j).map (fun f => [(i, i, 4)] ++ f) ++ (List.range' (i + 1) (k - (i + 1))).flatMap (fun k => rf_pr (rf_T 3 i k) (rf_T (l - 1) (k + 1) j))) ++ rf_pr (rf_T 3 i k) (rf_T (l - 1) (k + 1) j)) := by
        obtain ⟨R, hR2⟩ := rf_fm (α := Nat) (fun k => rf_pr (rf_T 3 i k) (rf_T (l - 1) (k + 1) j)) (i + 1) (k + 1 - (i + 1)) (j - (i + 1)) (by omega)
        rw [hR2, hs, ← List.append_assoc, ← List.append_assoc] at hB
        exact rf_B_l hB
      have e7 : (144 : Int32) * nI (l - 1) + 12 * (nI k + 1) + nI j = nI (144 * (l - 1) + 12 * (k + 1) + j) := by
        rw [nI_1, rf_i3]
      have i6 : vp_in (nI (12 * i + k)) 144 := pk_in (12 * i + k) 144 (by omega)
      have i7 : vp_in (nI (144 * (l - 1) + 12 * (k + 1) + j)) 432 := pk_in (144 * (l - 1) + 12 * (k + 1) + j) 432 (by omega)
      refine nm_r (rf_i2 i k) (nm_r e7 ⟨i6, i7, nm_e ⟨i6, i7, i6, i7, ?_⟩⟩)
      rw [nI_clamp (show 12 * i + k < 2 ^ 31 by omega), nI_clamp (show 144 * (l - 1) + 12 * (k + 1) + j < 2 ^ 31 by omega)]
      refine rf_offerF (rf_C_b ht) hR (G := rf_pr (rf_T 3 i k) (rf_T (l - 1) (k + 1) j)) ?_ hB' (fun s' b' a' h => nm_r (nI_1 k) (ih (k + 1) s' b' a' (by omega) (by omega) (by omega) ?_))
      · rw [rf_L_pr]
        exact rf_R_pi (hP k hik z) (hA (l - 1) (k + 1) (by omega) (by omega) (by omega))
      · rw [hs, ← List.append_assoc]
        exact h
theorem rf_sa81 {post : St2 → Prop} {l i j : Nat} (hl : l < 3) (hij : i < j) (hj : j ≤ 6) (ht : ∀ k, k < 6 → 0 ≤ (a4 k).toInt ∧ (a4 k).toInt ≤ 20)
    (hP : ∀ k, i < k → k < j → rf_R (rf_L (rf_V gap fo fs a1 a3) (rf_C a1 a4) (rf_T 3 i k)) (a5 (12 * i + k)) (a6 (12 * i + k)) (a7 (12 * i + k)))
    (hA : ∀ l' k, l' < 3 → i < k → k ≤ j → rf_R (rf_L (rf_V gap fo fs a1 a3) (rf_C a1 a4) (rf_T l' k j)) (a8 (144 * l' + 12 * k + j)) (a9 (144 * l' + 12 * k + j)) (a10 (144 * l' + 12 * k + j)))
    (H : ∀ s' b' a', rf_R (rf_L (rf_V gap fo fs a1 a3) (rf_C a1 a4) (rf_T l i j)) s' b' a' → post (gap, size, fo, fs, s', b', a', a1, a2, a3, a4, a5, a6, a7, upd a8 (144 * l + 12 * i + j) s', upd a9 (144 * l + 12 * i + j) b', upd a10 (144 * l + 12 * i + j) a', a11, a12))
    (hR : rf_R (rf_L (rf_V gap fo fs a1 a3) (rf_C a1 a4) ((rf_T l (i + 1) j).map (fun f => [(i, i, 4)] ++ f))) s b a) :
    wX_solveAny_81 post (nI i) (nI j) (nI l) gap size fo fs s b a a1 a2 a3 a4 a5 a6 a7 a8 a9 a10 a11 a12 := by
  have main := rf_sa99 hl hij hj ht hP hA H (j - (i + 1) + 1) (i + 1) s b a (by omega) (by omega) (by omega) (by
    rw [Nat.sub_self]
    show rf_R (rf_L _ _ (_ ++ [])) s b a
    rw [List.append_nil]
    exact hR)
  unfold wX_solveAny_81
  refine pk_le l 0 (fun z => nm_r (nI_1 i) ⟨j - (i + 1) + 1, ?_⟩) (fun z => nm_r (rf_pred z) (nm_r (nI_1 i) ⟨j - (i + 1) + 1, main⟩))
  rw [show l - 1 = 0 by omega] at main
  exact main
theorem rf_solveAny {post : St2 → Prop} {x : Int32} {l i j : Nat} (hl : l < 3) (hij : i ≤ j) (hj : j ≤ 6) (hx : x = nI j) (ht : ∀ k, k < 6 → 0 ≤ (a4 k).toInt ∧ (a4 k).toInt ≤ 20)
    (hP : ∀ k, i < k → k < j → rf_R (rf_L (rf_V gap fo fs a1 a3) (rf_C a1 a4) (rf_T 3 i k)) (a5 (12 * i + k)) (a6 (12 * i + k)) (a7 (12 * i + k)))
    (hA : ∀ l' k, l' < 3 → i < k → k ≤ j → rf_R (rf_L (rf_V gap fo fs a1 a3) (rf_C a1 a4) (rf_T l' k j)) (a8 (144 * l' + 12 * k + j)) (a9 (144 * l' + 12 * k + j)) (a10 (144 * l' + 12 * k + j)))
    (H : ∀ s' b' a', rf_R (rf_L (rf_V gap fo fs a1 a3) (rf_C a1 a4) (rf_T l i j)) s' b' a' → post (gap, size, fo, fs, s', b', a', a1, a2, a3, a4, a5, a6, a7, upd a8 (144 * l + 12 * i + j) s', upd a9 (144 * l + 12 * i + j) b', upd a10 (144 * l + 12 * i + j) a', a11, a12)) :
    wpX_solveAny post (gap, size, fo, fs, s, b, a, a1, a2, a3, a4, a5, a6, a7, a8, a9, a10, a11, a12) (nI i) x (nI l) := by
  rw [hx]
  unfold wpX_solveAny
  refine rf_clear ?_
  refine pk_eq i j (fun z => ?_) (fun z => rf_mayBeFree (by omega) ?_)
  · have hT : rf_T l i j = if l = 0 then [[]] else [] := by
      rw [rf_eqA l hl j (by omega) i (by omega)]
      exact if_pos z
    rw [hT] at H
    refine pk_eq l 0 (fun g => ?_) (fun g => ?_)
    · rw [if_pos g] at H
      refine rf_offerF (V := rf_V gap fo fs a1 a3) (C := rf_C a1 a4) (rf_C_b ht) (rf_R_nil _) (F := []) (G := [[]]) (rf_R_one 0) ⟨by decide, fun f hf => ?_⟩ (fun s' b' a' h => rf_sa191 hl (by omega) (by omega) (H s' b' a' h))
      rw [List.mem_singleton.mp hf]
      decide
    · rw [if_neg g] at H
      exact rf_offerF (V := rf_V gap fo fs a1 a3) (C := rf_C a1 a4) (rf_C_b ht) (rf_R_nil _) (F := []) (G := []) (rf_R_nil _) ⟨by decide, fun f hf => absurd hf (by simp)⟩ (fun s' b' a' h => rf_sa191 hl (by omega) (by omega) (H s' b' a' h))
  · have hlt : i < j := by omega
    have hpre : rf_L (rf_V gap fo fs a1 a3) (rf_C a1 a4) ((rf_T l (i + 1) j).map (fun f => [(i, i, 4)] ++ f)) = if rf_V gap fo fs a1 a3 (i, i, 4) then (rf_L (rf_V gap fo fs a1 a3) (rf_C a1 a4) (rf_T l (i + 1) j)).map (fun y => 0 + y) else [] := by
      rw [rf_L_pre, List.all_cons, List.all_nil, Bool.and_true]
      rfl
    cases hv : rf_V gap fo fs a1 a3 (i, i, 4)
    · refine br_t rfl (rf_sa81 hl hlt hj ht hP hA H ?_)
      rw [hpre, hv]
      exact rf_R_nil _
    · rw [hv, if_pos rfl] at hpre
      have e4 : (144 : Int32) * nI l + 12 * (nI i + 1) + nI j = nI (144 * l + 12 * (i + 1) + j) := by
        rw [nI_1, rf_i3]
      have i4 : vp_in (nI (144 * l + 12 * (i + 1) + j)) 432 := pk_in (144 * l + 12 * (i + 1) + j) 432 (by omega)
      refine br_f (by decide) (nm_r e4 ⟨i4, i4, i4, ?_⟩)
      rw [nI_clamp (show 144 * l + 12 * (i + 1) + j < 2 ^ 31 by omega)]
      have hB : rf_B ([] ++ (rf_T l (i + 1) j).map (fun f => [(i, i, 4)] ++ f)) := by
        have hB := rf_bT hl hij hj
        rw [rf_eqA l hl j (by omega) i (by omega)] at hB
        unfold rf_sA at hB
        rw [if_neg z] at hB
        exact rf_B_l hB
      refine rf_offerF (V := rf_V gap fo fs a1 a3) (C := rf_C a1 a4) (rf_C_b ht) (rf_R_nil _) (F := []) (G := (rf_T l (i + 1) j).map (fun f => [(i, i, 4)] ++ f)) ?_ hB (fun s' b' a' h => rf_sa81 hl hlt hj ht hP hA H h)
      rw [hpre]
      have := rf_R_sh 0 (hA l (i + 1) hl (by omega) (by omega))
      rw [show Int32.ofInt 0 = 0 from rfl, Int32.zero_add] at this
      exact this
/-- what of the tables is right: in width w, before place i (and there before least t) -/
def rf_okP (V : rf_At → Bool) (C : rf_At → Int) (a5 a6 a7 : Nat → Int32) (w i : Nat) : Prop :=
  ∀ i' j', i' ≤ j' → j' < 6 → (j' + 1 < w + i' ∨ (j' + 1 = w + i' ∧ i' < i)) → rf_R (rf_L V C (rf_T 3 i' j')) (a5 (12 * i' + j')) (a6 (12 * i' + j')) (a7 (12 * i' + j'))
def rf_okA (V : rf_At → Bool) (C : rf_At → Int) (a8 a9 a10 : Nat → Int32) (w i t : Nat) : Prop :=
  ∀ l i' j', l < 3 → i' ≤ j' → j' ≤ 6 → (j' < w + i' ∨ (j' = w + i' ∧ (i' < i ∨ (i' = i ∧ l < t)))) → rf_R (rf_L V C (rf_T l i' j')) (a8 (144 * l + 12 * i' + j')) (a9 (144 * l + 12 * i' + j')) (a10 (144 * l + 12 * i' + j'))
theorem rf_inj3 {l i j l' i' j' : Nat} (hi : i ≤ 6) (hj : j ≤ 6) (hi' : i' ≤ 6) (hj' : j' ≤ 6) (h : 144 * l + 12 * i + j = 144 * l' + 12 * i' + j') : l = l' ∧ i = i' ∧ j = j' := by
  have h1 : l = l' := by omega
  subst h1
  have h2 : i = i' := by omega
  subst h2
  exact ⟨rfl, rfl, by omega⟩
theorem rf_s38 {post : St2 → Prop} {J2 J12 : Int32 → Int32 → Int32 → Int32 → Int32 → Int32 → Int32 → Int32 → (Nat → Int32) → (Nat → Int32) → (Nat → Int32) → (Nat → Int32) → (Nat → Int32) → (Nat → Int32) → (Nat → Int32) → (Nat → Int32) → (Nat → Int32) → (Nat → Int32) → (Nat → Int32) → (Nat → Int32) → Prop} {w i : Nat} (hw : i + w ≤ 6) (ht : ∀ k, k < 6 → 0 ≤ (a4 k).toInt ∧ (a4 k).toInt ≤ 20)
    (hP : rf_okP (rf_V gap fo fs a1 a3) (rf_C a1 a4) a5 a6 a7 w (i + 1))
    (H : ∀ s b a a8 a9 a10, rf_okA (rf_V gap fo fs a1 a3) (rf_C a1 a4) a8 a9 a10 w (i + 1) 0 → J12 (nI (i + 1)) gap size fo fs s b a a1 a2 a3 a4 a5 a6 a7 a8 a9 a10 a11 a12)
    (n : Nat) : ∀ (t : Nat) (s b a : Int32) (a8 a9 a10 : Nat → Int32), t ≤ 3 → 3 - t < n → rf_okA (rf_V gap fo fs a1 a3) (rf_C a1 a4) a8 a9 a10 w i t →
      wX_solve_38 post J2 J12 (nI w) (nI i) n (nI t) gap size fo fs s b a a1 a2 a3 a4 a5 a6 a7 a8 a9 a10 a11 a12 := by
  induction n with
  | zero => intro t s b a a8 a9 a10 _ h; omega
  | succ n ih =>
    intro t s b a a8 a9 a10 ht3 hn hA
    refine pk_le 3 t (fun z => nm_r (nI_1 i) (H _ _ _ _ _ _ ?_)) (fun z => ?_)
    · intro l i' j' h1 h2 h3 h4
      exact hA l i' j' h1 h2 h3 (by omega)
    · refine rf_solveAny (l := t) (i := i) (j := i + w) (by omega) (by omega) hw (nI_add i w) ht (fun k h1 h2 => hP i k (by omega) (by omega) (by omega)) (fun l' k h1 h2 h3 => hA l' k (i + w) h1 h3 hw (by omega)) (fun s' b' a' h => nm_r (nI_1 t) (ih (t + 1) s' b' a' _ _ _ (by omega) (by omega) ?_))
      intro l i' j' h1 h2 h3 h4
      by_cases e : l = t ∧ i' = i ∧ j' = i + w
      · obtain ⟨rfl, rfl, rfl⟩ := e
        rw [pk_us, pk_us, pk_us]
        exact h
      · have hne : 144 * l + 12 * i' + j' ≠ 144 * t + 12 * i + (i + w) := fun q => e (rf_inj3 (by omega) h3 (by omega) hw q)
        rw [pk_un hne, pk_un hne, pk_un hne]
        exact hA l i' j' h1 h2 h3 (by omega)
theorem rf_s12 {post : St2 → Prop} {J2 : Int32 → Int32 → Int32 → Int32 → Int32 → Int32 → Int32 → Int32 → (Nat → Int32) → (Nat → Int32) → (Nat → Int32) → (Nat → Int32) → (Nat → Int32) → (Nat → Int32) → (Nat → Int32) → (Nat → Int32) → (Nat → Int32) → (Nat → Int32) → (Nat → Int32) → (Nat → Int32) → Prop} {w : Nat} (hw : w ≤ 6) (ht : ∀ k, k < 6 → 0 ≤ (a4 k).toInt ∧ (a4 k).toInt ≤ 20)
    (H : ∀ s b a a5 a6 a7 a8 a9 a10, rf_okP (rf_V gap fo fs a1 a3) (rf_C a1 a4) a5 a6 a7 (w + 1) 0 → rf_okA (rf_V gap fo fs a1 a3) (rf_C a1 a4) a8 a9 a10 (w + 1) 0 0 → J2 (nI (w + 1)) gap (nI 6) fo fs s b a a1 a2 a3 a4 a5 a6 a7 a8 a9 a10 a11 a12)
    (n : Nat) : ∀ (i : Nat) (s b a : Int32) (a5 a6 a7 a8 a9 a10 : Nat → Int32), i + w ≤ 7 → 7 - (i + w) < n → rf_okP (rf_V gap fo fs a1 a3) (rf_C a1 a4) a5 a6 a7 w i → rf_okA (rf_V gap fo fs a1 a3) (rf_C a1 a4) a8 a9 a10 w i 0 →
      wX_solve_12 post J2 (nI w) n (nI i) gap (nI 6) fo fs s b a a1 a2 a3 a4 a5 a6 a7 a8 a9 a10 a11 a12 := by
  induction n with
  | zero => intro i s b a a5 a6 a7 a8 a9 a10 _ h; omega
  | succ n ih =>
    intro i s b a a5 a6 a7 a8 a9 a10 hi7 hn hP hA
    refine pk_lt 6 (i + w) (fun z => nm_r (nI_1 w) (H _ _ _ _ _ _ _ _ _ ?_ ?_)) (fun z => ?_) rfl (nI_add i w)
    · intro i' j' h1 h2 h3
      exact hP i' j' h1 h2 (by omega)
    · intro l i' j' h1 h2 h3 h4
      exact hA l i' j' h1 h2 h3 (by omega)
    · have nx : ∀ s b a a5 a6 a7, rf_okP (rf_V gap fo fs a1 a3) (rf_C a1 a4) a5 a6 a7 w (i + 1) → ∃ fu, wX_solve_38 post J2 (wX_solve_12 post J2 (nI w) n) (nI w) (nI i) fu 0 gap (nI 6) fo fs s b a a1 a2 a3 a4 a5 a6 a7 a8 a9 a10 a11 a12 := by
        intro s b a a5 a6 a7 hP'
        exact ⟨4, rf_s38 z ht hP' (fun s b a a8 a9 a10 h => ih (i + 1) s b a a5 a6 a7 a8 a9 a10 (by omega) (by omega) hP' h) 4 0 s b a a8 a9 a10 (by omega) (by omega) hA⟩
      refine pk_le w 0 (fun g => nx _ _ _ _ _ _ ?_) (fun g => ?_)
      · intro i' j' h1 h2 h3
        exact hP i' j' h1 h2 (by omega)
      · refine rf_solvePair (i := i) (j := i + w - 1) (by omega) (by omega) (by rw [nI_add, rf_pred (by omega)]) ht (fun k l h1 h2 h3 => hP k l (by omega) (by omega) (by omega)) (fun h => hA 2 (i + 1) (i + w - 1) (by omega) (by omega) (by omega) (by omega)) (fun s' b' a' h => nx _ _ _ _ _ _ ?_)
        intro i' j' h1 h2 h3
        by_cases e : i' = i ∧ j' = i + w - 1
        · obtain ⟨rfl, rfl⟩ := e
          rw [pk_us, pk_us, pk_us]
          exact h
        · have hne : 12 * i' + j' ≠ 12 * i + (i + w - 1) := by omega
          rw [pk_un hne, pk_un hne, pk_un hne]
          exact hP i' j' h1 h2 (by omega)
theorem rf_s2 {post : St2 → Prop} (ht : ∀ k, k < 6 → 0 ≤ (a4 k).toInt ∧ (a4 k).toInt ≤ 20)
    (H : ∀ s b a a5 a6 a7 a8 a9 a10, rf_R (rf_L (rf_V gap fo fs a1 a3) (rf_C a1 a4) (rf_T 0 0 6)) (a8 6) (a9 6) (a10 6) → post (gap, nI 6, fo, fs, s, b, a, a1, a2, a3, a4, a5, a6, a7, a8, a9, a10, a11, a12))
    (n : Nat) : ∀ (w : Nat) (s b a : Int32) (a5 a6 a7 a8 a9 a10 : Nat → Int32), w ≤ 7 → 7 - w < n → rf_okP (rf_V gap fo fs a1 a3) (rf_C a1 a4) a5 a6 a7 w 0 → rf_okA (rf_V gap fo fs a1 a3) (rf_C a1 a4) a8 a9 a10 w 0 0 →
      wX_solve_2 post n (nI w) gap (nI 6) fo fs s b a a1 a2 a3 a4 a5 a6 a7 a8 a9 a10 a11 a12 := by
  induction n with
  | zero => intro w s b a a5 a6 a7 a8 a9 a10 _ h; omega
  | succ n ih =>
    intro w s b a a5 a6 a7 a8 a9 a10 hw hn hP hA
    refine pk_lt 6 w (fun z => H _ _ _ _ _ _ _ _ _ (hA 0 0 6 (by omega) (by omega) (by omega) (by omega))) (fun z => ⟨8, ?_⟩)
    exact rf_s12 z ht (fun s b a a5 a6 a7 a8 a9 a10 h1 h2 => ih (w + 1) s b a a5 a6 a7 a8 a9 a10 (by omega) (by omega) h1 h2) 8 0 s b a a5 a6 a7 a8 a9 a10 (by omega) (by omega) hP hA
theorem rf_solve {post : St2 → Prop} (ht : ∀ k, k < 6 → 0 ≤ (a4 k).toInt ∧ (a4 k).toInt ≤ 20)
    (H : ∀ s b a a5 a6 a7 a8 a9 a10, rf_R (rf_L (rf_V gap fo fs a1 a3) (rf_C a1 a4) (rf_T 0 0 6)) (a8 6) (a9 6) (a10 6) → post (gap, nI 6, fo, fs, s, b, a, a1, a2, a3, a4, a5, a6, a7, a8, a9, a10, a11, a12)) :
    wpX_solve post (gap, nI 6, fo, fs, s, b, a, a1, a2, a3, a4, a5, a6, a7, a8, a9, a10, a11, a12) :=
  ⟨8, rf_s2 ht H 8 0 s b a a5 a6 a7 a8 a9 a10 (by omega) (by omega) (fun i' j' h1 h2 h3 => absurd h3 (by omega)) (fun l i' j' h1 h2 h3 h4 => absurd h4 (by omega))⟩
end
end
section
/-! what is asked, purely; takeHeld, folds, best, bestFolds, scoreOf -/
theorem rf_all_c {f : rf_Fo} {P Q : rf_At → Bool} (h : ∀ t, t ∈ f → P t = Q t) : f.all P = f.all Q := by
  induction f with
  | nil => rfl
  | cons t f ih => rw [List.all_cons, List.all_cons, h t (by simp), ih (fun u hu => h u (by simp [hu]))]
theorem rf_L_c {V V' : rf_At → Bool} {C : rf_At → Int} {F : List rf_Fo} (h : ∀ f, f ∈ F → f.all V = f.all V') : rf_L V C F = rf_L V' C F := by
  induction F with
  | nil => rfl
  | cons f F ih => rw [rf_L_cons, rf_L_cons, h f (by simp), ih (fun g hg => h g (by simp [hg]))]
def rf_AF : List rf_Fo := rf_T 0 0 6
def rf_ir (t : rf_At) : Bool := decide (t.1 < 6) && decide (t.2.1 < 6)
theorem rf_rng0 : rf_AF.all (fun f => f.all rf_ir) = true := by decide +kernel
theorem rf_rng {f : rf_Fo} (hf : f ∈ rf_AF) {t : rf_At} (ht : t ∈ f) : t.1 < 6 ∧ t.2.1 < 6 := by
  have h := List.all_eq_true.mp (List.all_eq_true.mp rf_rng0 f hf) t ht
  unfold rf_ir at h
  rw [Bool.and_eq_true, decide_eq_true_eq, decide_eq_true_eq] at h
  exact h
def rf_W (ak : Nat → Nat) (t : rf_At) : Bool := if t.2.2 = 4 then decide (ak t.1 ≤ 1) else decide (ak t.1 = 0 ∨ ak t.1 = 2) && decide (ak t.2.1 = 0 ∨ ak t.2.1 = 3)
def rf_V0 (gap : Int32) (a1 : Nat → Int32) (t : rf_At) : Bool := if t.2.2 = 4 then true else rf_fit gap a1 t.1 t.2.1
def rf_Wf (p q : Nat) (t : rf_At) : Bool := if t.2.2 = 4 then decide (t.1 ≠ p ∧ t.1 ≠ q) else decide (t.1 ≠ q) && (decide (t.2.1 ≠ p) && decide (t.1 = p ↔ t.2.1 = q))
/-- the scores of all allowed folds, with 'asked' ak; with the pair (p, q) -/
def rf_Q (gap : Int32) (a1 a4 : Nat → Int32) (ak : Nat → Nat) : List Int := rf_L (fun t => rf_W ak t && rf_V0 gap a1 t) (rf_C a1 a4) rf_AF
def rf_Qf (gap : Int32) (a1 a4 : Nat → Int32) (p q : Nat) : List Int := rf_L (fun t => rf_Wf p q t && rf_V0 gap a1 t) (rf_C a1 a4) rf_AF
theorem rf_BAF : rf_B rf_AF := rf_bT (by omega) (by omega) (by omega)
theorem rf_Q_len (gap : Int32) (a1 a4 : Nat → Int32) (ak : Nat → Nat) : (rf_Q gap a1 a4 ak).length ≤ 60 := rf_L_len rf_BAF
theorem rf_Qf_len (gap : Int32) (a1 a4 : Nat → Int32) (p q : Nat) : (rf_Qf gap a1 a4 p q).length ≤ 60 := rf_L_len rf_BAF
theorem rf_Q_b {gap : Int32} {a1 a4 : Nat → Int32} (ht : ∀ k, k < 6 → 0 ≤ (a4 k).toInt ∧ (a4 k).toInt ≤ 20) {ak : Nat → Nat} {x : Int} (h : x ∈ rf_Q gap a1 a4 ak) : -600 ≤ x ∧ x ≤ 600 := rf_L_b (rf_C_b ht) rf_BAF h
theorem rf_Qf_b {gap : Int32} {a1 a4 : Nat → Int32} (ht : ∀ k, k < 6 → 0 ≤ (a4 k).toInt ∧ (a4 k).toInt ≤ 20) {p q : Nat} {x : Int} (h : x ∈ rf_Qf gap a1 a4 p q) : -600 ≤ x ∧ x ≤ 600 := rf_L_b (rf_C_b ht) rf_BAF h
theorem rf_VW {gap fo fs : Int32} {a1 a3 a4 : Nat → Int32} {ak : Nat → Nat} (hf : fo < 0) (h3 : ∀ i, i < 6 → a3 i = nI (ak i) ∧ ak i ≤ 3) :
    rf_L (rf_V gap fo fs a1 a3) (rf_C a1 a4) (rf_T 0 0 6) = rf_Q gap a1 a4 ak := by
  apply rf_L_c
  intro f hf2
  apply rf_all_c
  intro t ht
  have hr := rf_rng hf2 ht
  have h1 := h3 t.1 hr.1
  have h2 := h3 t.2.1 hr.2
  unfold rf_V rf_W rf_V0
  by_cases h4 : t.2.2 = 4
  · rw [if_pos h4, if_pos h4, if_pos h4, Bool.and_true, decide_eq_decide, h1.1, show (1 : Int32) = nI 1 from rfl, nI_ltI (by omega) (by omega)]
    omega
  · rw [if_neg h4, if_neg h4, if_neg h4]
    unfold rf_mp rf_f1 rf_f2 rf_kp
    have e1 : (a3 t.1 = 0 ∨ a3 t.1 = 2) ↔ (ak t.1 = 0 ∨ ak t.1 = 2) := by
      rw [h1.1, show (0 : Int32) = nI 0 from rfl, show (2 : Int32) = nI 2 from rfl, nI_eq (by omega) (by omega), nI_eq (by omega) (by omega)]
    have e2 : (a3 t.2.1 = 0 ∨ a3 t.2.1 = 3) ↔ (ak t.2.1 = 0 ∨ ak t.2.1 = 3) := by
      rw [h2.1, show (0 : Int32) = nI 0 from rfl, show (3 : Int32) = nI 3 from rfl, nI_eq (by omega) (by omega), nI_eq (by omega) (by omega)]
    rw [decide_eq_decide.mpr e1, decide_eq_decide.mpr e2, decide_eq_true (Or.inl hf), Bool.true_and, Bool.and_assoc]
theorem rf_VF {gap : Int32} {a1 a3 a4 : Nat → Int32} {p q : Nat} (hp : p < 6) (hq : q < 6) (hpq : p ≠ q) (h3 : ∀ i, i < 6 → a3 i = if i = q then 3 else if i = p then 2 else 0) :
    rf_L (rf_V gap (nI p) (nI q) a1 a3) (rf_C a1 a4) (rf_T 0 0 6) = rf_Qf gap a1 a4 p q := by
  apply rf_L_c
  intro f hf2
  apply rf_all_c
  intro t ht
  have hr := rf_rng hf2 ht
  have h1 := h3 t.1 hr.1
  have h2 := h3 t.2.1 hr.2
  unfold rf_V rf_Wf rf_V0
  by_cases h4 : t.2.2 = 4
  · rw [if_pos h4, if_pos h4, if_pos h4, Bool.and_true, h1, decide_eq_decide]
    by_cases g1 : t.1 = q
    · rw [if_pos g1]
      exact ⟨fun z => absurd (by decide) z, fun z => absurd g1 z.2⟩
    · rw [if_neg g1]
      by_cases g2 : t.1 = p
      · rw [if_pos g2]
        exact ⟨fun z => absurd (by decide) z, fun z => absurd g2 z.1⟩
      · rw [if_neg g2]
        exact ⟨fun _ => ⟨g2, g1⟩, fun _ => by decide⟩
  · rw [if_neg h4, if_neg h4, if_neg h4]
    unfold rf_mp rf_f1 rf_f2 rf_kp
    have e1 : (a3 t.1 = 0 ∨ a3 t.1 = 2) ↔ t.1 ≠ q := by
      rw [h1]
      by_cases g1 : t.1 = q
      · rw [if_pos g1]
        exact ⟨fun z => absurd z (by decide), fun z => absurd g1 z⟩
      · rw [if_neg g1]
        refine ⟨fun _ => g1, fun _ => ?_⟩
        by_cases g2 : t.1 = p
        · rw [if_pos g2]
          exact Or.inr rfl
        · rw [if_neg g2]
          exact Or.inl rfl
    have e2 : (a3 t.2.1 = 0 ∨ a3 t.2.1 = 3) ↔ t.2.1 ≠ p := by
      rw [h2]
      by_cases g1 : t.2.1 = q
      · rw [if_pos g1]
        exact ⟨fun z w => hpq (w.symm.trans g1), fun z => Or.inr rfl⟩
      · rw [if_neg g1]
        by_cases g2 : t.2.1 = p
        · rw [if_pos g2]
          exact ⟨fun z => absurd z (by decide), fun z => absurd g2 z⟩
        · rw [if_neg g2]
          exact ⟨fun _ => g2, fun _ => Or.inl rfl⟩
    have e3 : (nI p < 0 ∨ (nI t.1 = nI p ↔ nI t.2.1 = nI q)) ↔ (t.1 = p ↔ t.2.1 = q) := by
      rw [nI_eq (by omega) (by omega), nI_eq (by omega) (by omega)]
      exact ⟨fun z => z.elim (fun w => absurd w (nI_pos (by omega))) id, Or.inr⟩
    rw [decide_eq_decide.mpr e1, decide_eq_decide.mpr e2, decide_eq_decide.mpr e3, Bool.and_assoc, Bool.and_assoc]
/-- any state of the folder in which the bases, the held (none), the numbers and the gap are those -/
def rf_any (gap : Int32) (a1 a2 a4 a11 a12 : Nat → Int32) (post : St2 → Prop) : Prop :=
  ∀ (fo fs s b a : Int32) (a3 a5 a6 a7 a8 a9 a10 : Nat → Int32), post (gap, nI 6, fo, fs, s, b, a, a1, a2, a3, a4, a5, a6, a7, a8, a9, a10, a11, a12)
def rf_ans (L : List Int) (r : Int32) : Prop := (L = [] ∧ r = -1000) ∨ ∃ m, m ∈ L ∧ (∀ x, x ∈ L → x ≤ m) ∧ r = Int32.ofInt m
section
variable {gap fo fs s b a : Int32} {a1 a2 a3 a4 a5 a6 a7 a8 a9 a10 a11 a12 : Nat → Int32}
theorem rf_takeHeld {post : St2 → Prop} (H : ∀ a3', (∀ i, i < 6 → a3' i = a2 i) → post (gap, nI 6, -1, fs, s, b, a, a1, a2, a3', a4, a5, a6, a7, a8, a9, a10, a11, a12)) :
    wpX_takeHeld post (gap, nI 6, fo, fs, s, b, a, a1, a2, a3, a4, a5, a6, a7, a8, a9, a10, a11, a12) :=
  pk_loop (fun n i z => wX_takeHeld_2 post gap (nI 6) fo fs s b a n (nI i) a1 a2 z a4 a5 a6 a7 a8 a9 a10 a11 a12) (fun i z => ∀ j, j < i → z j = a2 j) 6 0 a3 (by omega) (fun j hj => absurd hj (by omega))
    (fun n z h => pk_le 6 6 (fun _ => H z h) (fun w => absurd w (by omega)))
    (fun n i z hi h hw => pk_le 6 i (fun w => absurd w (by omega)) (fun _ => ⟨pk_in i 11 (by omega), pk_in i 11 (by omega), nm_e (nm_r (nI_1 i) (hw _ (by
      intro j hj
      rw [nI_clamp (by omega)]
      by_cases e : j = i
      · rw [e, pk_us]
      · rw [pk_un e]
        exact h j (by omega))))⟩))
theorem rf_solveK {post : St2 → Prop} (ak : Nat → Nat) (ht : ∀ k, k < 6 → 0 ≤ (a4 k).toInt ∧ (a4 k).toInt ≤ 20) (hf : fo < 0) (h3 : ∀ i, i < 6 → a3 i = nI (ak i) ∧ ak i ≤ 3)
    (H : ∀ s b a a5 a6 a7 a8 a9 a10, rf_R (rf_Q gap a1 a4 ak) (a8 6) (a9 6) (a10 6) → post (gap, nI 6, fo, fs, s, b, a, a1, a2, a3, a4, a5, a6, a7, a8, a9, a10, a11, a12)) :
    wpX_solve post (gap, nI 6, fo, fs, s, b, a, a1, a2, a3, a4, a5, a6, a7, a8, a9, a10, a11, a12) := by
  refine rf_solve ht (fun s b a a5 a6 a7 a8 a9 a10 h => H s b a a5 a6 a7 a8 a9 a10 ?_)
  rw [rf_VW hf h3] at h
  exact h
theorem rf_solveH {post : St2 → Prop} (ht : ∀ k, k < 6 → 0 ≤ (a4 k).toInt ∧ (a4 k).toInt ≤ 20) (hz : ∀ i, i < 6 → a2 i = 0)
    (H : ∀ s b a a3 a5 a6 a7 a8 a9 a10, (∀ i, i < 6 → a3 i = 0) → rf_R (rf_Q gap a1 a4 (fun _ => 0)) (a8 6) (a9 6) (a10 6) → post (gap, nI 6, -1, fs, s, b, a, a1, a2, a3, a4, a5, a6, a7, a8, a9, a10, a11, a12)) :
    wpX_takeHeld (fun u => wpX_solve post u) (gap, nI 6, fo, fs, s, b, a, a1, a2, a3, a4, a5, a6, a7, a8, a9, a10, a11, a12) := by
  refine rf_takeHeld (fun a3' h3 => ?_)
  have h30 : ∀ i, i < 6 → a3' i = 0 := fun i hi => (h3 i hi).trans (hz i hi)
  exact rf_solveK (fun _ => 0) ht (by decide) (fun i hi => ⟨h30 i hi, by omega⟩) (fun s b a a5 a6 a7 a8 a9 a10 h => H s b a a3' a5 a6 a7 a8 a9 a10 h30 h)
theorem rf_cl6 : (nI 6).toNatClampNeg = 6 := nI_clamp (by omega)
theorem rf_ansR {L : List Int} {s b a : Int32} {P : Int32 → Prop} (h : rf_R L s b a) (hl : L.length ≤ 60) (H : ∀ r, rf_ans L r → P r) : (a = 0 → P (-1000)) ∧ (¬ a = 0 → (vp_in (nI 6) 432 ∧ P s)) := by
  refine br_c (fun g => ?_) (fun g => ⟨pk_in 6 432 (by omega), ?_⟩)
  · exact H _ (Or.inl ⟨(rf_R_a h (by omega)).mp g, rfl⟩)
  · rcases h.2 with ⟨e, _⟩ | ⟨m, h1, h2, h3, _⟩
    · exact absurd ((rf_R_a h (by omega)).mpr e) g
    · exact H _ (Or.inr ⟨m, h1, h2, h3⟩)
theorem rf_folds {post : Int32 → St2 → Prop} (ht : ∀ k, k < 6 → 0 ≤ (a4 k).toInt ∧ (a4 k).toInt ≤ 20) (hz : ∀ i, i < 6 → a2 i = 0) (H : rf_any gap a1 a2 a4 a11 a12 (post (nI (rf_Q gap a1 a4 (fun _ => 0)).length))) :
    wpX_folds post (gap, nI 6, fo, fs, s, b, a, a1, a2, a3, a4, a5, a6, a7, a8, a9, a10, a11, a12) := by
  unfold wpX_folds
  refine rf_takeHeld (fun a3' h3 => ?_)
  refine rf_solveK (fun _ => 0) ht (by decide) (fun i hi => ⟨(h3 i hi).trans (hz i hi), by omega⟩) (fun s b a a5 a6 a7 a8 a9 a10 h => ⟨pk_in 6 432 (by omega), ?_⟩)
  rw [rf_cl6, h.1]
  exact H _ _ _ _ _ _ _ _ _ _ _ _
theorem rf_best {post : Int32 → St2 → Prop} (ht : ∀ k, k < 6 → 0 ≤ (a4 k).toInt ∧ (a4 k).toInt ≤ 20) (hz : ∀ i, i < 6 → a2 i = 0) (H : ∀ r, rf_ans (rf_Q gap a1 a4 (fun _ => 0)) r → rf_any gap a1 a2 a4 a11 a12 (post r)) :
    wpX_best post (gap, nI 6, fo, fs, s, b, a, a1, a2, a3, a4, a5, a6, a7, a8, a9, a10, a11, a12) := by
  unfold wpX_best
  refine rf_takeHeld (fun a3' h3 => ?_)
  refine rf_solveK (fun _ => 0) ht (by decide) (fun i hi => ⟨(h3 i hi).trans (hz i hi), by omega⟩) (fun s b a a5 a6 a7 a8 a9 a10 h => ⟨pk_in 6 432 (by omega), ?_⟩)
  rw [rf_cl6]
  exact rf_ansR (P := fun r => post r _) h (rf_Q_len _ _ _ _) (fun r hr => H r hr _ _ _ _ _ _ _ _ _ _ _ _)
theorem rf_bestFolds {post : Int32 → St2 → Prop} (ht : ∀ k, k < 6 → 0 ≤ (a4 k).toInt ∧ (a4 k).toInt ≤ 20) (hz : ∀ i, i < 6 → a2 i = 0) (H : ∀ s b a, rf_R (rf_Q gap a1 a4 (fun _ => 0)) s b a → rf_any gap a1 a2 a4 a11 a12 (post b)) :
    wpX_bestFolds post (gap, nI 6, fo, fs, s, b, a, a1, a2, a3, a4, a5, a6, a7, a8, a9, a10, a11, a12) := by
  unfold wpX_bestFolds
  refine rf_takeHeld (fun a3' h3 => ?_)
  refine rf_solveK (fun _ => 0) ht (by decide) (fun i hi => ⟨(h3 i hi).trans (hz i hi), by omega⟩) (fun s b a a5 a6 a7 a8 a9 a10 h => ⟨pk_in 6 432 (by omega), ?_⟩)
  rw [rf_cl6]
  exact H _ _ _ h _ _ _ _ _ _ _ _ _ _ _ _
/-! the digits of a code -/
end
def rf_sg (c p : Nat) : Nat := c / 3 ^ (5 - p) % 3
theorem rf_sg_lt (c p : Nat) : rf_sg c p < 3 := Nat.mod_lt _ (by omega)
def rf_x4 (k : Nat) : Int32 := if k = 0 then -1 else nI (k - 1)
section
variable {gap fo fs s b a : Int32} {a1 a2 a3 a4 a5 a6 a7 a8 a9 a10 a11 a12 : Nat → Int32}
theorem rf_so45 {post : Int32 → St2 → Prop} {c : Nat} (hc : c < 729) (ht : ∀ k, k < 6 → 0 ≤ (a4 k).toInt ∧ (a4 k).toInt ≤ 20) (H : ∀ r, rf_ans (rf_Q gap a1 a4 (fun i => rf_sg c i + 1)) r → rf_any gap a1 a2 a4 a11 a12 (post r))
    (k : Nat) : ∀ (a3 : Nat → Int32), k ≤ 6 → (∀ i, k ≤ i → i < 6 → a3 i = nI (rf_sg c i + 1)) →
      wX_scoreOf_45 post gap (nI 6) fo fs s b a (k + 1) (nI (c / 3 ^ (6 - k))) (rf_x4 k) a1 a2 a3 a4 a5 a6 a7 a8 a9 a10 a11 a12 := by
  induction k with
  | zero =>
    intro a3 _ h3
    refine br_t (by decide) (rf_solveK (fun i => rf_sg c i + 1) ht (by decide) (fun i hi => ⟨h3 i (by omega) hi, ?_⟩) (fun s b a a5 a6 a7 a8 a9 a10 h => ⟨pk_in 6 432 (by omega), ?_⟩))
    · have := rf_sg_lt c i
      omega
    · rw [rf_cl6]
      exact rf_ansR (P := fun r => post r _) h (rf_Q_len _ _ _ _) (fun r hr => H r hr _ _ _ _ _ _ _ _ _ _ _ _)
  | succ k ih =>
    intro a3 hk h3
    have e4 : rf_x4 (k + 1) = nI k := by
      unfold rf_x4
      rw [if_neg (by omega)]
      rfl
    rw [e4]
    have hb : c / 3 ^ (6 - (k + 1)) < 2 ^ 31 := Nat.lt_of_le_of_lt (Nat.div_le_self _ _) (by omega)
    refine br_f (nI_pos (by omega)) ⟨by decide, pk_in k 11 (by omega), nm_e ⟨by decide, nm_r (e' := nI (c / 3 ^ (6 - k))) ?_ (nm_r (e' := rf_x4 k) ?_ (ih _ (by omega) ?_))⟩⟩
    · rw [show (3 : Int32) = nI 3 from rfl, pk_div hb (by omega) (by omega), Nat.div_div_eq_div_mul, ← Nat.pow_succ, show (6 - (k + 1)).succ = 6 - k by omega]
    · unfold rf_x4
      by_cases h0 : k = 0
      · rw [if_pos h0, h0]
        rfl
      · rw [if_neg h0]
        exact sb_m1 (by omega)
    · intro i h1 h2
      rw [nI_clamp (show k < 2 ^ 31 by omega)]
      by_cases e : i = k
      · rw [e, pk_us, show (3 : Int32) = nI 3 from rfl, pk_rem hb (by omega) (by omega), nI_1]
        unfold rf_sg
        rw [show 6 - (k + 1) = 5 - k by omega]
      · rw [pk_un e]
        exact h3 i (by omega) h2
theorem rf_so4 {post : Int32 → St2 → Prop} {c : Nat} (hc : c ≤ 729) (ht : ∀ k, k < 6 → 0 ≤ (a4 k).toInt ∧ (a4 k).toInt ≤ 20) (H : c < 729 → ∀ r, rf_ans (rf_Q gap a1 a4 (fun i => rf_sg c i + 1)) r → rf_any gap a1 a2 a4 a11 a12 (post r)) (H2 : c = 729 → rf_any gap a1 a2 a4 a11 a12 (post (-1000)))
    (n : Nat) : ∀ k, k ≤ 6 → 6 - k < n → wX_scoreOf_4 post (nI c) gap (nI 6) fo fs s b a a1 a2 a3 a4 a5 a6 a7 a8 a9 a10 a11 a12 n (nI (3 ^ k)) (nI k) := by
  induction n with
  | zero => intro k _ h; omega
  | succ n ih =>
    intro k hk hn
    refine pk_le 6 k (fun z => ?_) (fun z => ?_)
    · have e : k = 6 := by omega
      rw [e]
      refine br_f (nI_pos (by omega)) (pk_lt c (3 ^ 6) (fun g => nm_r (e' := nI 5) (by decide) ⟨7, ?_⟩) (fun g => H2 (by omega) _ _ _ _ _ _ _ _ _ _ _ _))
      have h := rf_so45 (post := post) (fo := fo) (fs := fs) (s := s) (b := b) (a := a) (a5 := a5) (a6 := a6) (a7 := a7) (a8 := a8) (a9 := a9) (a10 := a10) (show c < 729 by omega) ht (H (by omega)) 6 a3 (by omega) (fun i h1 h2 => absurd h1 (by omega))
      rw [show c / 3 ^ (6 - 6) = c from Nat.div_one c] at h
      exact h
    · refine nm_r (e' := nI (3 ^ (k + 1))) ?_ (nm_r (nI_1 k) (ih (k + 1) (by omega) (by omega)))
      rw [show (3 : Int32) = nI 3 from rfl, pk_mul, Nat.pow_succ]
theorem rf_scoreOf {post : Int32 → St2 → Prop} {c : Nat} (hc : c ≤ 729) (ht : ∀ k, k < 6 → 0 ≤ (a4 k).toInt ∧ (a4 k).toInt ≤ 20) (H : c < 729 → ∀ r, rf_ans (rf_Q gap a1 a4 (fun i => rf_sg c i + 1)) r → rf_any gap a1 a2 a4 a11 a12 (post r)) (H2 : c = 729 → rf_any gap a1 a2 a4 a11 a12 (post (-1000))) :
    wpX_scoreOf post (gap, nI 6, fo, fs, s, b, a, a1, a2, a3, a4, a5, a6, a7, a8, a9, a10, a11, a12) (nI c) :=
  ⟨7, rf_so4 hc ht H H2 7 0 (by omega) (by omega)⟩
end
end
section
/-! decide, bestCode, solveWith, foldsWith, bestWith -/
def rf_ak (cb i h j : Nat) : Nat := if j < i then rf_sg cb j + 1 else if j = i then h else 0
def rf_cbok (gap : Int32) (a1 a4 : Nat → Int32) (m : Int) (cb : Nat) : Prop :=
  cb < 729 ∧ ∀ i, i < 6 → ∀ h, 1 ≤ h → h ≤ 2 → h ≤ rf_sg cb i + 1 → (∀ x, x ∈ rf_Q gap a1 a4 (rf_ak cb i h) → x ≤ m) ∧ (m ∈ rf_Q gap a1 a4 (rf_ak cb i h) ↔ h = rf_sg cb i + 1)
theorem rf_ak_3 {cb i h : Nat} (hh : h ≤ 3) (j : Nat) : rf_ak cb i h j ≤ 3 := by
  have := rf_sg_lt cb j
  unfold rf_ak
  split
  · omega
  · split <;> omega
theorem rf_hit {L : List Int} {m : Int} {s b a : Int32} (h : rf_R L s b a) (hl : L.length ≤ 60) (hb : ∀ x, x ∈ L → -600 ≤ x ∧ x ≤ 600) (hm : -600 ≤ m ∧ m ≤ 600) (hx : ∀ x, x ∈ L → x ≤ m) : (a ≤ 0 → ¬ m ∈ L) ∧ (¬ a ≤ 0 → (s = Int32.ofInt m ↔ m ∈ L)) := by
  refine ⟨fun g gm => ?_, fun g => ?_⟩
  · rw [h.1] at g
    exact absurd g (nI_nle (List.length_pos_of_mem gm) (by omega))
  · rcases h.2 with ⟨e, _⟩ | ⟨m', h1, h2, h3, _⟩
    · rw [h.1, e] at g
      exact absurd (by decide) g
    · have hb' := hb m' h1
      rw [h3, rf_oeq (by omega) (by omega) (by omega) (by omega)]
      refine ⟨fun e => by rw [← e]; exact h1, fun e => ?_⟩
      have k1 := h2 m e
      have k2 := hx m' h1
      omega
section
variable {gap fo fs s b a : Int32} {a1 a2 a3 a4 a5 a6 a7 a8 a9 a10 a11 a12 : Nat → Int32}
theorem rf_d53 {post : Int32 → St2 → Prop} {J : Int32 → Int32 → Int32 → Int32 → Int32 → Int32 → Int32 → Int32 → (Nat → Int32) → (Nat → Int32) → (Nat → Int32) → (Nat → Int32) → (Nat → Int32) → (Nat → Int32) → (Nat → Int32) → (Nat → Int32) → (Nat → Int32) → (Nat → Int32) → (Nat → Int32) → (Nat → Int32) → Prop}
    {m : Int} {cb i : Nat} (hi : i < 6) (hm : -600 ≤ m ∧ m ≤ 600) (hok : rf_cbok gap a1 a4 m cb) (ht : ∀ k, k < 6 → 0 ≤ (a4 k).toInt ∧ (a4 k).toInt ≤ 20) (hf : fo < 0)
    (H : ∀ s b a a3 a5 a6 a7 a8 a9 a10, (∀ j, j < 6 → a3 j = nI (rf_ak cb (i + 1) 0 j)) → J (nI (i + 1)) gap (nI 6) fo fs s b a a1 a2 a3 a4 a5 a6 a7 a8 a9 a10 a11 a12)
    (n : Nat) : ∀ (h : Nat) (s b a : Int32) (a3 a5 a6 a7 a8 a9 a10 : Nat → Int32), 1 ≤ h → h ≤ 3 → h ≤ rf_sg cb i + 1 → 3 - h < n → (∀ j, j < 6 → j ≠ i → a3 j = nI (rf_ak cb i 0 j)) →
      wX_decide_53 post J (Int32.ofInt m) (nI i) n (nI h) gap (nI 6) fo fs s b a a1 a2 a3 a4 a5 a6 a7 a8 a9 a10 a11 a12 := by
  have fin : ∀ (z : Nat → Int32) (h : Nat), h = rf_sg cb i + 1 → (∀ j, j < 6 → j ≠ i → z j = nI (rf_ak cb i 0 j)) → ∀ j, j < 6 → upd z i (nI h) j = nI (rf_ak cb (i + 1) 0 j) := by
    intro z h hh hz j hj
    by_cases e : j = i
    · rw [e, pk_us, hh]
      unfold rf_ak
      rw [if_pos (by omega)]
    · rw [pk_un e, hz j hj e]
      unfold rf_ak
      by_cases g : j < i
      · rw [if_pos g, if_pos (by omega)]
      · rw [if_neg g, if_neg e, if_neg (by omega)]
        split <;> rfl
  induction n with
  | zero => intro h s b a a3 a5 a6 a7 a8 a9 a10 _ _ _ hn; omega
  | succ n ih =>
    intro h s b a a3 a5 a6 a7 a8 a9 a10 h1 h3 hsg hn h3a
    have hs3 := rf_sg_lt cb i
    refine pk_le 3 h (fun z => ⟨pk_in i 11 (by omega), ?_⟩) (fun z => ⟨pk_in i 11 (by omega), ?_⟩)
    · rw [nI_clamp (show i < 2 ^ 31 by omega)]
      exact nm_e (nm_r (nI_1 i) (H _ _ _ _ _ _ _ _ _ _ (fin a3 h (by omega) h3a)))
    · rw [nI_clamp (show i < 2 ^ 31 by omega)]
      have hk := hok.2 i hi h h1 (by omega) hsg
      have h3b : ∀ j, j < 6 → j ≠ i → upd a3 i (nI h) j = nI (rf_ak cb i 0 j) := fun j hj e => by rw [pk_un e]; exact h3a j hj e
      refine nm_e (rf_solveK (rf_ak cb i h) ht hf (fun j hj => ⟨?_, rf_ak_3 h3 j⟩) (fun s b a a5 a6 a7 a8 a9 a10 hR => ⟨pk_in 6 432 (by omega), ?_⟩))
      · by_cases e : j = i
        · rw [e, pk_us]
          unfold rf_ak
          rw [if_neg (by omega), if_pos rfl]
        · rw [pk_un e, h3a j hj e]
          unfold rf_ak
          rw [if_neg e, if_neg e]
      · rw [rf_cl6]
        have hh := rf_hit hR (rf_Q_len _ _ _ _) (fun x hx => rf_Q_b ht hx) hm hk.1
        refine br_c (fun g => nm_r (nI_1 h) (ih (h + 1) _ _ _ _ _ _ _ _ _ _ (by omega) (by omega) ?_ (by omega) h3b)) (fun g => ⟨pk_in 6 432 (by omega), br_c (fun g2 => ⟨pk_in i 11 (by omega), nm_e (nm_r (nI_1 i) (H _ _ _ _ _ _ _ _ _ _ ?_))⟩) (fun g2 => nm_r (nI_1 h) (ih (h + 1) _ _ _ _ _ _ _ _ _ _ (by omega) (by omega) ?_ (by omega) h3b))⟩)
        · have g9 : ¬ h = rf_sg cb i + 1 := fun e => hh.1 g (hk.2.mpr e)
          omega
        · exact fin _ h (hk.2.mp ((hh.2 g).mp g2)) h3b
        · have g9 : ¬ h = rf_sg cb i + 1 := fun e => g2 ((hh.2 g).mpr (hk.2.mpr e))
          omega
theorem rf_d34 {post : Int32 → St2 → Prop} {m : Int} {cb : Nat} (hm : -600 ≤ m ∧ m ≤ 600) (hok : rf_cbok gap a1 a4 m cb) (ht : ∀ k, k < 6 → 0 ≤ (a4 k).toInt ∧ (a4 k).toInt ≤ 20) (hf : fo < 0)
    (H : ∀ s b a a3 a5 a6 a7 a8 a9 a10, (∀ j, j < 6 → a3 j = nI (rf_sg cb j + 1)) → post 1 (gap, nI 6, fo, fs, s, b, a, a1, a2, a3, a4, a5, a6, a7, a8, a9, a10, a11, a12))
    (n : Nat) : ∀ (i : Nat) (s b a : Int32) (a3 a5 a6 a7 a8 a9 a10 : Nat → Int32), i ≤ 6 → 6 - i < n → (∀ j, j < 6 → a3 j = nI (rf_ak cb i 0 j)) →
      wX_decide_34 post (Int32.ofInt m) n (nI i) gap (nI 6) fo fs s b a a1 a2 a3 a4 a5 a6 a7 a8 a9 a10 a11 a12 := by
  induction n with
  | zero => intro i s b a a3 a5 a6 a7 a8 a9 a10 _ hn; omega
  | succ n ih =>
    intro i s b a a3 a5 a6 a7 a8 a9 a10 hi hn h3
    refine pk_le 6 i (fun z => H _ _ _ _ _ _ _ _ _ _ (fun j hj => ?_)) (fun z => ⟨pk_in i 11 (by omega), ?_⟩)
    · rw [h3 j hj]
      unfold rf_ak
      rw [if_pos (by omega)]
    · have e0 : a3 i = 0 := by
        rw [h3 i z]
        unfold rf_ak
        rw [if_neg (by omega), if_pos rfl]
        rfl
      rw [nI_clamp (show i < 2 ^ 31 by omega)]
      refine br_t e0 ⟨3, rf_d53 z hm hok ht hf (fun s b a a3 a5 a6 a7 a8 a9 a10 h => ih (i + 1) s b a a3 a5 a6 a7 a8 a9 a10 (by omega) (by omega) h) 3 1 s b a a3 a5 a6 a7 a8 a9 a10 (by omega) (by omega) (by omega) (by omega) (fun j hj _ => h3 j hj)⟩
theorem rf_decide {post : Int32 → St2 → Prop} (ht : ∀ k, k < 6 → 0 ≤ (a4 k).toInt ∧ (a4 k).toInt ≤ 20) (hz : ∀ i, i < 6 → a2 i = 0)
    (H0 : rf_Q gap a1 a4 (fun _ => 0) = [] → rf_any gap a1 a2 a4 a11 a12 (post 0))
    (H1 : ∀ m, m ∈ rf_Q gap a1 a4 (fun _ => 0) → (∀ x, x ∈ rf_Q gap a1 a4 (fun _ => 0) → x ≤ m) → ∃ cb, rf_cbok gap a1 a4 m cb ∧ ∀ (fo fs s b a : Int32) (a3 a5 a6 a7 a8 a9 a10 : Nat → Int32), (∀ j, j < 6 → a3 j = nI (rf_sg cb j + 1)) → post 1 (gap, nI 6, fo, fs, s, b, a, a1, a2, a3, a4, a5, a6, a7, a8, a9, a10, a11, a12)) :
    wpX_decide post (gap, nI 6, fo, fs, s, b, a, a1, a2, a3, a4, a5, a6, a7, a8, a9, a10, a11, a12) := by
  unfold wpX_decide
  refine rf_takeHeld (fun a3' h3 => ?_)
  have h30 : ∀ i, i < 6 → a3' i = 0 := fun i hi => (h3 i hi).trans (hz i hi)
  refine rf_solveK (fun _ => 0) ht (by decide) (fun i hi => ⟨h30 i hi, by omega⟩) (fun s b a a5 a6 a7 a8 a9 a10 h => ⟨pk_in 6 432 (by omega), ?_⟩)
  rw [rf_cl6]
  have hl := rf_Q_len gap a1 a4 (fun _ => 0)
  refine br_c (fun g => H0 ((rf_R_a h (by omega)).mp g) _ _ _ _ _ _ _ _ _ _ _ _) (fun g => ⟨pk_in 6 432 (by omega), ?_⟩)
  rcases h.2 with ⟨e, _⟩ | ⟨m, h1, h2, h4, _⟩
  · exact absurd ((rf_R_a h (by omega)).mpr e) g
  · obtain ⟨cb, hok, hp⟩ := H1 m h1 h2
    rw [h4]
    refine nm_e ⟨7, rf_d34 (rf_Q_b ht h1) hok ht (by decide) (fun s b a a3 a5 a6 a7 a8 a9 a10 h5 => hp _ _ _ _ _ _ _ _ _ _ _ _ h5) 7 0 _ _ _ _ _ _ _ _ _ _ (by omega) (by omega) (fun j hj => ?_)⟩
    rw [h30 j hj]
    unfold rf_ak
    rw [if_neg (by omega)]
    split <;> rfl
theorem rf_bc13 {post : Int32 → St2 → Prop} {cb : Nat} (hc : cb < 729) (h3 : ∀ j, j < 6 → a3 j = nI (rf_sg cb j + 1)) (H : post (nI cb) (gap, nI 6, fo, fs, s, b, a, a1, a2, a3, a4, a5, a6, a7, a8, a9, a10, a11, a12))
    (n : Nat) : ∀ k, k ≤ 6 → 6 - k < n → wX_bestCode_13 post gap (nI 6) fo fs s b a a1 a2 a3 a4 a5 a6 a7 a8 a9 a10 a11 a12 n (nI (cb / 3 ^ (6 - k))) (nI k) := by
  induction n with
  | zero => intro k _ h; omega
  | succ n ih =>
    intro k hk hn
    refine pk_le 6 k (fun z => ?_) (fun z => ⟨pk_in k 11 (by omega), nm_r (e' := nI (cb / 3 ^ (6 - (k + 1)))) ?_ (nm_r (nI_1 k) (ih (k + 1) (by omega) (by omega)))⟩)
    · have e : k = 6 := by omega
      rw [e, show cb / 3 ^ (6 - 6) = cb from Nat.div_one cb]
      exact H
    · rw [nI_clamp (show k < 2 ^ 31 by omega), h3 k z, show (3 : Int32) = nI 3 from rfl, pk_mul, nI_add, ← Nat.add_assoc, nI_pred]
      congr 1
      unfold rf_sg
      have e1 : cb / 3 ^ (6 - k) = cb / 3 ^ (5 - k) / 3 := by
        rw [Nat.div_div_eq_div_mul, ← Nat.pow_succ, show (5 - k).succ = 6 - k by omega]
      rw [e1, show 6 - (k + 1) = 5 - k by omega]
      omega
theorem rf_bestCode {post : Int32 → St2 → Prop} (ht : ∀ k, k < 6 → 0 ≤ (a4 k).toInt ∧ (a4 k).toInt ≤ 20) (hz : ∀ i, i < 6 → a2 i = 0)
    (H0 : rf_Q gap a1 a4 (fun _ => 0) = [] → rf_any gap a1 a2 a4 a11 a12 (post (-1)))
    (H1 : ∀ m, m ∈ rf_Q gap a1 a4 (fun _ => 0) → (∀ x, x ∈ rf_Q gap a1 a4 (fun _ => 0) → x ≤ m) → ∃ cb, rf_cbok gap a1 a4 m cb ∧ rf_any gap a1 a2 a4 a11 a12 (post (nI cb))) :
    wpX_bestCode post (gap, nI 6, fo, fs, s, b, a, a1, a2, a3, a4, a5, a6, a7, a8, a9, a10, a11, a12) := by
  unfold wpX_bestCode
  refine rf_decide ht hz (fun e => ?_) (fun m h1 h2 => ?_)
  · intro fo fs s b a a3 a5 a6 a7 a8 a9 a10
    exact br_t rfl (H0 e _ _ _ _ _ _ _ _ _ _ _ _)
  · obtain ⟨cb, hok, hp⟩ := H1 m h1 h2
    refine ⟨cb, hok, fun fo fs s b a a3 a5 a6 a7 a8 a9 a10 h3 => br_f (by decide) ⟨7, ?_⟩⟩
    have h := rf_bc13 (post := post) (gap := gap) (fo := fo) (fs := fs) (s := s) (b := b) (a := a) (a1 := a1) (a2 := a2) (a4 := a4) (a5 := a5) (a6 := a6) (a7 := a7) (a8 := a8) (a9 := a9) (a10 := a10) (a11 := a11) (a12 := a12) hok.1 h3 (hp _ _ _ _ _ _ _ _ _ _ _ _) 7 0 (by omega) (by omega)
    rw [show cb / 3 ^ (6 - 0) = 0 from Nat.div_eq_of_lt hok.1] at h
    exact h
theorem rf_isPlace {post : Int32 → Prop} {i : Nat} (hi : i < 6) (H : post 1) :
    wpX_isPlace post (gap, nI 6, fo, fs, s, b, a, a1, a2, a3, a4, a5, a6, a7, a8, a9, a10, a11, a12) (nI i) :=
  br_f (nI_pos (by omega)) (pk_le 6 i (fun z => absurd z (by omega)) (fun _ => H))
theorem rf_solveWith {post : Int32 → St2 → Prop} {p q : Nat} (hp : p < 6) (hq : q < 6) (ht : ∀ k, k < 6 → 0 ≤ (a4 k).toInt ∧ (a4 k).toInt ≤ 20) (hz : ∀ i, i < 6 → a2 i = 0)
    (H0 : q ≤ p → rf_any gap a1 a2 a4 a11 a12 (post 0))
    (H1 : p < q → ∀ (fo fs s b a : Int32) (a3 a5 a6 a7 a8 a9 a10 : Nat → Int32), rf_R (rf_Qf gap a1 a4 p q) (a8 6) (a9 6) (a10 6) → (rf_Qf gap a1 a4 p q = [] → post 0 (gap, nI 6, fo, fs, s, b, a, a1, a2, a3, a4, a5, a6, a7, a8, a9, a10, a11, a12)) ∧ (¬ rf_Qf gap a1 a4 p q = [] → post 1 (gap, nI 6, fo, fs, s, b, a, a1, a2, a3, a4, a5, a6, a7, a8, a9, a10, a11, a12))) :
    wpX_solveWith post (gap, nI 6, fo, fs, s, b, a, a1, a2, a3, a4, a5, a6, a7, a8, a9, a10, a11, a12) (nI p) (nI q) := by
  unfold wpX_solveWith
  refine rf_takeHeld (fun a3' h3 => ?_)
  refine pk_le q p (fun z => H0 z _ _ _ _ _ _ _ _ _ _ _ _) (fun z => ⟨pk_in p 11 (by omega), br_t ?_ ⟨pk_in q 11 (by omega), br_t ?_ ⟨pk_in p 11 (by omega), nm_e ⟨pk_in q 11 (by omega), nm_e ?_⟩⟩⟩⟩)
  · rw [nI_clamp (by omega)]
    exact hz p hp
  · rw [nI_clamp (by omega)]
    exact hz q hq
  · rw [nI_clamp (show p < 2 ^ 31 by omega), nI_clamp (show q < 2 ^ 31 by omega)]
    refine rf_solve ht (fun s b a a5 a6 a7 a8 a9 a10 h => ⟨pk_in 6 432 (by omega), ?_⟩)
    rw [rf_VF hp hq (by omega) (fun i hi => ?_)] at h
    · rw [rf_cl6]
      have hl := rf_Qf_len gap a1 a4 p q
      refine br_c (fun g => (H1 z _ _ _ _ _ _ _ _ _ _ _ _ h).1 ?_) (fun g => (H1 z _ _ _ _ _ _ _ _ _ _ _ _ h).2 (fun e => g ?_))
      · rw [h.1] at g
        rcases Nat.eq_zero_or_pos (rf_Qf gap a1 a4 p q).length with g2 | g2
        · exact List.length_eq_zero_iff.mp g2
        · exact absurd g (nI_nle g2 (by omega))
      · rw [h.1, e]
        decide
    · by_cases e : i = q
      · rw [if_pos e, e, pk_us]
      · rw [if_neg e, pk_un e]
        by_cases e2 : i = p
        · rw [if_pos e2, e2, pk_us]
        · rw [if_neg e2, pk_un e2, h3 i hi]
          exact hz i hi
theorem rf_foldsWith {post : Int32 → St2 → Prop} {p q : Nat} (hp : p < 6) (hq : q < 6) (ht : ∀ k, k < 6 → 0 ≤ (a4 k).toInt ∧ (a4 k).toInt ≤ 20) (hz : ∀ i, i < 6 → a2 i = 0)
    (H0 : q ≤ p → rf_any gap a1 a2 a4 a11 a12 (post 0))
    (H1 : p < q → rf_any gap a1 a2 a4 a11 a12 (post (nI (rf_Qf gap a1 a4 p q).length))) :
    wpX_foldsWith post (gap, nI 6, fo, fs, s, b, a, a1, a2, a3, a4, a5, a6, a7, a8, a9, a10, a11, a12) (nI p) (nI q) := by
  unfold wpX_foldsWith
  refine rf_isPlace hp (br_f (by decide) (rf_isPlace hq (br_f (by decide) (rf_solveWith hp hq ht hz (fun z => ?_) (fun z fo fs s b a a3 a5 a6 a7 a8 a9 a10 h => ⟨fun e => ?_, fun e => ?_⟩)))))
  · intro fo fs s b a a3 a5 a6 a7 a8 a9 a10
    exact br_t rfl (H0 z _ _ _ _ _ _ _ _ _ _ _ _)
  · have h1 := H1 z
    rw [e] at h1
    exact br_t rfl (h1 _ _ _ _ _ _ _ _ _ _ _ _)
  · refine br_f (by decide) ⟨pk_in 6 432 (by omega), ?_⟩
    rw [rf_cl6, h.1]
    exact H1 z _ _ _ _ _ _ _ _ _ _ _ _
theorem rf_bestWith {post : Int32 → St2 → Prop} {p q : Nat} (hp : p < 6) (hq : q < 6) (hpq : p < q) (ht : ∀ k, k < 6 → 0 ≤ (a4 k).toInt ∧ (a4 k).toInt ≤ 20) (hz : ∀ i, i < 6 → a2 i = 0)
    (H : ∀ r, rf_ans (rf_Qf gap a1 a4 p q) r → rf_any gap a1 a2 a4 a11 a12 (post r)) :
    wpX_bestWith post (gap, nI 6, fo, fs, s, b, a, a1, a2, a3, a4, a5, a6, a7, a8, a9, a10, a11, a12) (nI p) (nI q) := by
  unfold wpX_bestWith
  refine rf_isPlace hp (br_f (by decide) (rf_isPlace hq (br_f (by decide) (rf_solveWith hp hq ht hz (fun z => absurd z (by omega)) (fun z fo fs s b a a3 a5 a6 a7 a8 a9 a10 h => ⟨fun e => ?_, fun e => ?_⟩)))))
  · exact br_t rfl (H _ (Or.inl ⟨e, rfl⟩) _ _ _ _ _ _ _ _ _ _ _ _)
  · refine br_f (by decide) ⟨pk_in 6 432 (by omega), ?_⟩
    rw [rf_cl6]
    rcases h.2 with ⟨e2, _⟩ | ⟨m, h1, h2, h4, _⟩
    · exact absurd e2 e
    · exact H _ (Or.inr ⟨m, h1, h2, h4⟩) _ _ _ _ _ _ _ _ _ _ _ _
end
end
section
/-! the law's own methods: sign, mate, base, kind, tuned, score -/
theorem rf_nI (n : Nat) : nI n = Int32.ofInt (n : Int) := Int32.ofInt_eq_ofNat.symm
theorem rf_sign4 {post : Int32 → Prop} (n : Nat) : ∀ (c p : Nat), c < 729 → p ≤ 5 → 5 - p < n → post (nI (rf_sg c p)) → wL_sign_4 post n (nI c) (nI p) := by
  induction n with
  | zero => intro c p _ _ h; omega
  | succ n ih =>
    intro c p hc hp hn H
    refine pk_le 5 p (fun z => ⟨by decide, ?_⟩) (fun z => ⟨by decide, nm_r (e' := nI (c / 3)) (pk_div (a := c) (d := 3) (by omega) (by omega) (by omega)) (nm_r (nI_1 p) (ih (c / 3) (p + 1) (by omega) (by omega) (by omega) ?_))⟩)
    · have e : rf_sg c p = c % 3 := by
        unfold rf_sg
        rw [show 5 - p = 0 by omega, Nat.pow_zero, Nat.div_one]
      rw [e] at H
      rw [show (3 : Int32) = nI 3 from rfl, pk_rem (by omega) (by omega) (by omega)]
      exact H
    · have e : rf_sg (c / 3) (p + 1) = rf_sg c p := by
        unfold rf_sg
        rw [Nat.div_div_eq_div_mul, ← Nat.pow_succ', show (5 - (p + 1)).succ = 5 - p by omega]
      rw [e]
      exact H
theorem rf_sign {post : Int32 → Prop} {c p : Nat} (hc : c < 729) (hp : p < 6) (H : post (nI (rf_sg c p))) : wpL_sign post () (nI c) (nI p) :=
  ⟨6, rf_sign4 6 c p hc (by omega) (by omega) H⟩
def rf_dd (s t : Nat) : Int := if t = s then 1 else if t = 0 then 0 else -1
def rf_ml (c p s : Nat) : Nat → Int → Nat → Int
  | 0 => fun _ _ => -2
  | n + 1 => fun d k =>
    if (if s = 1 then (p : Int) + k else (p : Int) - k) < 0 ∨ 6 ≤ (if s = 1 then (p : Int) + k else (p : Int) - k) then rf_ml c p s n d (k + 1)
    else if d + rf_dd s (rf_sg c (if s = 1 then (p : Int) + k else (p : Int) - k).toNat) = 0 then (if s = 1 then (p : Int) + k else (p : Int) - k)
    else rf_ml c p s n (d + rf_dd s (rf_sg c (if s = 1 then (p : Int) + k else (p : Int) - k).toNat)) (k + 1)
def rf_mt (c p : Nat) : Int := if rf_sg c p = 0 then -1 else rf_ml c p (rf_sg c p) 6 0 0
theorem rf_ml_b (c p s n : Nat) : ∀ d k, -2 ≤ rf_ml c p s n d k ∧ rf_ml c p s n d k < 6 := by
  induction n with
  | zero => intro d k; unfold rf_ml; omega
  | succ n ih =>
    intro d k
    unfold rf_ml
    generalize (if s = 1 then (p : Int) + k else (p : Int) - k) = q
    by_cases h : q < 0 ∨ 6 ≤ q
    · rw [if_pos h]
      exact ih _ _
    · rw [if_neg h]
      split
      · omega
      · exact ih _ _
theorem rf_mt_b (c p : Nat) : -2 ≤ rf_mt c p ∧ rf_mt c p < 6 := by
  unfold rf_mt
  split
  · omega
  · exact rf_ml_b _ _ _ _ _ _
theorem rf_m17 {post : Int32 → Prop} {c p s : Nat} (hc : c < 729) (hp : p < 6) (hs : s = 1 ∨ s = 2) (n : Nat) : ∀ (d : Int) (k : Nat), k + n = 6 → -(k : Int) ≤ d → d ≤ k → post (Int32.ofInt (rf_ml c p s n d k)) →
    wL_mate_17 post (nI c) (nI p) (nI s) (n + 1) (Int32.ofInt d) (nI k) := by
  induction n with
  | zero =>
    intro d k hk h1 h2 H
    exact pk_le 6 k (fun _ => H) (fun z => absurd z (by omega))
  | succ n ih =>
    intro d k hk h1 h2 H
    have main : ∀ q : Int, -6 ≤ q → q ≤ 12 → post (Int32.ofInt (if q < 0 ∨ 6 ≤ q then rf_ml c p s n d (k + 1) else if d + rf_dd s (rf_sg c q.toNat) = 0 then q else rf_ml c p s n (d + rf_dd s (rf_sg c q.toNat)) (k + 1))) →
        wL_mate_40 post (wL_mate_17 post (nI c) (nI p) (nI s) (n + 1)) (nI c) (nI p) (nI s) (Int32.ofInt d) (nI k) (Int32.ofInt q) := by
      intro q q1 q2 Hq
      have nx : ∀ d' : Int, -((k : Int) + 1) ≤ d' → d' ≤ (k : Int) + 1 → post (Int32.ofInt (rf_ml c p s n d' (k + 1))) → wL_mate_17 post (nI c) (nI p) (nI s) (n + 1) (Int32.ofInt d') (nI (k + 1)) :=
        fun d' g1 g2 g3 => ih d' (k + 1) (by omega) (by omega) (by omega) g3
      unfold wL_mate_40
      rw [show (0 : Int32) = Int32.ofInt 0 from rfl, show (6 : Int32) = Int32.ofInt 6 from rfl]
      refine br_c (fun g => ?_) (fun g => br_c (fun g2 => ?_) (fun g2 => ?_))
      · rw [rf_olt (by omega) (by omega) (by omega) (by omega)] at g
        rw [if_pos (Or.inl g)] at Hq
        exact nm_r (nI_1 k) (nx d (by omega) (by omega) Hq)
      · rw [rf_ole (by omega) (by omega) (by omega) (by omega)] at g2
        rw [if_pos (Or.inr g2)] at Hq
        exact nm_r (nI_1 k) (nx d (by omega) (by omega) Hq)
      · rw [rf_olt (by omega) (by omega) (by omega) (by omega)] at g
        rw [rf_ole (by omega) (by omega) (by omega) (by omega)] at g2
        rw [if_neg (by omega)] at Hq
        have eq : Int32.ofInt q = nI q.toNat := by
          rw [rf_nI, Int.toNat_of_nonneg (by omega)]
        have fin : ∀ e : Int, rf_dd s (rf_sg c q.toNat) = e → -1 ≤ e → e ≤ 1 → wL_mate_83 post (wL_mate_17 post (nI c) (nI p) (nI s) (n + 1)) (nI c) (nI p) (nI s) (nI k) (Int32.ofInt q) (Int32.ofInt e) (Int32.ofInt d) := by
          intro e he e1 e2
          rw [he] at Hq
          refine nm_r (e' := Int32.ofInt (d + e)) (Int32.ofInt_add d e).symm ?_
          rw [show (0 : Int32) = Int32.ofInt 0 from rfl]
          refine br_c (fun g3 => ?_) (fun g3 => ?_)
          · rw [rf_oeq (by omega) (by omega) (by omega) (by omega)] at g3
            rw [if_pos g3] at Hq
            exact Hq
          · rw [rf_oeq (by omega) (by omega) (by omega) (by omega)] at g3
            rw [if_neg g3] at Hq
            exact nm_r (nI_1 k) (nx (d + e) (by omega) (by omega) Hq)
        have hs3 := rf_sg_lt c q.toNat
        unfold rf_dd at fin
        rw [eq]
        refine rf_sign hc (by omega) (pk_eq (rf_sg c q.toNat) s (fun g3 => ?_) (fun g3 => pk_eq (rf_sg c q.toNat) 0 (fun g4 => ?_) (fun g4 => ?_)))
        · rw [← eq]
          exact fin 1 (if_pos g3) (by omega) (by omega)
        · rw [← eq]
          exact fin 0 (by rw [if_neg g3, if_pos g4]) (by omega) (by omega)
        · rw [← eq]
          have hh := fin (-1) (by rw [if_neg g3, if_neg g4]) (by omega) (by omega)
          rw [show Int32.ofInt (-1) = -1 by decide] at hh
          exact hh
    unfold rf_ml at H
    refine pk_le 6 k (fun z => absurd z (by omega)) (fun z => pk_eq s 1 (fun g => ?_) (fun g => ?_))
    · rw [if_pos g] at H
      rw [nI_add, rf_nI (p + k), show ((p + k : Nat) : Int) = (p : Int) + k by omega]
      exact main _ (by omega) (by omega) H
    · rw [if_neg g] at H
      rw [show nI p - nI k = Int32.ofInt ((p : Int) - k) by rw [Int32.ofInt_sub, ← rf_nI, ← rf_nI]]
      exact main _ (by omega) (by omega) H
theorem rf_mate {post : Int32 → Prop} {c p : Nat} (hc : c < 729) (hp : p < 6) (H : post (Int32.ofInt (rf_mt c p))) : wpL_mate post () (nI c) (nI p) := by
  have hs := rf_sg_lt c p
  unfold rf_mt at H
  refine rf_sign hc hp (pk_eq (rf_sg c p) 0 (fun z => ?_) (fun z => ⟨7, ?_⟩))
  · rw [if_pos z] at H
    exact H
  · rw [if_neg z] at H
    exact rf_m17 hc hp (by omega) 6 0 0 (by omega) (by omega) (by omega) H
theorem rf_mateX {post : Int32 → Prop} {x : Int32} {c p : Nat} (hc : c < 729) (hp : p < 6) (hx : x = nI p) (H : post (Int32.ofInt (rf_mt c p))) : wpL_mate post () (nI c) x := by
  rw [hx]
  exact rf_mate hc hp H
def rf_kq (x y : Int32) : Int32 := if x + y = 3 then (if x = 0 then 0 else if x = 3 then 0 else 1) else if x + y = 5 then 2 else -1
theorem rf_kq_d : ∀ i, i < 4 → ∀ j, j < 4 → rf_kq (nI i) (nI j) = rf_kd (nI i) (nI j) := by decide +kernel
theorem rf_kind {post : Int32 → Prop} {x y : Int32} (H : post (rf_kq x y)) : wpL_kind post () x y := by
  unfold rf_kq at H
  refine br_c (fun g => br_c (fun g2 => ?_) (fun g2 => br_c (fun g3 => ?_) (fun g3 => ?_))) (fun g => br_c (fun g2 => ?_) (fun g2 => ?_))
  · rw [if_pos g, if_pos g2] at H
    exact H
  · rw [if_pos g, if_neg g2, if_pos g3] at H
    exact H
  · rw [if_pos g, if_neg g2, if_neg g3] at H
    exact H
  · rw [if_neg g, if_pos g2] at H
    exact H
  · rw [if_neg g, if_neg g2] at H
    exact H
def rf_bs (x0 x : Int32) : Int32 := (x0 >>> ((2 * x) &&& 31)) &&& 3
def rf_tn (x1 x : Int32) : Int32 := ((x1 >>> ((4 * x) &&& 31)) &&& 15) - ((x1 >>> ((4 * x) &&& 31)) &&& 15) / 12 * 12
theorem rf_bs_4 (x0 x : Int32) : ∃ j, j < 4 ∧ rf_bs x0 x = nI j := by
  obtain ⟨j, h1, h2⟩ := pk_andE (x0 >>> ((2 * x) &&& 31)) (m := 3) 2 (by decide)
  exact ⟨j, h1, h2⟩
theorem rf_tn_12 (x1 x : Int32) : ∃ j, j < 12 ∧ rf_tn x1 x = nI j := by
  obtain ⟨j, h1, h2⟩ := pk_andE (x1 >>> ((4 * x) &&& 31)) (m := 15) 4 (by decide)
  refine ⟨j % 12, Nat.mod_lt _ (by omega), ?_⟩
  unfold rf_tn
  rw [h2, show (12 : Int32) = nI 12 from rfl, pk_rem (by omega) (by omega) (by omega)]
theorem rf_base {post : Int32 → Prop} {x0 x : Int32} (H : post (rf_bs x0 x)) : wpL_base post () x0 x := H
theorem rf_tuned {post : Int32 → Prop} {x1 x : Int32} (H : post (rf_tn x1 x)) : wpL_tuned post () x1 x := ⟨by decide, H⟩
/-! the atoms that the law reads off a code -/
def rf_wl (c j : Nat) : Nat → Nat → Nat → Nat
  | 0 => fun w _ => w
  | n + 1 => fun w p => if p < j ∧ (p : Int) < rf_mt c p then rf_wl c j n (w + 1) ((rf_mt c p).toNat + 1) else rf_wl c j n w (p + 1)
def rf_lt (c i j : Nat) : Nat := if rf_wl c j 5 0 (i + 1) = 0 then 0 else if rf_wl c j 5 0 (i + 1) = 1 then (if rf_mt c (i + 1) = (j : Int) - 1 then 1 else 2) else 3
theorem rf_lt_4 (c i j : Nat) : ¬ rf_lt c i j = 4 := by
  unfold rf_lt
  split
  · omega
  · split
    · split <;> omega
    · omega
theorem rf_wl_b (c j n : Nat) : ∀ w p, rf_wl c j n w p ≤ w + n := by
  induction n with
  | zero => intro w p; exact Nat.le_refl _
  | succ n ih =>
    intro w p
    unfold rf_wl
    split
    · have := ih (w + 1) ((rf_mt c p).toNat + 1)
      omega
    · have := ih w (p + 1)
      omega
section
variable {gap x0 x1 : Int32} {a1 a4 : Nat → Int32}
theorem rf_sl94 {post : Int32 → Prop} {J : Int32 → Int32 → Prop} {c i j k : Nat} {sum : Int} (hc : c < 729) (hij : i < j) (hj : j < 6) (hk : k < 3) (ek : rf_kd (a1 i) (a1 j) = nI k) (h4 : ∀ i, i < 6 → a4 i = rf_tn x1 (nI i))
    (H : J (Int32.ofInt (sum + rf_C a1 a4 (i, j, rf_lt c i j))) (nI (i + 1)))
    (n : Nat) : ∀ (w p : Nat), n ≤ 5 → w + n ≤ 5 → p + n ≤ 20 → rf_wl c j n w p = rf_wl c j 5 0 (i + 1) →
      wL_score_94 post J x0 x1 gap (nI c) (Int32.ofInt sum) (nI i) (nI j) (nI k) (n + 1) (nI w) (nI p) (nI (5 - n)) := by
  have ow : rf_ow a1 a4 i j = (a4 k).toInt := by
    unfold rf_ow
    rw [ek, nI_clamp (by omega)]
  induction n with
  | zero =>
    intro w p hn hw hp he
    have he' : w = rf_wl c j 5 0 (i + 1) := he
    refine pk_le 5 (5 - 0) (fun _ => rf_tuned ?_) (fun z => absurd z (by omega))
    rw [← h4 k (by omega)]
    refine nm_e ?_
    have fin : ∀ (v : Int32), (w ≤ 1 → v = Int32.ofInt (sum + rf_C a1 a4 (i, j, rf_lt c i j))) → (1 < w → v - a4 5 = Int32.ofInt (sum + rf_C a1 a4 (i, j, rf_lt c i j))) →
        wL_score_206 post J x0 x1 gap (nI c) v (nI i) (nI w) := by
      intro v v1 v2
      refine pk_le w 1 (fun z => nm_r (nI_1 i) ?_) (fun z => rf_tuned (nm_r (e' := Int32.ofInt (sum + rf_C a1 a4 (i, j, rf_lt c i j))) ?_ (nm_r (nI_1 i) H)))
      · rw [v1 z]
        exact H
      · rw [← v2 z, h4 5 (by omega)]
        rfl
    have hcv : ∀ t, rf_lt c i j = t → rf_C a1 a4 (i, j, rf_lt c i j) = rf_C a1 a4 (i, j, t) := fun t e => by rw [e]
    refine pk_eq w 1 (fun z => rf_mateX (p := i + 1) hc (by omega) (nI_1 i) ?_) (fun z => fin _ (fun g => ?_) (fun g => ?_))
    · have hb := rf_mt_b c (i + 1)
      rw [show nI j - 1 = Int32.ofInt ((j : Int) - 1) by rw [Int32.ofInt_sub, ← rf_nI]; rfl]
      refine br_c (fun g => rf_tuned (nm_e (fin _ (fun _ => ?_) (fun z2 => absurd z2 (by omega))))) (fun g => rf_tuned (nm_e (fin _ (fun _ => ?_) (fun z2 => absurd z2 (by omega)))))
      · rw [rf_oeq (by omega) (by omega) (by omega) (by omega)] at g
        have e : rf_lt c i j = 1 := by
          unfold rf_lt
          rw [← he', if_neg (by omega), if_pos z, if_pos g]
        rw [hcv 1 e, show rf_C a1 a4 (i, j, 1) = rf_ow a1 a4 i j + (a4 3).toInt from rfl, ow, Int32.ofInt_add, Int32.ofInt_add, Int32.ofInt_toInt, Int32.ofInt_toInt, show rf_tn x1 3 = a4 3 from (h4 3 (by omega)).symm]
        grind
      · rw [rf_oeq (by omega) (by omega) (by omega) (by omega)] at g
        have e : rf_lt c i j = 2 := by
          unfold rf_lt
          rw [← he', if_neg (by omega), if_pos z, if_neg g]
        rw [hcv 2 e, show rf_C a1 a4 (i, j, 2) = rf_ow a1 a4 i j - (a4 4).toInt from rfl, ow, Int32.ofInt_add, Int32.ofInt_sub, Int32.ofInt_toInt, Int32.ofInt_toInt, show rf_tn x1 4 = a4 4 from (h4 4 (by omega)).symm]
        grind
    · have e : rf_lt c i j = 0 := by
        unfold rf_lt
        rw [← he', if_pos (by omega)]
      rw [hcv 0 e, show rf_C a1 a4 (i, j, 0) = rf_ow a1 a4 i j from rfl, ow, Int32.ofInt_add, Int32.ofInt_toInt]
    · have e : rf_lt c i j = 3 := by
        unfold rf_lt
        rw [← he', if_neg (by omega), if_neg (by omega)]
      rw [hcv 3 e, show rf_C a1 a4 (i, j, 3) = rf_ow a1 a4 i j - (a4 5).toInt from rfl, ow, Int32.ofInt_add, Int32.ofInt_sub, Int32.ofInt_toInt, Int32.ofInt_toInt]
      grind
  | succ n ih =>
    intro w p hn hw hp he
    have e5 : nI (5 - (n + 1)) + 1 = nI (5 - n) := by
      rw [nI_1]
      congr 1
      omega
    have main : ∀ m : Int, -2 ≤ m → m < 6 → (if (p : Int) < m then rf_wl c j n (w + 1) (m.toNat + 1) else rf_wl c j n w (p + 1)) = rf_wl c j 5 0 (i + 1) →
        wL_score_117 post J (wL_score_94 post J x0 x1 gap (nI c) (Int32.ofInt sum) (nI i) (nI j) (nI k) (n + 1)) x0 x1 gap (nI c) (Int32.ofInt sum) (nI i) (nI j) (nI k) (nI w) (nI p) (nI (5 - (n + 1))) (Int32.ofInt m) := by
      intro m m1 m2 hm
      have hle : Int32.ofInt m ≤ nI p ↔ m ≤ (p : Int) := by
        rw [rf_nI p]
        exact rf_ole (by omega) (by omega) (by omega) (by omega)
      refine br_c (fun g => br_t g ?_) (fun g => nm_r (nI_1 w) (br_f g ?_))
      · rw [hle] at g
        rw [if_neg (by omega)] at hm
        exact nm_r (nI_1 p) (nm_r e5 (ih w (p + 1) (by omega) (by omega) (by omega) hm))
      · rw [hle] at g
        rw [if_pos (by omega)] at hm
        have em : Int32.ofInt m + 1 = nI (m.toNat + 1) := by
          rw [← nI_1, rf_nI m.toNat, Int.toNat_of_nonneg (by omega)]
        exact nm_r em (nm_r e5 (ih (w + 1) (m.toNat + 1) (by omega) (by omega) (by omega) hm))
    unfold rf_wl at he
    refine pk_le 5 (5 - (n + 1)) (fun z => absurd z (by omega)) (fun z => pk_le j p (fun g => ?_) (fun g => rf_mate hc (by omega) (main _ (rf_mt_b c p).1 (rf_mt_b c p).2 ?_)))
    · rw [if_neg (by omega)] at he
      have hh := main (-1) (by omega) (by omega) (by rw [if_neg (by omega)]; exact he)
      rw [show Int32.ofInt (-1) = -1 by decide] at hh
      exact hh
    · by_cases g2 : (p : Int) < rf_mt c p
      · rw [if_pos ⟨g, g2⟩] at he
        rw [if_pos g2]
        exact he
      · rw [if_neg (fun q => g2 q.2)] at he
        rw [if_neg g2]
        exact he
end
def rf_ag (c : Nat) : Nat → Nat → Option rf_Fo
  | 0 => fun _ => some []
  | n + 1 => fun i => if rf_mt c i = -2 then none else if rf_mt c i ≤ (i : Int) then rf_ag c n (i + 1) else (rf_ag c n (i + 1)).map (fun f => (i, (rf_mt c i).toNat, rf_lt c i (rf_mt c i).toNat) :: f)
def rf_lv (gap : Int32) (a1 a4 : Nat → Int32) (o : Option rf_Fo) : Option Int := o.bind (fun f => if f.all (rf_V0 gap a1) then some (rf_sc (rf_C a1 a4) f) else none)
def rf_fin (sum : Int) (o : Option Int) : Int32 := match o with
  | none => -1000
  | some v => Int32.ofInt (sum + v)
section
variable {gap x0 x1 : Int32} {a1 a4 : Nat → Int32}
theorem rf_sl6 {post : Int32 → Prop} {c : Nat} (hc : c < 729) (h1 : ∀ i, i < 6 → a1 i = rf_bs x0 (nI i)) (h4 : ∀ i, i < 6 → a4 i = rf_tn x1 (nI i)) (n : Nat) : ∀ (i : Nat) (sum : Int), i + n = 6 → post (rf_fin sum (rf_lv gap a1 a4 (rf_ag c n i))) →
    wL_score_6 post x0 x1 gap (nI c) (n + 1) (Int32.ofInt sum) (nI i) := by
  induction n with
  | zero =>
    intro i sum hi H
    have e : rf_fin sum (rf_lv gap a1 a4 (rf_ag c 0 i)) = Int32.ofInt sum := by
      show Int32.ofInt (sum + 0) = Int32.ofInt sum
      rw [Int.add_zero]
    rw [e] at H
    exact pk_le 6 i (fun _ => H) (fun z => absurd z (by omega))
  | succ n ih =>
    intro i sum hi H
    unfold rf_ag at H
    have hb := rf_mt_b c i
    refine pk_le 6 i (fun z => absurd z (by omega)) (fun _ => rf_mate hc (by omega) ?_)
    have e2 : Int32.ofInt (rf_mt c i) = -2 ↔ rf_mt c i = -2 := by
      rw [show (-2 : Int32) = Int32.ofInt (-2) by decide]
      exact rf_oeq (by omega) (by omega) (by omega) (by omega)
    have e3 : Int32.ofInt (rf_mt c i) ≤ nI i ↔ rf_mt c i ≤ (i : Int) := by
      rw [rf_nI i]
      exact rf_ole (by omega) (by omega) (by omega) (by omega)
    refine br_c (fun g => ?_) (fun g => br_c (fun g2 => ?_) (fun g2 => rf_base (rf_base ?_)))
    · rw [e2] at g
      rw [if_pos g] at H
      exact H
    · rw [e2] at g
      rw [e3] at g2
      rw [if_neg g, if_pos g2] at H
      exact nm_r (nI_1 i) (ih (i + 1) sum (by omega) H)
    · rw [e2] at g
      rw [e3] at g2
      rw [if_neg g, if_neg g2] at H
      obtain ⟨j, ej⟩ : ∃ j : Nat, rf_mt c i = (j : Int) := ⟨(rf_mt c i).toNat, (Int.toNat_of_nonneg (by omega)).symm⟩
      rw [ej] at hb g2
      rw [ej, Int.toNat_natCast] at H
      rw [ej, ← rf_nI]
      have hij : i < j := by omega
      have hj : j < 6 := by omega
      rw [← h1 i (by omega), ← h1 j hj]
      obtain ⟨u, hu, eu⟩ := rf_bs_4 x0 (nI i)
      obtain ⟨v, hv, ev⟩ := rf_bs_4 x0 (nI j)
      rw [← h1 i (by omega)] at eu
      rw [← h1 j hj] at ev
      have ekq : rf_kq (a1 i) (a1 j) = rf_kd (a1 i) (a1 j) := by
        rw [eu, ev]
        exact rf_kq_d u hu v hv
      have eV : rf_V0 gap a1 (i, j, rf_lt c i j) = rf_fit gap a1 i j := if_neg (rf_lt_4 c i j)
      have bad : rf_fit gap a1 i j = false → post (-1000) := by
        intro hf
        have e : rf_lv gap a1 a4 ((rf_ag c n (i + 1)).map (fun f => (i, j, rf_lt c i j) :: f)) = none := by
          unfold rf_lv
          cases rf_ag c n (i + 1) with
          | none => rfl
          | some f =>
            show (if List.all ((i, j, rf_lt c i j) :: f) (rf_V0 gap a1) then some (rf_sc (rf_C a1 a4) ((i, j, rf_lt c i j) :: f)) else none) = none
            rw [List.all_cons, eV, hf]
            rfl
        rw [e] at H
        exact H
      unfold rf_fit at bad eV
      refine rf_kind ?_
      rw [ekq]
      refine br_c (fun g3 => bad ?_) (fun g3 => br_c (fun g4 => ?_) (fun g4 => bad ?_))
      · rw [decide_eq_false (p := ¬ rf_kd (a1 i) (a1 j) < 0) (not_not_intro g3), Bool.and_false]
      · obtain ⟨k, hk, ek⟩ := rf_kd_n g3
        rw [ek]
        refine nm_r (nI_1 i) ⟨6, rf_sl94 hc hij hj hk ek h4 ?_ 5 0 (i + 1) (by omega) (by omega) (by omega) rfl⟩
        refine ih (i + 1) _ (by omega) ?_
        have ef : rf_V0 gap a1 (i, j, rf_lt c i j) = true := by
          rw [eV, decide_eq_true (Int32.not_le.mpr g4), decide_eq_true g3]
          rfl
        have e : rf_fin sum (rf_lv gap a1 a4 ((rf_ag c n (i + 1)).map (fun f => (i, j, rf_lt c i j) :: f))) = rf_fin (sum + rf_C a1 a4 (i, j, rf_lt c i j)) (rf_lv gap a1 a4 (rf_ag c n (i + 1))) := by
          unfold rf_lv
          cases rf_ag c n (i + 1) with
          | none => rfl
          | some f =>
            show rf_fin sum (if List.all ((i, j, rf_lt c i j) :: f) (rf_V0 gap a1) then some (rf_sc (rf_C a1 a4) ((i, j, rf_lt c i j) :: f)) else none) = rf_fin _ (if f.all (rf_V0 gap a1) then some (rf_sc (rf_C a1 a4) f) else none)
            rw [List.all_cons, ef, Bool.true_and]
            by_cases hf : f.all (rf_V0 gap a1) = true
            · rw [if_pos hf, if_pos hf]
              show Int32.ofInt (sum + (rf_C a1 a4 (i, j, rf_lt c i j) + rf_sc (rf_C a1 a4) f)) = Int32.ofInt (sum + rf_C a1 a4 (i, j, rf_lt c i j) + rf_sc (rf_C a1 a4) f)
              rw [Int.add_assoc]
            · rw [if_neg hf, if_neg hf]
              rfl
        rw [e] at H
        exact H
      · rw [decide_eq_false (p := ¬ nI j - nI i ≤ gap) (not_not_intro (Int32.not_lt.mp g4)), Bool.false_and]
/-- the law's value of a code -/
def rf_lo (gap : Int32) (a1 a4 : Nat → Int32) (c : Nat) : Option Int := rf_lv gap a1 a4 (rf_ag c 6 0)
theorem rf_score {post : Int32 → Prop} {c : Nat} (hc : c < 729) (h1 : ∀ i, i < 6 → a1 i = rf_bs x0 (nI i)) (h4 : ∀ i, i < 6 → a4 i = rf_tn x1 (nI i)) (H : post (rf_fin 0 (rf_lo gap a1 a4 c))) : wpL_score post () x0 x1 gap (nI c) :=
  ⟨7, rf_sl6 hc h1 h4 6 0 0 (by omega) H⟩
end
end
section
/-! the codes of the 51 folds against the 729 codes -/
def rf_cv (t : rf_At) : Nat := if t.2.2 = 4 then 0 else 3 ^ (5 - t.1) + 2 * 3 ^ (5 - t.2.1)
def rf_code : rf_Fo → Nat
  | [] => 0
  | t :: f => rf_cv t + rf_code f
def rf_np (t : rf_At) : Bool := !(t.2.2 == 4)
def rf_isC (c : Nat) : Bool := (rf_ag c 6 0).isSome
def rf_c1 : Bool := ((List.range 729).filter rf_isC).isPerm (rf_AF.map rf_code)
def rf_c2 (f : rf_Fo) : Bool := match rf_ag (rf_code f) 6 0 with
  | some g => g.isPerm (f.filter rf_np)
  | none => false
def rf_c3 (f : rf_Fo) : Bool := f.all (fun t => if t.2.2 = 4 then rf_sg (rf_code f) t.1 == 0 else rf_sg (rf_code f) t.1 == 1 && rf_sg (rf_code f) t.2.1 == 2)
def rf_c4 (f : rf_Fo) (i : Nat) : Bool := f.any (fun t => if t.2.2 = 4 then t.1 == i else t.1 == i || t.2.1 == i)
def rf_c5 (f : rf_Fo) (p q : Nat) : Bool := f.all (rf_Wf p q) == decide (rf_mt (rf_code f) p = (q : Int))
theorem rf_d1 : rf_c1 = true := by decide +kernel
theorem rf_d2 : rf_AF.all rf_c2 = true := by decide +kernel
theorem rf_d3 : rf_AF.all rf_c3 = true := by decide +kernel
theorem rf_d4 : rf_AF.all (fun f => (List.range 6).all (rf_c4 f)) = true := by decide +kernel
theorem rf_d5 : rf_AF.all (fun f => (List.range 6).all (fun q => (List.range q).all (fun p => rf_c5 f p q))) = true := by decide +kernel
theorem rf_d6 : rf_AF.all (fun f => decide (rf_code f < 729)) = true := by decide +kernel
end
section
/-! what the folder counts is what the law counts -/
theorem rf_cd {f : rf_Fo} (hf : f ∈ rf_AF) : rf_code f < 729 := of_decide_eq_true (List.all_eq_true.mp rf_d6 f hf)
theorem rf_p1c : List.Perm ((List.range 729).filter rf_isC) (rf_AF.map rf_code) := List.isPerm_iff.mp rf_d1
theorem rf_sc_perm {C : rf_At → Int} {f g : rf_Fo} (h : List.Perm f g) : rf_sc C f = rf_sc C g := by
  induction h with
  | nil => rfl
  | cons x _ ih => rw [rf_sc, rf_sc, ih]
  | swap x y l =>
    rw [rf_sc, rf_sc, rf_sc, rf_sc]
    omega
  | trans _ _ ih1 ih2 => rw [ih1, ih2]
theorem rf_sc_np (a1 a4 : Nat → Int32) (f : rf_Fo) : rf_sc (rf_C a1 a4) (f.filter rf_np) = rf_sc (rf_C a1 a4) f := by
  induction f with
  | nil => rfl
  | cons t f ih =>
    by_cases h : t.2.2 = 4
    · have e : rf_np t = false := by
        unfold rf_np
        rw [h]
        rfl
      have e0 : rf_C a1 a4 t = 0 := by
        unfold rf_C
        rw [h]
        rfl
      rw [List.filter_cons, e, rf_sc, e0, ← ih]
      simp
    · have e : rf_np t = true := by
        unfold rf_np
        simp [h]
      rw [List.filter_cons, e, if_pos rfl, rf_sc, rf_sc, ih]
theorem rf_all_np (gap : Int32) (a1 : Nat → Int32) (f g : rf_Fo) (h : List.Perm g (f.filter rf_np)) : g.all (rf_V0 gap a1) = f.all (rf_V0 gap a1) := by
  rw [Bool.eq_iff_iff, List.all_eq_true, List.all_eq_true]
  refine ⟨fun H t ht => ?_, fun H t ht => ?_⟩
  · by_cases h4 : t.2.2 = 4
    · unfold rf_V0
      rw [if_pos h4]
    · refine H t (h.mem_iff.mpr (List.mem_filter.mpr ⟨ht, ?_⟩))
      unfold rf_np
      simp [h4]
  · exact H t (List.mem_filter.mp (h.mem_iff.mp ht)).1
theorem rf_p1 (gap : Int32) (a1 a4 : Nat → Int32) {f : rf_Fo} (hf : f ∈ rf_AF) : rf_lo gap a1 a4 (rf_code f) = if f.all (rf_V0 gap a1) then some (rf_sc (rf_C a1 a4) f) else none := by
  have h := List.all_eq_true.mp rf_d2 f hf
  unfold rf_c2 at h
  unfold rf_lo rf_lv
  cases hg : rf_ag (rf_code f) 6 0 with
  | none =>
    rw [hg] at h
    exact absurd h (by simp)
  | some g =>
    rw [hg] at h
    have hp : List.Perm g (f.filter rf_np) := List.isPerm_iff.mp h
    show (if g.all (rf_V0 gap a1) then some (rf_sc (rf_C a1 a4) g) else none) = _
    rw [rf_all_np gap a1 f g hp, rf_sc_perm hp, rf_sc_np]
theorem rf_p2 {gap : Int32} {a1 a4 : Nat → Int32} {c : Nat} (hc : c < 729) {v : Int} (h : rf_lo gap a1 a4 c = some v) : ∃ f, f ∈ rf_AF ∧ rf_code f = c ∧ f.all (rf_V0 gap a1) = true ∧ rf_sc (rf_C a1 a4) f = v := by
  have hs : rf_isC c = true := by
    unfold rf_isC
    unfold rf_lo rf_lv at h
    cases hg : rf_ag c 6 0 with
    | none =>
      rw [hg] at h
      exact absurd h (by simp)
    | some g => rfl
  have hm : c ∈ rf_AF.map rf_code := rf_p1c.mem_iff.mp (List.mem_filter.mpr ⟨List.mem_range.mpr hc, hs⟩)
  obtain ⟨f, hf, e⟩ := List.mem_map.mp hm
  have h1 := rf_p1 gap a1 a4 hf
  rw [e, h] at h1
  refine ⟨f, hf, e, ?_⟩
  by_cases ha : f.all (rf_V0 gap a1) = true
  · rw [if_pos ha] at h1
    exact ⟨ha, (Option.some.inj h1).symm⟩
  · rw [if_neg ha] at h1
    exact absurd h1 (by simp)
theorem rf_all_and (P Q : rf_At → Bool) (f : rf_Fo) : f.all (fun t => P t && Q t) = (f.all P && f.all Q) := by
  rw [Bool.eq_iff_iff, Bool.and_eq_true, List.all_eq_true, List.all_eq_true, List.all_eq_true]
  refine ⟨fun h => ⟨fun t ht => ?_, fun t ht => ?_⟩, fun h t ht => ?_⟩
  · have := h t ht
    rw [Bool.and_eq_true] at this
    exact this.1
  · have := h t ht
    rw [Bool.and_eq_true] at this
    exact this.2
  · rw [h.1 t ht, h.2 t ht]
    rfl
theorem rf_fmf {β : Type} (K : Nat → Bool) (g : Nat → Option β) (l : List Nat) (h : ∀ c, c ∈ l → K c = false → g c = none) : (l.filter K).filterMap g = l.filterMap g := by
  induction l with
  | nil => rfl
  | cons c l ih =>
    have ih' := ih (fun d hd => h d (by simp [hd]))
    cases hk : K c
    · rw [List.filter_cons, hk, List.filterMap_cons, h c (by simp) hk]
      exact ih'
    · rw [List.filter_cons, hk, if_pos rfl, List.filterMap_cons, List.filterMap_cons, ih']
theorem rf_fmc {α β : Type} (g h : α → Option β) (l : List α) (e : ∀ c, c ∈ l → g c = h c) : l.filterMap g = l.filterMap h := by
  induction l with
  | nil => rfl
  | cons c l ih => rw [List.filterMap_cons, List.filterMap_cons, e c (by simp), ih (fun d hd => e d (by simp [hd]))]
/-- the law's values of the codes below n of the kind K -/
def rf_LK (K : Nat → Bool) (gap : Int32) (a1 a4 : Nat → Int32) (n : Nat) : List Int := (List.range n).filterMap (fun c => if K c then rf_lo gap a1 a4 c else none)
theorem rf_perm (K : Nat → Bool) (WW : rf_At → Bool) (gap : Int32) (a1 a4 : Nat → Int32) (hK : ∀ f, f ∈ rf_AF → f.all WW = K (rf_code f)) :
    List.Perm (rf_LK K gap a1 a4 729) (rf_L (fun t => WW t && rf_V0 gap a1 t) (rf_C a1 a4) rf_AF) := by
  have e1 : rf_LK K gap a1 a4 729 = ((List.range 729).filter rf_isC).filterMap (fun c => if K c then rf_lo gap a1 a4 c else none) := by
    refine (rf_fmf rf_isC _ _ (fun c _ h => ?_)).symm
    have e : rf_lo gap a1 a4 c = none := by
      unfold rf_isC at h
      unfold rf_lo rf_lv
      cases hg : rf_ag c 6 0 with
      | none => rfl
      | some g =>
        rw [hg] at h
        exact absurd h (by simp)
    rw [e]
    split <;> rfl
  have e2 : (rf_AF.map rf_code).filterMap (fun c => if K c then rf_lo gap a1 a4 c else none) = rf_L (fun t => WW t && rf_V0 gap a1 t) (rf_C a1 a4) rf_AF := by
    rw [List.filterMap_map]
    unfold rf_L
    refine rf_fmc _ _ _ (fun f hf => ?_)
    show (if K (rf_code f) then rf_lo gap a1 a4 (rf_code f) else none) = _
    rw [rf_all_and, hK f hf, rf_p1 gap a1 a4 hf]
    cases K (rf_code f)
    · rfl
    · rw [Bool.true_and, if_pos rfl]
  rw [e1, ← e2]
  exact rf_p1c.filterMap _
theorem rf_perm0 (gap : Int32) (a1 a4 : Nat → Int32) : List.Perm (rf_LK (fun _ => true) gap a1 a4 729) (rf_Q gap a1 a4 (fun _ => 0)) :=
  rf_perm (fun _ => true) (rf_W (fun _ => 0)) gap a1 a4 (fun f hf => by
    rw [List.all_eq_true]
    intro t _
    unfold rf_W
    split <;> rfl)
def rf_Kf (p q : Nat) (c : Nat) : Bool := decide (rf_mt c p = (q : Int))
theorem rf_permF (gap : Int32) (a1 a4 : Nat → Int32) {p q : Nat} (hpq : p < q) (hq : q < 6) : List.Perm (rf_LK (rf_Kf p q) gap a1 a4 729) (rf_Qf gap a1 a4 p q) :=
  rf_perm (rf_Kf p q) (rf_Wf p q) gap a1 a4 (fun f hf => by
    have h := List.all_eq_true.mp (List.all_eq_true.mp (List.all_eq_true.mp rf_d5 f hf) q (List.mem_range.mpr hq)) p (List.mem_range.mpr hpq)
    unfold rf_c5 at h
    exact eq_of_beq h)
/-! digits -/
theorem rf_dig_eq {c c' : Nat} (hc : c < 729) (hc' : c' < 729) (h : ∀ i, i < 6 → rf_sg c i = rf_sg c' i) : c = c' := by
  have e0 : c / 243 % 3 = c' / 243 % 3 := h 0 (by omega)
  have e1 : c / 81 % 3 = c' / 81 % 3 := h 1 (by omega)
  have e2 : c / 27 % 3 = c' / 27 % 3 := h 2 (by omega)
  have e3 : c / 9 % 3 = c' / 9 % 3 := h 3 (by omega)
  have e4 : c / 3 % 3 = c' / 3 % 3 := h 4 (by omega)
  have e5 : c / 1 % 3 = c' / 1 % 3 := h 5 (by omega)
  omega
theorem rf_dig_lt {c c' i : Nat} (hc : c < 729) (hc' : c' < 729) (hi : i < 6) (h : ∀ j, j < i → rf_sg c j = rf_sg c' j) (hl : rf_sg c i < rf_sg c' i) : c < c' := by
  have k : ∀ d e : Nat, c / (3 * d) = c' / (3 * d) → e = d → c / e % 3 < c' / e % 3 → c / d < c' / d := by
    intro d e h1 h2 h3
    rw [h2] at h3
    have g1 : c / d / 3 = c' / d / 3 := by rw [Nat.div_div_eq_div_mul, Nat.div_div_eq_div_mul, Nat.mul_comm, h1]
    omega
  have q : ∀ d : Nat, c / d < c' / d → c < c' := by
    intro d h
    rcases Nat.lt_or_ge c c' with g | g
    · exact g
    · exact absurd (Nat.div_le_div_right (c := d) g) (by omega)
  have s : ∀ d : Nat, c / (3 * d) = c' / (3 * d) → c / d % 3 = c' / d % 3 → c / d = c' / d := by
    intro d h1 h3
    have g1 : c / d / 3 = c' / d / 3 := by rw [Nat.div_div_eq_div_mul, Nat.div_div_eq_div_mul, Nat.mul_comm, h1]
    omega
  have b0 : c / (3 * 243) = c' / (3 * 243) := by omega
  rcases Nat.lt_or_ge i 1 with g | g1
  · have e : i = 0 := by omega
    subst e
    exact q 243 (k 243 243 b0 rfl hl)
  · have b1 : c / (3 * 81) = c' / (3 * 81) := s 243 b0 (h 0 (by omega))
    rcases Nat.lt_or_ge i 2 with g | g2
    · have e : i = 1 := by omega
      subst e
      exact q 81 (k 81 81 b1 rfl hl)
    · have b2 : c / (3 * 27) = c' / (3 * 27) := s 81 b1 (h 1 (by omega))
      rcases Nat.lt_or_ge i 3 with g | g3
      · have e : i = 2 := by omega
        subst e
        exact q 27 (k 27 27 b2 rfl hl)
      · have b3 : c / (3 * 9) = c' / (3 * 9) := s 27 b2 (h 2 (by omega))
        rcases Nat.lt_or_ge i 4 with g | g4
        · have e : i = 3 := by omega
          subst e
          exact q 9 (k 9 9 b3 rfl hl)
        · have b4 : c / (3 * 3) = c' / (3 * 3) := s 9 b3 (h 3 (by omega))
          rcases Nat.lt_or_ge i 5 with g | g5
          · have e : i = 4 := by omega
            subst e
            exact q 3 (k 3 3 b4 rfl hl)
          · have b5 : c / (3 * 1) = c' / (3 * 1) := s 3 b4 (h 4 (by omega))
            have e : i = 5 := by omega
            subst e
            exact q 1 (k 1 1 b5 rfl hl)
theorem rf_p4 {f : rf_Fo} (hf : f ∈ rf_AF) (ak : Nat → Nat) : f.all (rf_W ak) = true ↔ ∀ i, i < 6 → ak i = 0 ∨ ak i = rf_sg (rf_code f) i + 1 := by
  have h3 := List.all_eq_true.mp (List.all_eq_true.mp rf_d3 f hf)
  have h4 := List.all_eq_true.mp rf_d4 f hf
  rw [List.all_eq_true] at h4 ⊢
  refine ⟨fun H i hi => ?_, fun H t ht => ?_⟩
  · obtain ⟨t, ht, hh⟩ := List.any_eq_true.mp (h4 i (List.mem_range.mpr hi))
    have k3 := h3 t ht
    have kW := H t ht
    unfold rf_W at kW
    by_cases h : t.2.2 = 4
    · rw [if_pos h] at hh k3 kW
      have e : t.1 = i := eq_of_beq hh
      have e0 := eq_of_beq k3
      have e1 := of_decide_eq_true kW
      rw [e] at e0 e1
      omega
    · rw [if_neg h] at hh k3 kW
      rw [Bool.and_eq_true] at k3 kW
      have e1 := eq_of_beq k3.1
      have e2 := eq_of_beq k3.2
      have g1 := of_decide_eq_true kW.1
      have g2 := of_decide_eq_true kW.2
      rw [Bool.or_eq_true] at hh
      rcases hh with hh | hh
      · have e : t.1 = i := eq_of_beq hh
        rw [e] at e1 g1
        omega
      · have e : t.2.1 = i := eq_of_beq hh
        rw [e] at e2 g2
        omega
  · have k3 := h3 t ht
    have hr := rf_rng hf ht
    have g1 := H t.1 hr.1
    have g2 := H t.2.1 hr.2
    unfold rf_W
    by_cases h : t.2.2 = 4
    · rw [if_pos h] at k3 ⊢
      have e0 := eq_of_beq k3
      rw [e0] at g1
      exact decide_eq_true (by omega)
    · rw [if_neg h] at k3 ⊢
      rw [Bool.and_eq_true] at k3
      have e1 := eq_of_beq k3.1
      have e2 := eq_of_beq k3.2
      rw [e1] at g1
      rw [e2] at g2
      rw [decide_eq_true (show ak t.1 = 0 ∨ ak t.1 = 2 by omega), decide_eq_true (show ak t.2.1 = 0 ∨ ak t.2.1 = 3 by omega)]
      rfl
theorem rf_Q_mem {gap : Int32} {a1 a4 : Nat → Int32} {ak : Nat → Nat} {x : Int} : x ∈ rf_Q gap a1 a4 ak ↔ ∃ f, f ∈ rf_AF ∧ (∀ i, i < 6 → ak i = 0 ∨ ak i = rf_sg (rf_code f) i + 1) ∧ rf_lo gap a1 a4 (rf_code f) = some x := by
  unfold rf_Q
  rw [rf_L_mem]
  refine ⟨fun ⟨f, hf, h1, h2⟩ => ⟨f, hf, ?_⟩, fun ⟨f, hf, h1, h2⟩ => ⟨f, hf, ?_⟩⟩
  · rw [rf_all_and, Bool.and_eq_true] at h1
    refine ⟨(rf_p4 hf ak).mp h1.1, ?_⟩
    rw [rf_p1 gap a1 a4 hf, if_pos h1.2, h2]
  · rw [rf_p1 gap a1 a4 hf] at h2
    rw [rf_all_and, Bool.and_eq_true]
    by_cases ha : f.all (rf_V0 gap a1) = true
    · rw [if_pos ha] at h2
      exact ⟨⟨(rf_p4 hf ak).mpr h1, ha⟩, (Option.some.inj h2).symm⟩
    · rw [if_neg ha] at h2
      exact absurd h2 (by simp)
theorem rf_Q_at {gap : Int32} {a1 a4 : Nat → Int32} {ak : Nat → Nat} {x : Int} : x ∈ rf_Q gap a1 a4 ak ↔ ∃ c, c < 729 ∧ (∀ i, i < 6 → ak i = 0 ∨ ak i = rf_sg c i + 1) ∧ rf_lo gap a1 a4 c = some x := by
  rw [rf_Q_mem]
  refine ⟨fun ⟨f, hf, h1, h2⟩ => ⟨rf_code f, rf_cd hf, h1, h2⟩, fun ⟨c, hc, h1, h2⟩ => ?_⟩
  obtain ⟨f, hf, e, _⟩ := rf_p2 hc h2
  subst e
  exact ⟨f, hf, h1, h2⟩
theorem rf_p5 {gap : Int32} {a1 a4 : Nat → Int32} {c : Nat} (hc : c < 729) {r : Int32} (h : rf_ans (rf_Q gap a1 a4 (fun i => rf_sg c i + 1)) r) : r = rf_fin 0 (rf_lo gap a1 a4 c) := by
  rcases h with ⟨h1, h2⟩ | ⟨m, h1, _, h2⟩
  · cases hl : rf_lo gap a1 a4 c with
    | none => exact h2
    | some v =>
      have : v ∈ rf_Q gap a1 a4 (fun i => rf_sg c i + 1) := rf_Q_at.mpr ⟨c, hc, fun i hi => Or.inr rfl, hl⟩
      rw [h1] at this
      exact absurd this (by simp)
  · obtain ⟨d, hd, k1, k2⟩ := rf_Q_at.mp h1
    have e : c = d := rf_dig_eq hc hd (fun i hi => by have := k1 i hi; omega)
    rw [e, k2, h2]
    show Int32.ofInt m = Int32.ofInt (0 + m)
    rw [Int.zero_add]
theorem rf_p6 {gap : Int32} {a1 a4 : Nat → Int32} {m : Int} {cb : Nat} (hx : ∀ x, x ∈ rf_Q gap a1 a4 (fun _ => 0) → x ≤ m) (hc : cb < 729) (h1 : rf_lo gap a1 a4 cb = some m) (h2 : ∀ c, c < cb → ¬ rf_lo gap a1 a4 c = some m) : rf_cbok gap a1 a4 m cb := by
  refine ⟨hc, fun i hi h k1 k2 k3 => ⟨fun x hx2 => ?_, ⟨fun hm => ?_, fun hh => ?_⟩⟩⟩
  · obtain ⟨d, hd, _, g2⟩ := rf_Q_at.mp hx2
    exact hx x (rf_Q_at.mpr ⟨d, hd, fun i _ => Or.inl rfl, g2⟩)
  · obtain ⟨d, hd, g1, g2⟩ := rf_Q_at.mp hm
    have gi : h = rf_sg d i + 1 := by
      have := g1 i hi
      unfold rf_ak at this
      rw [if_neg (by omega), if_pos rfl] at this
      omega
    have gj : ∀ j, j < i → rf_sg d j = rf_sg cb j := by
      intro j hj
      have := g1 j (by omega)
      unfold rf_ak at this
      rw [if_pos hj] at this
      omega
    rcases Nat.lt_or_ge (rf_sg d i) (rf_sg cb i) with g | g
    · exact absurd g2 (h2 d (rf_dig_lt hd hc hi gj g))
    · omega
  · refine rf_Q_at.mpr ⟨cb, hc, fun j hj => ?_, h1⟩
    unfold rf_ak
    by_cases e1 : j < i
    · rw [if_pos e1]
      exact Or.inr rfl
    · rw [if_neg e1]
      by_cases e2 : j = i
      · rw [if_pos e2, e2]
        exact Or.inr hh
      · rw [if_neg e2]
        exact Or.inl rfl
end
section
/-! the law's own counting -/
theorem rf_LK_s (K : Nat → Bool) (gap : Int32) (a1 a4 : Nat → Int32) (n : Nat) : rf_LK K gap a1 a4 (n + 1) = rf_LK K gap a1 a4 n ++ (if K n then rf_lo gap a1 a4 n else none).toList := by
  unfold rf_LK
  rw [List.range_succ, List.filterMap_append]
  congr 1
theorem rf_LK_mem {K : Nat → Bool} {gap : Int32} {a1 a4 : Nat → Int32} {n : Nat} {x : Int} (h : x ∈ rf_LK K gap a1 a4 n) : ∃ c, c < n ∧ rf_lo gap a1 a4 c = some x := by
  unfold rf_LK at h
  obtain ⟨c, hc, e⟩ := List.mem_filterMap.mp h
  refine ⟨c, List.mem_range.mp hc, ?_⟩
  cases hk : K c
  · rw [hk] at e
    exact absurd e (by simp)
  · rw [hk, if_pos rfl] at e
    exact e
theorem rf_LK_in {gap : Int32} {a1 a4 : Nat → Int32} {n c : Nat} {x : Int} (hc : c < n) (h : rf_lo gap a1 a4 c = some x) : x ∈ rf_LK (fun _ => true) gap a1 a4 n := by
  unfold rf_LK
  exact List.mem_filterMap.mpr ⟨c, List.mem_range.mpr hc, h⟩
theorem rf_lo_b {gap : Int32} {a1 a4 : Nat → Int32} (ht : ∀ k, k < 6 → 0 ≤ (a4 k).toInt ∧ (a4 k).toInt ≤ 20) {c : Nat} (hc : c < 729) {x : Int} (h : rf_lo gap a1 a4 c = some x) : -600 ≤ x ∧ x ≤ 600 :=
  rf_Q_b (ak := fun _ => 0) ht (rf_Q_at.mpr ⟨c, hc, fun _ _ => Or.inl rfl, h⟩)
theorem rf_LK_b {K : Nat → Bool} {gap : Int32} {a1 a4 : Nat → Int32} (ht : ∀ k, k < 6 → 0 ≤ (a4 k).toInt ∧ (a4 k).toInt ≤ 20) {n : Nat} (hn : n ≤ 729) {x : Int} (h : x ∈ rf_LK K gap a1 a4 n) : -600 ≤ x ∧ x ≤ 600 := by
  obtain ⟨c, hc, e⟩ := rf_LK_mem h
  exact rf_lo_b ht (by omega) e
def rf_y1 (gap : Int32) (a1 a4 : Nat → Int32) (n : Nat) (x6 x7 x8 : Int32) : Prop :=
  (rf_LK (fun _ => true) gap a1 a4 n = [] ∧ x6 = -1000 ∧ x7 = 0 ∧ x8 = -1) ∨
  ∃ m cb, m ∈ rf_LK (fun _ => true) gap a1 a4 n ∧ (∀ x, x ∈ rf_LK (fun _ => true) gap a1 a4 n → x ≤ m) ∧ x6 = Int32.ofInt m ∧ x7 = nI ((rf_LK (fun _ => true) gap a1 a4 n).count m) ∧ x8 = nI cb ∧ cb < n ∧ rf_lo gap a1 a4 cb = some m ∧ ∀ c, c < cb → ¬ rf_lo gap a1 a4 c = some m
section
variable {gap : Int32} {a1 a4 : Nat → Int32} {n : Nat} {x6 x7 x8 : Int32} {v : Int}
theorem rf_LK_v {K : Nat → Bool} (hv : rf_lo gap a1 a4 n = some v) (hk : K n = true) : rf_LK K gap a1 a4 (n + 1) = rf_LK K gap a1 a4 n ++ [v] := by
  rw [rf_LK_s, hk, if_pos rfl, hv]
  rfl
theorem rf_y1_a (ht : ∀ k, k < 6 → 0 ≤ (a4 k).toInt ∧ (a4 k).toInt ≤ 20) (hn : n < 729) (hv : rf_lo gap a1 a4 n = some v) (h : rf_y1 gap a1 a4 n x6 x7 x8) (g : Int32.ofInt v = x6) : rf_y1 gap a1 a4 (n + 1) x6 (x7 + 1) x8 := by
  have hb := rf_lo_b ht hn hv
  rcases h with ⟨_, h2, _, _⟩ | ⟨m, cb, h1, h2, h3, h4, h5, h6, h7, h8⟩
  · rw [h2, show (-1000 : Int32) = Int32.ofInt (-1000) by decide, rf_oeq (by omega) (by omega) (by omega) (by omega)] at g
    omega
  · have hm := rf_LK_b ht (by omega) h1
    rw [h3, rf_oeq (by omega) (by omega) (by omega) (by omega)] at g
    subst g
    refine Or.inr ⟨v, cb, ?_, ?_, h3, ?_, h5, by omega, h7, h8⟩
    · rw [rf_LK_v hv rfl]
      exact List.mem_append_left _ h1
    · intro x hx
      rw [rf_LK_v hv rfl] at hx
      rcases List.mem_append.mp hx with k | k
      · exact h2 x k
      · rw [List.mem_singleton.mp k]
        exact Int.le_refl _
    · rw [rf_LK_v hv rfl, List.count_append, h4, nI_1]
      congr 2
      simp
theorem rf_y1_b (ht : ∀ k, k < 6 → 0 ≤ (a4 k).toInt ∧ (a4 k).toInt ≤ 20) (hn : n < 729) (hv : rf_lo gap a1 a4 n = some v) (h : rf_y1 gap a1 a4 n x6 x7 x8) (g : Int32.ofInt v ≤ x6) (g2 : ¬ Int32.ofInt v = x6) : rf_y1 gap a1 a4 (n + 1) x6 x7 x8 := by
  have hb := rf_lo_b ht hn hv
  rcases h with ⟨_, h2, _, _⟩ | ⟨m, cb, h1, h2, h3, h4, h5, h6, h7, h8⟩
  · rw [h2, show (-1000 : Int32) = Int32.ofInt (-1000) by decide, rf_ole (by omega) (by omega) (by omega) (by omega)] at g
    omega
  · have hm := rf_LK_b ht (by omega) h1
    rw [h3, rf_ole (by omega) (by omega) (by omega) (by omega)] at g
    rw [h3, rf_oeq (by omega) (by omega) (by omega) (by omega)] at g2
    refine Or.inr ⟨m, cb, ?_, ?_, h3, ?_, h5, by omega, h7, h8⟩
    · rw [rf_LK_v hv rfl]
      exact List.mem_append_left _ h1
    · intro x hx
      rw [rf_LK_v hv rfl] at hx
      rcases List.mem_append.mp hx with k | k
      · exact h2 x k
      · rw [List.mem_singleton.mp k]
        exact g
    · rw [rf_LK_v hv rfl, List.count_append, h4]
      congr 1
      simp [List.count_singleton, g2]
theorem rf_y1_c (ht : ∀ k, k < 6 → 0 ≤ (a4 k).toInt ∧ (a4 k).toInt ≤ 20) (hn : n < 729) (hv : rf_lo gap a1 a4 n = some v) (h : rf_y1 gap a1 a4 n x6 x7 x8) (g : ¬ Int32.ofInt v ≤ x6) : rf_y1 gap a1 a4 (n + 1) (Int32.ofInt v) (0 + 1) (nI n) := by
  have hb := rf_lo_b ht hn hv
  have hlt : ∀ x, x ∈ rf_LK (fun _ => true) gap a1 a4 n → x < v := by
    intro x hx
    rcases h with ⟨h1, _, _, _⟩ | ⟨m, cb, h1, h2, h3, h4, h5, h6, h7, h8⟩
    · rw [h1] at hx
      exact absurd hx (by simp)
    · have hm := rf_LK_b ht (by omega) h1
      rw [h3, rf_ole (by omega) (by omega) (by omega) (by omega)] at g
      have := h2 x hx
      omega
  refine Or.inr ⟨v, n, ?_, ?_, rfl, ?_, rfl, by omega, hv, ?_⟩
  · rw [rf_LK_v hv rfl]
    exact List.mem_append_right _ (by simp)
  · intro x hx
    rw [rf_LK_v hv rfl] at hx
    rcases List.mem_append.mp hx with k | k
    · have := hlt x k
      omega
    · rw [List.mem_singleton.mp k]
      exact Int.le_refl _
  · rw [rf_LK_v hv rfl, List.count_append, List.count_eq_zero.mpr (fun hx => by have := hlt v hx; omega)]
    simp
    rfl
  · intro c hc e
    have := hlt v (rf_LK_in hc e)
    omega
theorem rf_y1_n (hv : rf_lo gap a1 a4 n = none) (h : rf_y1 gap a1 a4 n x6 x7 x8) : rf_y1 gap a1 a4 (n + 1) x6 x7 x8 := by
  have e : rf_LK (fun _ => true) gap a1 a4 (n + 1) = rf_LK (fun _ => true) gap a1 a4 n := by
    rw [rf_LK_s, if_pos rfl, hv]
    exact List.append_nil _
  rcases h with ⟨h1, h2⟩ | ⟨m, cb, h1, h2, h3, h4, h5, h6, h7⟩
  · exact Or.inl ⟨by rw [e]; exact h1, h2⟩
  · exact Or.inr ⟨m, cb, by rw [e]; exact h1, by rw [e]; exact h2, h3, by rw [e]; exact h4, h5, by omega, h7⟩
end
def rf_y2 (K : Nat → Bool) (gap : Int32) (a1 a4 : Nat → Int32) (n : Nat) (x9 x10 : Int32) : Prop := x9 = nI (rf_LK K gap a1 a4 n).length ∧ rf_ans (rf_LK K gap a1 a4 n) x10
section
variable {K : Nat → Bool} {gap : Int32} {a1 a4 : Nat → Int32} {n : Nat} {x9 x10 : Int32} {v : Int}
theorem rf_y2_t (ht : ∀ k, k < 6 → 0 ≤ (a4 k).toInt ∧ (a4 k).toInt ≤ 20) (hn : n < 729) (hv : rf_lo gap a1 a4 n = some v) (hk : K n = true) (h : rf_y2 K gap a1 a4 n x9 x10) :
    (Int32.ofInt v ≤ x10 → rf_y2 K gap a1 a4 (n + 1) (x9 + 1) x10) ∧ (¬ Int32.ofInt v ≤ x10 → rf_y2 K gap a1 a4 (n + 1) (x9 + 1) (Int32.ofInt v)) := by
  have hb := rf_lo_b ht hn hv
  have h9 : x9 + 1 = nI (rf_LK K gap a1 a4 (n + 1)).length := by
    rw [rf_LK_v hv hk, List.length_append, h.1, nI_1]
    rfl
  refine ⟨fun g => ⟨h9, ?_⟩, fun g => ⟨h9, Or.inr ⟨v, ?_, ?_, rfl⟩⟩⟩
  · rcases h.2 with ⟨_, h2⟩ | ⟨m, h1, h2, h3⟩
    · rw [h2, show (-1000 : Int32) = Int32.ofInt (-1000) by decide, rf_ole (by omega) (by omega) (by omega) (by omega)] at g
      omega
    · have hm := rf_LK_b ht (by omega) h1
      rw [h3, rf_ole (by omega) (by omega) (by omega) (by omega)] at g
      refine Or.inr ⟨m, ?_, fun x hx => ?_, h3⟩
      · rw [rf_LK_v hv hk]
        exact List.mem_append_left _ h1
      · rw [rf_LK_v hv hk] at hx
        rcases List.mem_append.mp hx with k | k
        · exact h2 x k
        · rw [List.mem_singleton.mp k]
          exact g
  · rw [rf_LK_v hv hk]
    exact List.mem_append_right _ (by simp)
  · intro x hx
    rw [rf_LK_v hv hk] at hx
    rcases List.mem_append.mp hx with k | k
    · rcases h.2 with ⟨h1, _⟩ | ⟨m, h1, h2, h3⟩
      · rw [h1] at k
        exact absurd k (by simp)
      · have hm := rf_LK_b ht (by omega) h1
        rw [h3, rf_ole (by omega) (by omega) (by omega) (by omega)] at g
        have := h2 x k
        omega
    · rw [List.mem_singleton.mp k]
      exact Int.le_refl _
theorem rf_y2_n (hv : K n = false ∨ rf_lo gap a1 a4 n = none) (h : rf_y2 K gap a1 a4 n x9 x10) : rf_y2 K gap a1 a4 (n + 1) x9 x10 := by
  have e : rf_LK K gap a1 a4 (n + 1) = rf_LK K gap a1 a4 n := by
    rw [rf_LK_s]
    have e0 : (if K n then rf_lo gap a1 a4 n else none) = none := by
      rcases hv with k | k
      · rw [k]
        rfl
      · rw [k]
        split <;> rfl
    rw [e0]
    exact List.append_nil _
  unfold rf_y2
  rw [e]
  exact h
end
/-- all that the law has counted below code n -/
def rf_inv (p q : Nat) (gap : Int32) (a1 a4 : Nat → Int32) (n : Nat) (x5 x6 x7 x8 x9 x10 : Int32) : Prop :=
  x5 = nI (rf_LK (fun _ => true) gap a1 a4 n).length ∧ rf_y1 gap a1 a4 n x6 x7 x8 ∧ rf_y2 (rf_Kf p q) gap a1 a4 n x9 x10
theorem rf_ans_u {L M : List Int} {r r' : Int32} (hp : List.Perm L M) (h : rf_ans L r) (h' : rf_ans M r') : r' = r := by
  rcases h with ⟨h1, h2⟩ | ⟨m, h1, h2, h3⟩
  · rcases h' with ⟨_, h2'⟩ | ⟨m', h1', _, _⟩
    · rw [h2, h2']
    · have := hp.mem_iff.mpr h1'
      rw [h1] at this
      exact absurd this (by simp)
  · rcases h' with ⟨h1', _⟩ | ⟨m', h1', h2', h3'⟩
    · have := hp.mem_iff.mp h1
      rw [h1'] at this
      exact absurd this (by simp)
    · have k1 := h2 m' (hp.mem_iff.mpr h1')
      have k2 := h2' m (hp.mem_iff.mp h1)
      rw [h3, h3', show m' = m by omega]
section
variable {p q : Nat} {gap : Int32} {a1 a4 : Nat → Int32} {x5 x6 x7 x8 x9 x10 : Int32}
theorem rf_e5 (h : rf_inv p q gap a1 a4 729 x5 x6 x7 x8 x9 x10) : nI (rf_Q gap a1 a4 (fun _ => 0)).length = x5 := by
  rw [h.1, (rf_perm0 gap a1 a4).length_eq]
theorem rf_e6 (h : rf_inv p q gap a1 a4 729 x5 x6 x7 x8 x9 x10) {r : Int32} (hr : rf_ans (rf_Q gap a1 a4 (fun _ => 0)) r) : r = x6 := by
  refine rf_ans_u (rf_perm0 gap a1 a4) ?_ hr
  rcases h.2.1 with ⟨h1, h2, _⟩ | ⟨m, cb, h1, h2, h3, _⟩
  · exact Or.inl ⟨h1, h2⟩
  · exact Or.inr ⟨m, h1, h2, h3⟩
theorem rf_e7 (h : rf_inv p q gap a1 a4 729 x5 x6 x7 x8 x9 x10) {s b a : Int32} (hr : rf_R (rf_Q gap a1 a4 (fun _ => 0)) s b a) : b = x7 := by
  have hp := rf_perm0 gap a1 a4
  rcases h.2.1 with ⟨h1, _, h3, _⟩ | ⟨m, cb, h1, h2, h3, h4, _⟩
  · rcases hr.2 with ⟨_, k⟩ | ⟨m', k1, _⟩
    · rw [k, h3]
    · have := hp.mem_iff.mpr k1
      rw [h1] at this
      exact absurd this (by simp)
  · rcases hr.2 with ⟨k, _⟩ | ⟨m', k1, k2, _, k4⟩
    · have := hp.mem_iff.mp h1
      rw [k] at this
      exact absurd this (by simp)
    · have g1 := h2 m' (hp.mem_iff.mpr k1)
      have g2 := k2 m (hp.mem_iff.mp h1)
      have e : m' = m := by omega
      rw [k4, h4, hp.count_eq, e]
theorem rf_e8a (h : rf_inv p q gap a1 a4 729 x5 x6 x7 x8 x9 x10) (e : rf_Q gap a1 a4 (fun _ => 0) = []) : (-1 : Int32) = x8 := by
  rcases h.2.1 with ⟨_, _, _, h4⟩ | ⟨m, cb, h1, _⟩
  · exact h4.symm
  · have := (rf_perm0 gap a1 a4).mem_iff.mp h1
    rw [e] at this
    exact absurd this (by simp)
theorem rf_e8b (h : rf_inv p q gap a1 a4 729 x5 x6 x7 x8 x9 x10) {m : Int} (k1 : m ∈ rf_Q gap a1 a4 (fun _ => 0)) (k2 : ∀ x, x ∈ rf_Q gap a1 a4 (fun _ => 0) → x ≤ m) : ∃ cb, rf_cbok gap a1 a4 m cb ∧ nI cb = x8 := by
  have hp := rf_perm0 gap a1 a4
  rcases h.2.1 with ⟨h1, _⟩ | ⟨m', cb, h1, h2, _, _, h5, h6, h7, h8⟩
  · have := hp.mem_iff.mpr k1
    rw [h1] at this
    exact absurd this (by simp)
  · have g1 := h2 m (hp.mem_iff.mpr k1)
    have g2 := k2 m' (hp.mem_iff.mp h1)
    have e : m' = m := by omega
    rw [e] at h7 h8
    exact ⟨cb, rf_p6 k2 h6 h7 h8, h5.symm⟩
theorem rf_e9 (hpq : p < q) (hq : q < 6) (h : rf_inv p q gap a1 a4 729 x5 x6 x7 x8 x9 x10) : nI (rf_Qf gap a1 a4 p q).length = x9 := by
  rw [h.2.2.1, (rf_permF gap a1 a4 hpq hq).length_eq]
theorem rf_e10 (hpq : p < q) (hq : q < 6) (h : rf_inv p q gap a1 a4 729 x5 x6 x7 x8 x9 x10) {r : Int32} (hr : rf_ans (rf_Qf gap a1 a4 p q) r) : r = x10 :=
  rf_ans_u (rf_permF gap a1 a4 hpq hq) h.2.2.2 hr
end
end
section
/-! the law's loops -/
abbrev rf_JT : Type := Int32 → Int32 → Int32 → Int32 → Int32 → Int32 → Int32 → Int32 → Int32 → Int32 → Int32 → Int32 → Int32 → Int32 → (Nat → Int32) → (Nat → Int32) → (Nat → Int32) → (Nat → Int32) → (Nat → Int32) → (Nat → Int32) → (Nat → Int32) → (Nat → Int32) → (Nat → Int32) → (Nat → Int32) → (Nat → Int32) → (Nat → Int32) → Prop
section
variable {post : Int32 → St0 → Prop} {mc ms kc ks : Nat} {J127 J137 : rf_JT} {x0 x1 x2 x3 x5 x6 x7 x8 x9 x10 x11 x12 x13 x16 : Int32} {c t : Nat}
variable {gap fo fs s b a : Int32} {a1 a2 a3 a4 a5 a6 a7 a8 a9 a10 a11 a12 : Nat → Int32}
theorem rf_w255 (hc : c < 729) (ht : ∀ k, k < 6 → 0 ≤ (a4 k).toInt ∧ (a4 k).toInt ≤ 20) (e16 : x16 = rf_fin 0 (rf_lo gap a1 a4 c))
    (H : ∀ (fo fs s b a : Int32) (a3 a5 a6 a7 a8 a9 a10 : Nat → Int32), J137 x5 x6 x7 x8 x9 x10 (nI (t + 1)) gap (nI 6) fo fs s b a a1 a2 a3 a4 a5 a6 a7 a8 a9 a10 a11 a12) :
    wL_lawOf_255 post mc ms J127 J137 x0 x1 x2 x3 x5 x6 x7 x8 x9 x10 x11 x12 x13 (nI t) (nI c) x16 kc ks gap (nI 6) fo fs s b a a1 a2 a3 a4 a5 a6 a7 a8 a9 a10 a11 a12 := by
  unfold wL_lawOf_255
  refine rf_scoreOf (by omega) ht (fun _ r hr => ?_) (fun z => absurd z (by omega))
  intro fo fs s b a a3 a5 a6 a7 a8 a9 a10
  exact br_t (by rw [e16]; exact rf_p5 hc hr) (nm_r (nI_1 t) (H _ _ _ _ _ _ _ _ _ _ _ _))
theorem rf_w217 {p q : Nat} {v : Int} (hc : c < 729) (hp : p < 6) (hq : q < 6) (ht : ∀ k, k < 6 → 0 ≤ (a4 k).toInt ∧ (a4 k).toInt ≤ 20) (hv : rf_lo gap a1 a4 c = some v) (h2 : rf_y2 (rf_Kf p q) gap a1 a4 c x9 x10)
    (H : ∀ x9 x10, rf_y2 (rf_Kf p q) gap a1 a4 (c + 1) x9 x10 → ∀ (fo fs s b a : Int32) (a3 a5 a6 a7 a8 a9 a10 : Nat → Int32), J137 x5 x6 x7 x8 x9 x10 (nI (t + 1)) gap (nI 6) fo fs s b a a1 a2 a3 a4 a5 a6 a7 a8 a9 a10 a11 a12) :
    wL_lawOf_217 post mc ms J127 J137 x0 x1 x2 x3 x5 x6 x7 x8 x9 x10 (nI p) (nI q) x13 (nI t) (nI c) (Int32.ofInt v) kc ks gap (nI 6) fo fs s b a a1 a2 a3 a4 a5 a6 a7 a8 a9 a10 a11 a12 := by
  have e16 : Int32.ofInt v = rf_fin 0 (rf_lo gap a1 a4 c) := by
    rw [hv]
    show Int32.ofInt v = Int32.ofInt (0 + v)
    rw [Int.zero_add]
  have hb := rf_mt_b c p
  have eK : Int32.ofInt (rf_mt c p) = nI q ↔ rf_mt c p = (q : Int) := by
    rw [rf_nI q]
    exact rf_oeq (by omega) (by omega) (by omega) (by omega)
  unfold wL_lawOf_217
  refine rf_mate hc hp (br_c (fun g => nm_e ?_) (fun g => ?_))
  · have hk : rf_Kf p q c = true := decide_eq_true (eK.mp g)
    have hh := rf_y2_t ht hc hv hk h2
    unfold wL_lawOf_232
    refine rf_mate hc hp (br_t g (br_c (fun g2 => rf_w255 hc ht e16 (H _ _ (hh.1 g2))) (fun g2 => rf_w255 hc ht e16 (H _ _ (hh.2 g2)))))
  · have hk : rf_Kf p q c = false := decide_eq_false (fun w => g (eK.mpr w))
    unfold wL_lawOf_232
    exact rf_mate hc hp (br_f g (rf_w255 hc ht e16 (H _ _ (rf_y2_n (Or.inl hk) h2))))
theorem rf_w186 {p q : Nat} {v : Int} (hc : c < 729) (hp : p < 6) (hq : q < 6) (ht : ∀ k, k < 6 → 0 ≤ (a4 k).toInt ∧ (a4 k).toInt ≤ 20) (hv : rf_lo gap a1 a4 c = some v) (h1 : rf_y1 gap a1 a4 c x6 x7 x8) (h2 : rf_y2 (rf_Kf p q) gap a1 a4 c x9 x10)
    (H : ∀ x6 x7 x8 x9 x10, rf_y1 gap a1 a4 (c + 1) x6 x7 x8 → rf_y2 (rf_Kf p q) gap a1 a4 (c + 1) x9 x10 → ∀ (fo fs s b a : Int32) (a3 a5 a6 a7 a8 a9 a10 : Nat → Int32), J137 x5 x6 x7 x8 x9 x10 (nI (t + 1)) gap (nI 6) fo fs s b a a1 a2 a3 a4 a5 a6 a7 a8 a9 a10 a11 a12) :
    (Int32.ofInt v ≤ x6 → wL_lawOf_186 post mc ms J127 J137 x0 x1 x2 x3 x5 x6 x7 x8 x9 x10 (nI p) (nI q) x13 (nI t) (nI c) (Int32.ofInt v) kc ks gap (nI 6) fo fs s b a a1 a2 a3 a4 a5 a6 a7 a8 a9 a10 a11 a12) ∧
    (¬ Int32.ofInt v ≤ x6 → wL_lawOf_186 post mc ms J127 J137 x0 x1 x2 x3 x5 x6 x7 (nI c) x9 x10 (nI p) (nI q) x13 (nI t) (nI c) (Int32.ofInt v) kc ks gap (nI 6) fo fs s b a a1 a2 a3 a4 a5 a6 a7 a8 a9 a10 a11 a12) := by
  refine ⟨fun g => ?_, fun g => ?_⟩
  · unfold wL_lawOf_186 wL_lawOf_196 wL_lawOf_207
    refine br_t g (br_t g (br_c (fun g2 => nm_e (rf_w217 hc hp hq ht hv h2 (fun x9 x10 h => H _ _ _ _ _ (rf_y1_a ht hc hv h1 g2) h))) (fun g2 => rf_w217 hc hp hq ht hv h2 (fun x9 x10 h => H _ _ _ _ _ (rf_y1_b ht hc hv h1 g g2) h))))
  · unfold wL_lawOf_186 wL_lawOf_196 wL_lawOf_207
    exact br_f g (br_f g (br_t rfl (nm_e (rf_w217 hc hp hq ht hv h2 (fun x9 x10 h => H _ _ _ _ _ (rf_y1_c ht hc hv h1 g) h)))))
end
section
variable {post : Int32 → St0 → Prop} {mc ms kc ks : Nat} {J127 : rf_JT} {x0 x1 x2 : Int32} {gap : Int32} {a1 a2 a4 a11 a12 : Nat → Int32}
theorem rf_w137 {p q i : Nat} (hi : i < 27) (hp : p < 6) (hq : q < 6) (ht : ∀ k, k < 6 → 0 ≤ (a4 k).toInt ∧ (a4 k).toInt ≤ 20) (h1 : ∀ i, i < 6 → a1 i = rf_bs x0 (nI i)) (h4 : ∀ i, i < 6 → a4 i = rf_tn x1 (nI i))
    (H : ∀ x5 x6 x7 x8 x9 x10, rf_inv p q gap a1 a4 (27 * (i + 1)) x5 x6 x7 x8 x9 x10 → ∀ (fo fs s b a : Int32) (a3 a5 a6 a7 a8 a9 a10 : Nat → Int32), J127 x5 x6 x7 x8 x9 x10 (nI (i + 1)) gap (nI 6) fo fs s b a a1 a2 a3 a4 a5 a6 a7 a8 a9 a10 a11 a12)
    (n : Nat) : ∀ (j : Nat) (x5 x6 x7 x8 x9 x10 : Int32) (fo fs s b a : Int32) (a3 a5 a6 a7 a8 a9 a10 : Nat → Int32), j ≤ 27 → 27 - j < n → rf_inv p q gap a1 a4 (27 * i + j) x5 x6 x7 x8 x9 x10 →
      wL_lawOf_137 post mc ms J127 x0 x1 x2 gap (nI p) (nI q) (nI i) kc ks n x5 x6 x7 x8 x9 x10 (nI j) gap (nI 6) fo fs s b a a1 a2 a3 a4 a5 a6 a7 a8 a9 a10 a11 a12 := by
  induction n with
  | zero => intro j x5 x6 x7 x8 x9 x10 fo fs s b a a3 a5 a6 a7 a8 a9 a10 _ h; omega
  | succ n ih =>
    intro j x5 x6 x7 x8 x9 x10 fo fs s b a a3 a5 a6 a7 a8 a9 a10 hj hn hI
    refine pk_le 27 j (fun z => nm_r (nI_1 i) (H _ _ _ _ _ _ ?_ _ _ _ _ _ _ _ _ _ _ _ _)) (fun z => ?_)
    · have e : 27 * i + j = 27 * (i + 1) := by omega
      rw [e] at hI
      exact hI
    · have hc : 27 * i + j < 729 := by omega
      have ec : (27 : Int32) * nI i + nI j = nI (27 * i + j) := by
        rw [show (27 : Int32) = nI 27 from rfl, pk_mul, nI_add]
      refine nm_r ec (rf_score hc h1 h4 ?_)
      have nx : ∀ x5 x6 x7 x8 x9 x10, rf_inv p q gap a1 a4 (27 * i + j + 1) x5 x6 x7 x8 x9 x10 → ∀ (fo fs s b a : Int32) (a3 a5 a6 a7 a8 a9 a10 : Nat → Int32), wL_lawOf_137 post mc ms J127 x0 x1 x2 gap (nI p) (nI q) (nI i) kc ks n x5 x6 x7 x8 x9 x10 (nI (j + 1)) gap (nI 6) fo fs s b a a1 a2 a3 a4 a5 a6 a7 a8 a9 a10 a11 a12 :=
        fun x5 x6 x7 x8 x9 x10 h fo fs s b a a3 a5 a6 a7 a8 a9 a10 => ih (j + 1) x5 x6 x7 x8 x9 x10 fo fs s b a a3 a5 a6 a7 a8 a9 a10 (by omega) (by omega) h
      cases hv : rf_lo gap a1 a4 (27 * i + j) with
      | none =>
        have hI' : rf_inv p q gap a1 a4 (27 * i + j + 1) x5 x6 x7 x8 x9 x10 := by
          refine ⟨?_, rf_y1_n hv hI.2.1, rf_y2_n (Or.inr hv) hI.2.2⟩
          rw [hI.1, rf_LK_s, if_pos rfl, hv]
          congr 2
          exact (List.append_nil _).symm
        refine br_t (by decide) (br_c (fun g => rf_scoreOf (by omega) ht (fun _ r hr => ?_) (fun z => absurd z (by omega))) (fun g => nm_r (nI_1 j) (nx _ _ _ _ _ _ hI' _ _ _ _ _ _ _ _ _ _ _ _)))
        intro fo fs s b a a3 a5 a6 a7 a8 a9 a10
        have er : r = -1000 := by
          rw [rf_p5 hc hr, hv]
          rfl
        exact br_t er (nm_r (nI_1 j) (nx _ _ _ _ _ _ hI' _ _ _ _ _ _ _ _ _ _ _ _))
      | some v =>
        have hb := rf_lo_b ht hc hv
        have e0 : rf_fin 0 (some v) = Int32.ofInt v := by
          show Int32.ofInt (0 + v) = Int32.ofInt v
          rw [Int.zero_add]
        rw [e0]
        refine br_f ?_ (nm_e (rf_w186 hc hp hq ht hv hI.2.1 hI.2.2 (fun x6 x7 x8 x9 x10 g1 g2 => nx _ _ _ _ _ _ ⟨?_, g1, g2⟩)))
        · rw [show (-1000 : Int32) = Int32.ofInt (-1000) by decide, rf_ole (by omega) (by omega) (by omega) (by omega)]
          omega
        · rw [hI.1, rf_LK_v hv rfl, List.length_append, nI_1]
          rfl
theorem rf_w127 {p q : Nat} (hpq : p < q) (hq : q < 6) (ht : ∀ k, k < 6 → 0 ≤ (a4 k).toInt ∧ (a4 k).toInt ≤ 20) (hz : ∀ i, i < 6 → a2 i = 0) (h1 : ∀ i, i < 6 → a1 i = rf_bs x0 (nI i)) (h4 : ∀ i, i < 6 → a4 i = rf_tn x1 (nI i)) (H : post 1 ())
    (n : Nat) : ∀ (i : Nat) (x5 x6 x7 x8 x9 x10 : Int32) (fo fs s b a : Int32) (a3 a5 a6 a7 a8 a9 a10 : Nat → Int32), i ≤ 27 → 27 - i < n → rf_inv p q gap a1 a4 (27 * i) x5 x6 x7 x8 x9 x10 →
      wL_lawOf_127 post mc ms x0 x1 x2 gap (nI p) (nI q) kc ks n x5 x6 x7 x8 x9 x10 (nI i) gap (nI 6) fo fs s b a a1 a2 a3 a4 a5 a6 a7 a8 a9 a10 a11 a12 := by
  induction n with
  | zero => intro i x5 x6 x7 x8 x9 x10 fo fs s b a a3 a5 a6 a7 a8 a9 a10 _ h; omega
  | succ n ih =>
    intro i x5 x6 x7 x8 x9 x10 fo fs s b a a3 a5 a6 a7 a8 a9 a10 hi hn hI
    refine pk_le 27 i (fun z => ?_) (fun z => ⟨28, ?_⟩)
    · have e : 27 * i = 729 := by omega
      rw [e] at hI
      refine rf_folds ht hz (fun fo fs s b a a3 a5 a6 a7 a8 a9 a10 => br_t (rf_e5 hI) ?_)
      refine rf_best ht hz (fun r hr fo fs s b a a3 a5 a6 a7 a8 a9 a10 => br_t (rf_e6 hI hr) ?_)
      refine rf_bestFolds ht hz (fun s b a hr fo fs s b a a3 a5 a6 a7 a8 a9 a10 => br_t (rf_e7 hI hr) ?_)
      have last : ∀ (fo fs s b a : Int32) (a3 a5 a6 a7 a8 a9 a10 : Nat → Int32), wpX_foldsWith (fun r u => (r = x9 → wpX_bestWith (fun r u => (r = x10 → wpX_foldsWith (fun r u => (r = 0 → wpX_scoreOf (fun r u => (r = -1000 → post 1 ()) ∧ (¬ r = -1000 → post 0 ())) u 729) ∧ (¬ r = 0 → post 0 ())) u (nI q) (nI p)) ∧ (¬ r = x10 → post 0 ())) u (nI p) (nI q)) ∧ (¬ r = x9 → post 0 ())) (gap, nI 6, fo, fs, s, b, a, a1, a2, a3, a4, a5, a6, a7, a8, a9, a10, a11, a12) (nI p) (nI q) := by
        intro fo fs s b a a3 a5 a6 a7 a8 a9 a10
        refine rf_foldsWith (by omega) hq ht hz (fun z => absurd z (by omega)) (fun _ fo fs s b a a3 a5 a6 a7 a8 a9 a10 => br_t (rf_e9 hpq hq hI) ?_)
        refine rf_bestWith (by omega) hq hpq ht hz (fun r hr fo fs s b a a3 a5 a6 a7 a8 a9 a10 => br_t (rf_e10 hpq hq hI hr) ?_)
        refine rf_foldsWith hq (by omega) ht hz (fun _ fo fs s b a a3 a5 a6 a7 a8 a9 a10 => br_t rfl ?_) (fun z => absurd z (by omega))
        exact rf_scoreOf (c := 729) (by omega) ht (fun z => absurd z (by omega)) (fun _ fo fs s b a a3 a5 a6 a7 a8 a9 a10 => br_t rfl H)
      refine rf_bestCode ht hz (fun e2 fo fs s b a a3 a5 a6 a7 a8 a9 a10 => br_t (rf_e8a hI e2) (last _ _ _ _ _ _ _ _ _ _ _ _)) (fun m k1 k2 => ?_)
      obtain ⟨cb, g1, g2⟩ := rf_e8b hI k1 k2
      exact ⟨cb, g1, fun fo fs s b a a3 a5 a6 a7 a8 a9 a10 => br_t g2 (last _ _ _ _ _ _ _ _ _ _ _ _)⟩
    · exact rf_w137 z (by omega) hq ht h1 h4 (fun x5 x6 x7 x8 x9 x10 h fo fs s b a a3 a5 a6 a7 a8 a9 a10 => ih (i + 1) x5 x6 x7 x8 x9 x10 fo fs s b a a3 a5 a6 a7 a8 a9 a10 (by omega) (by omega) h) 28 0 x5 x6 x7 x8 x9 x10 fo fs s b a a3 a5 a6 a7 a8 a9 a10 (by omega) (by omega) hI
end
end
section
/-! making the folder, and the law -/
section
variable {post : Int32 → St0 → Prop} {mc ms kc ks : Nat} {x0 x1 x2 gap : Int32} {a11 a12 : Nat → Int32}
theorem rf_pq (x2 : Int32) : ∃ p q : Nat, p < 5 ∧ p < q ∧ q < 6 ∧ ((x2 >>> ((1 : Int32) &&& 31)) &&& 7) - ((x2 >>> ((1 : Int32) &&& 31)) &&& 7) / 5 * 5 = nI p ∧ 5 - nI p = nI (5 - p) ∧ (nI p + 1) + (((x2 >>> ((4 : Int32) &&& 31)) &&& 7) - ((x2 >>> ((4 : Int32) &&& 31)) &&& 7) / nI (5 - p) * nI (5 - p)) = nI q := by
  obtain ⟨k1, h1, e1⟩ := pk_andE (x2 >>> ((1 : Int32) &&& 31)) (m := 7) 3 (by decide)
  obtain ⟨k2, h2, e2⟩ := pk_andE (x2 >>> ((4 : Int32) &&& 31)) (m := 7) 3 (by decide)
  have hm1 : k1 % 5 < 5 := Nat.mod_lt _ (by omega)
  have hm2 : k2 % (5 - k1 % 5) < 5 - k1 % 5 := Nat.mod_lt _ (by omega)
  refine ⟨k1 % 5, k1 % 5 + 1 + k2 % (5 - k1 % 5), hm1, by omega, by omega, ?_, ?_, ?_⟩
  · rw [e1, show (5 : Int32) = nI 5 from rfl, pk_rem (by omega) (by omega) (by omega)]
  · rw [show (5 : Int32) = nI 5 from rfl, pk_sub (by omega)]
  · rw [e2, pk_rem (by omega) (by omega) (by omega), nI_1, nI_add]
theorem rf_inv0 (p q : Nat) (gap : Int32) (a1 a4 : Nat → Int32) : rf_inv p q gap a1 a4 0 0 (-1000) 0 (-1) 0 (-1000) :=
  ⟨rfl, Or.inl ⟨rfl, rfl, rfl, rfl⟩, rfl, Or.inl ⟨rfl, rfl⟩⟩
theorem rf_w17 (H : post 1 ()) (n : Nat) : ∀ (i : Nat) (fo fs s b a : Int32) (a1 a2 a3 a4 a5 a6 a7 a8 a9 a10 : Nat → Int32), i ≤ 6 → 6 - i < n →
    (∀ j, j < 6 → a2 j = 0) → (∀ j, j < i → a1 j = rf_bs x0 (nI j)) → (∀ j, j < i → a4 j = rf_tn x1 (nI j)) → (∀ j, j < 6 → ∃ k, k < 12 ∧ a4 j = nI k) →
    wL_lawOf_17 post mc ms x0 x1 x2 gap kc ks n (nI i) gap (nI i) fo fs s b a a1 a2 a3 a4 a5 a6 a7 a8 a9 a10 a11 a12 := by
  induction n with
  | zero => intro i fo fs s b a a1 a2 a3 a4 a5 a6 a7 a8 a9 a10 _ h; omega
  | succ n ih =>
    intro i fo fs s b a a1 a2 a3 a4 a5 a6 a7 a8 a9 a10 hi hn h2 h1 h4 hk
    refine pk_le 6 i (fun z => ⟨by decide, ?_⟩) (fun z => rf_tuned (rf_base ?_))
    · have e : i = 6 := by omega
      subst e
      obtain ⟨p, q, hp, hpq, hq, e1, e2, e3⟩ := rf_pq x2
      refine nm_r e1 ?_
      rw [e2]
      refine ⟨nI_ne0 (by omega) (by omega), nm_r e3 ⟨28, ?_⟩⟩
      have ht : ∀ k, k < 6 → 0 ≤ (a4 k).toInt ∧ (a4 k).toInt ≤ 20 := by
        intro k hk6
        obtain ⟨u, hu, eu⟩ := hk k hk6
        rw [eu, nI_toInt (by omega)]
        omega
      exact rf_w127 hpq hq ht h2 h1 h4 H 28 0 _ _ _ _ _ _ _ _ _ _ _ _ _ _ _ _ _ _ (by omega) (by omega) (rf_inv0 p q gap a1 a4)
    · obtain ⟨u, hu, eu⟩ := rf_bs_4 x0 (nI i)
      obtain ⟨w, hw, ew⟩ := rf_tn_12 x1 (nI i)
      obtain ⟨o, ho, eo⟩ := hk i z
      have eb : rf_bs x0 (nI i) = nI u := eu
      rw [eu, ew]
      have ec := nI_clamp (show i < 2 ^ 31 by omega)
      refine br_f (nI_pos (by omega)) (pk_le u 3 (fun _ => pk_eq i 11 (fun g => absurd g (by omega)) (fun _ => ⟨pk_in i 11 (by omega), nm_e ⟨pk_in i 11 (by omega), nm_e (nm_r (nI_1 i) (br_t (nI_1 i).symm ?_))⟩⟩)) (fun g => absurd g (by omega)))
      refine br_f (nI_pos (by omega)) (pk_le i 5 (fun _ => br_f (nI_pos (by omega)) (pk_le w 20 (fun _ => ⟨pk_in i 6 z, nm_e ⟨pk_in i 6 z, nm_e ?_⟩⟩) (fun g => absurd g (by omega)))) (fun g => absurd g (by omega)))
      rw [ec]
      refine br_t (by rw [eo]; exact nI_pos' (by omega)) (nm_r (nI_1 i) (ih (i + 1) _ _ _ _ _ _ _ _ _ _ _ _ _ _ _ (by omega) (by omega) ?_ ?_ ?_ ?_))
      · intro j hj
        by_cases e : j = i
        · rw [e, pk_us]
        · rw [pk_un e]
          exact h2 j hj
      · intro j hj
        by_cases e : j = i
        · rw [e, pk_us, eu]
        · rw [pk_un e]
          exact h1 j (by omega)
      · intro j hj
        by_cases e : j = i
        · rw [e, pk_us, ew]
        · rw [pk_un e]
          exact h4 j (by omega)
      · intro j hj
        by_cases e : j = i
        · rw [e, pk_us]
          exact ⟨w, hw, rfl⟩
        · rw [pk_un e]
          exact hk j hj
theorem rf_lawOf (x0 x1 x2 : Int32) (H : post 1 ()) : wpL_lawOf post 932 14912 () x0 x1 x2 := by
  obtain ⟨g, hg, eg⟩ := pk_andE x2 (m := 1) 1 (by decide)
  refine nm_r eg ⟨by omega, by omega, 12, 1789, by omega, by omega, ?_⟩
  refine ⟨by omega, by omega, by omega, by omega, by omega, by omega, by omega, by omega, by omega, by omega, by omega, by omega, by omega, by omega, by omega, by omega, by omega, by omega, by omega, by omega, by omega, by omega, by omega, by omega, ?_⟩
  refine br_t (nI_pos' (by omega)) (pk_le g 4 (fun _ => ?_) (fun w => absurd w (by omega)))
  refine nm_e (nm_e (nm_e (nm_e (nm_e (nm_e ⟨7, rf_w17 H 7 0 _ _ _ _ _ _ _ _ _ _ _ _ _ _ _ (by omega) (by omega) (fun _ _ => rfl) (fun j hj => absurd hj (by omega)) (fun j hj => absurd hj (by omega)) (fun j hj => ?_)⟩)))))
  have h : j = 0 ∨ j = 1 ∨ j = 2 ∨ j = 3 ∨ j = 4 ∨ j = 5 := by omega
  rcases h with h | h | h | h | h | h <;> subst h
  · exact ⟨3, by omega, rfl⟩
  · exact ⟨5, by omega, rfl⟩
  · exact ⟨1, by omega, rfl⟩
  · exact ⟨2, by omega, rfl⟩
  · exact ⟨2, by omega, rfl⟩
  · exact ⟨3, by omega, rfl⟩
theorem rf_cell {post : Int32 → Prop} (L : Nat) (xs : Nat → Int32) (hL : L ≤ 3) {x : Int32} (k : Nat) (hk : k < 3) (hx : x = nI k) (H : ∀ r, post r) : wpL_cellAt post L xs () x :=
  pk_le L k (fun _ => H _) (fun z => ⟨pk_in k L z hx, H _⟩) rfl hx
end
end
section
theorem i_vc (xs : Nat → Int32) (L : Nat) (hL : L ≤ 3) : wpL_law (fun r => r = 1) L xs :=
  rf_cell L xs hL 0 (by omega) rfl (fun r1 => rf_cell L xs hL 1 (by omega) rfl (fun r2 => rf_cell L xs hL 2 (by omega) rfl (fun r3 => ⟨932, 14912, by omega, by omega, rf_lawOf r1 r2 r3 rfl⟩)))
end
