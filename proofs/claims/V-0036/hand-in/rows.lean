section
/-! rows pasted from kit/rows (PURE-ROWS, BITS) -/
theorem pk_us {f : Nat → Int32} {k : Nat} {x : Int32} : upd f k x k = x := if_pos rfl
theorem pk_un {f : Nat → Int32} {k j : Nat} {x : Int32} (h : j ≠ k) : upd f k x j = f j := if_neg h
theorem pk_sub {a b : Nat} (h : b ≤ a) : nI a - nI b = nI (a - b) := by
  obtain ⟨c, rfl⟩ : ∃ c, a = c + b := ⟨a - b, by omega⟩
  rw [← nI_add, Int32.add_sub_cancel, Nat.add_sub_cancel]
theorem pk_m1 (n : Nat) : nI (n + 1) + (-1) = nI n := by
  rw [← nI_1, Int32.add_assoc, show (1 : Int32) + (-1) = 0 from rfl, Int32.add_zero]
theorem pk_mul (a b : Nat) : nI a * nI b = nI (a * b) := (Int32.ofNat_mul a b).symm
theorem pk_div {a d : Nat} (ha : a < 2 ^ 31) (h0 : 0 < d) (hd : d < 2 ^ 31) : nI a / nI d = nI (a / d) := by
  apply Int32.toInt_inj.mp
  rw [lg_idiv_nonneg (by rw [nI_toInt ha]; omega) (by rw [nI_toInt hd]; omega), nI_toInt ha, nI_toInt hd, nI_toInt (Nat.lt_of_le_of_lt (Nat.div_le_self a d) ha)]
  first | rfl | exact (Int.natCast_ediv _ _).symm
theorem pk_ix (x : Int32) {n : Nat} (hn : n < 2 ^ 31) : x < 0 ∨ nI n ≤ x ∨ ∃ j : Nat, j < n ∧ x = nI j := by
  by_cases h : x < 0
  · exact Or.inl h
  · obtain ⟨j, hj, rfl⟩ := nI_of h
    by_cases h2 : j < n
    · exact Or.inr (Or.inr ⟨j, h2, rfl⟩)
    · exact Or.inr (Or.inl (nI_le (by omega) hj))
theorem pk_tn {n : Nat} (h : n < 2 ^ 32) : (nI n).toBitVec.toNat = n := Nat.mod_eq_of_lt h
theorem pk_and (x : Int32) {m : Int32} (k : Nat) (hm : m.toBitVec.toNat = 2 ^ k - 1) : x &&& m = nI (x.toBitVec.toNat % 2 ^ k) := by
  apply Int32.toBitVec_inj.mp
  apply BitVec.eq_of_toNat_eq
  rw [Int32.toBitVec_and, BitVec.toNat_and, hm, Nat.and_two_pow_sub_one_eq_mod]
  show _ = (BitVec.ofNat 32 _).toNat
  rw [BitVec.toNat_ofNat]
  exact (Nat.mod_eq_of_lt (Nat.lt_of_le_of_lt (Nat.mod_le _ _) x.toBitVec.isLt)).symm
theorem pk_andN {n : Nat} (h : n < 2 ^ 32) {m : Int32} (k : Nat) (hm : m.toBitVec.toNat = 2 ^ k - 1) : nI n &&& m = nI (n % 2 ^ k) := by
  rw [pk_and _ k hm, pk_tn h]
theorem pk_andE (x : Int32) {m : Int32} (k : Nat) (hm : m.toBitVec.toNat = 2 ^ k - 1) : ∃ j : Nat, j < 2 ^ k ∧ x &&& m = nI j := ⟨_, Nat.mod_lt _ (Nat.two_pow_pos k), pk_and x k hm⟩
/-! own rows: numbers -/
theorem lr_m4 (a : Nat) : nI a * 4 = nI (a * 4) := pk_mul a 4
theorem lr_m32 (a : Nat) : nI a * 32 = nI (a * 32) := pk_mul a 32
theorem lr_i4 (a b : Nat) : nI a * 4 + nI b = nI (a * 4 + b) := by rw [lr_m4, nI_add]
theorem lr_i32 (a b : Nat) : nI a * 32 + nI b = nI (a * 32 + b) := by rw [lr_m32, nI_add]
theorem lr_c4 {a b : Nat} (h : a * 4 + b < 2147483648) : (nI a * 4 + nI b).toNatClampNeg = a * 4 + b := by rw [lr_i4, nI_clamp h]
theorem lr_c32 {a b : Nat} (h : a * 32 + b < 2147483648) : (nI a * 32 + nI b).toNatClampNeg = a * 32 + b := by rw [lr_i32, nI_clamp h]
theorem lr_c1 {a : Nat} (h : a < 2147483648) : (nI a).toNatClampNeg = a := nI_clamp h
theorem lr_v1 {a M : Nat} (h : a < M) (hM : M < 2147483648) : vp_in (nI a) M := vp_in_nI h hM
theorem lr_v4 {a b M : Nat} (h : a * 4 + b < M) (hM : M < 2147483648) : vp_in (nI a * 4 + nI b) M := by rw [lr_i4]; exact vp_in_nI h hM
theorem lr_v32 {a b M : Nat} (h : a * 32 + b < M) (hM : M < 2147483648) : vp_in (nI a * 32 + nI b) M := by rw [lr_i32]; exact vp_in_nI h hM
theorem lr_and31 {n : Nat} (h : n < 2147483648) : nI n &&& 31 = nI (n % 32) := pk_andN (m := 31) (by omega) 5 (by decide)
theorem lr_mask (x : Int32) : ¬ (x &&& 65535) < 0 := by
  obtain ⟨j, hj, e⟩ := pk_andE x (m := 65535) 16 (by decide)
  rw [e]
  exact nI_pos (by omega)
theorem lr_arg (x : Int32) (n : Nat) (hn : n < 2147483648) : (∃ j : Nat, j < n ∧ x = nI j) ∨ (x < 0 ∨ ¬ x < nI n) := by
  rcases pk_ix x (n := n) hn with h | h | h
  · exact Or.inr (Or.inl h)
  · exact Or.inr (Or.inr (Int32.not_lt.mpr h))
  · exact Or.inl h
theorem lr_neg1 : (-1 : Int32) < 0 := by decide
theorem lr_nb0 : vp_nar .boolean 0 = 0 := rfl
theorem lr_nb1 : vp_nar .boolean 1 = 1 := rfl
theorem lr_nb {x : Int32} (h : x = 0 ∨ x = 1) : vp_nar .boolean x = x := by
  rcases h with h | h
  · rw [h]; rfl
  · rw [h]; rfl
theorem lr_Ile {a b : Nat} {x y : Int32} (hx : x = nI a) (hy : y = nI b) (ha : a < 2147483648) (hb : b < 2147483648) : x ≤ y ↔ a ≤ b := by
  subst hx hy; exact nI_leI ha hb
theorem lr_Ilt {a b : Nat} {x y : Int32} (hx : x = nI a) (hy : y = nI b) (ha : a < 2147483648) (hb : b < 2147483648) : x < y ↔ a < b := by
  subst hx hy; exact nI_ltI ha hb
theorem lr_Ieq {a b : Nat} {x y : Int32} (hx : x = nI a) (hy : y = nI b) (ha : a < 2147483648) (hb : b < 2147483648) : x = y ↔ a = b := by
  subst hx hy; exact nI_eq ha hb
theorem lr_0le {x : Int32} : 0 ≤ x ↔ ¬ x < 0 := Int32.not_lt.symm
/-! sums -/
def lr_sum (f : Nat → Nat) : Nat → Nat
  | 0 => 0
  | n + 1 => lr_sum f n + f n
theorem lr_sum_cg {f g : Nat → Nat} : ∀ {n : Nat}, (∀ i, i < n → f i = g i) → lr_sum f n = lr_sum g n := by
  intro n
  induction n with
  | zero => intro _; rfl
  | succ n ih => intro h; show lr_sum f n + f n = lr_sum g n + g n; rw [ih (fun i hi => h i (by omega)), h n (by omega)]
theorem lr_sum_le {f g : Nat → Nat} : ∀ {n : Nat}, (∀ i, i < n → f i ≤ g i) → lr_sum f n ≤ lr_sum g n := by
  intro n
  induction n with
  | zero => intro _; exact Nat.le_refl _
  | succ n ih => intro h; exact Nat.add_le_add (ih (fun i hi => h i (by omega))) (h n (by omega))
theorem lr_sum_up {f g : Nat → Nat} {m : Nat} : ∀ {n : Nat}, m < n → (∀ i, i < n → i ≠ m → g i = f i) → g m = f m + 1 → lr_sum g n = lr_sum f n + 1 := by
  intro n
  induction n with
  | zero => intro h; omega
  | succ n ih =>
    intro h hi hm
    show lr_sum g n + g n = lr_sum f n + f n + 1
    by_cases e : m = n
    · subst e
      rw [lr_sum_cg (f := g) (g := f) (fun i hi' => hi i (by omega) (by omega)), hm]; omega
    · rw [ih (by omega) (fun i hi' => hi i (by omega)) hm, hi n (by omega) (fun z => e z.symm)]; omega
theorem lr_sum_bd {f : Nat → Nat} {k : Nat} : ∀ {n : Nat}, (∀ i, i < n → f i ≤ k) → lr_sum f n ≤ n * k := by
  intro n
  induction n with
  | zero => intro _; exact Nat.zero_le _
  | succ n ih => intro h; have h1 := ih (fun i hi => h i (by omega)); have h2 := h n (by omega); show lr_sum f n + f n ≤ (n + 1) * k; rw [Nat.succ_mul]; omega
theorem lr_sum_z {f : Nat → Nat} : ∀ {n : Nat}, (∀ i, i < n → f i = 0) → lr_sum f n = 0 := by
  intro n
  induction n with
  | zero => intro _; rfl
  | succ n ih => intro h; show lr_sum f n + f n = 0; rw [ih (fun i hi => h i (by omega)), h n (by omega)]
end
section
/-! records as values: node, number, X's slot, stamps, notices, diff -/
abbrev lr_R : Type := Nat × Nat × Nat × (Nat → Nat) × (Nat → Int32) × (Nat → Int32)
def lr_n (q : lr_R) : Nat := q.1
def lr_k (q : lr_R) : Nat := q.2.1
def lr_z (q : lr_R) : Nat := q.2.2.1
def lr_s (q : lr_R) : Nat → Nat := q.2.2.2.1
def lr_o (q : lr_R) : Nat → Int32 := q.2.2.2.2.1
def lr_d (q : lr_R) : Nat → Int32 := q.2.2.2.2.2
def lr_key (q : lr_R) : Nat × Nat := (lr_n q, lr_k q)
/-- the diff words of a page, as X chains them: from the last word to the first -/
def lr_pg (d : Nat → Int32) (b : Nat) : Nat → List (Nat × Int32)
  | 0 => []
  | w + 1 => if d (b + w) < 0 then lr_pg d b w else (b + w, d (b + w)) :: lr_pg d b w
/-- how many words below a are in the diff -/
def lr_cn (d : Nat → Int32) : Nat → Nat
  | 0 => 0
  | a + 1 => if d a < 0 then lr_cn d a else lr_cn d a + 1
theorem lr_pg_len (d : Nat → Int32) (b : Nat) : ∀ w, (lr_pg d b w).length + lr_cn d b = lr_cn d (b + w) := by
  intro w
  induction w with
  | zero => show 0 + _ = _; rw [Nat.zero_add]; rfl
  | succ w ih =>
    show (if d (b + w) < 0 then lr_pg d b w else (b + w, d (b + w)) :: lr_pg d b w).length + lr_cn d b = (if d (b + w) < 0 then lr_cn d (b + w) else lr_cn d (b + w) + 1)
    by_cases h : d (b + w) < 0
    · rw [if_pos h, if_pos h]; exact ih
    · rw [if_neg h, if_neg h, List.length_cons]; omega
theorem lr_pg_le (d : Nat → Int32) (b : Nat) : ∀ w, (lr_pg d b w).length ≤ w := by
  intro w
  induction w with
  | zero => exact Nat.le_refl _
  | succ w ih =>
    show (if d (b + w) < 0 then lr_pg d b w else (b + w, d (b + w)) :: lr_pg d b w).length ≤ w + 1
    by_cases h : d (b + w) < 0
    · rw [if_pos h]; omega
    · rw [if_neg h, List.length_cons]; omega
theorem lr_pg_mem {d : Nat → Int32} {b : Nat} : ∀ {w : Nat} {y : Nat × Int32}, y ∈ lr_pg d b w ↔ ∃ i, i < w ∧ ¬ d (b + i) < 0 ∧ y = (b + i, d (b + i)) := by
  intro w
  induction w with
  | zero => intro y; constructor
            · intro h; cases h
            · intro ⟨i, h, _⟩; omega
  | succ w ih =>
    intro y
    show y ∈ (if d (b + w) < 0 then lr_pg d b w else (b + w, d (b + w)) :: lr_pg d b w) ↔ _
    by_cases h : d (b + w) < 0
    · rw [if_pos h, ih]
      constructor
      · intro ⟨i, h1, h2, h3⟩; exact ⟨i, by omega, h2, h3⟩
      · intro ⟨i, h1, h2, h3⟩
        refine ⟨i, ?_, h2, h3⟩
        have : i ≠ w := by intro e; subst e; exact h2 h
        omega
    · rw [if_neg h, List.mem_cons, ih]
      constructor
      · intro hh
        rcases hh with hh | ⟨i, h1, h2, h3⟩
        · exact ⟨w, by omega, h, hh⟩
        · exact ⟨i, by omega, h2, h3⟩
      · intro ⟨i, h1, h2, h3⟩
        by_cases e : i = w
        · subst e; exact Or.inl h3
        · exact Or.inr ⟨i, by omega, h2, h3⟩
theorem lr_pg_none {d : Nat → Int32} {b : Nat} : ∀ {w : Nat}, (∀ i, i < w → d (b + i) < 0) → lr_pg d b w = [] := by
  intro w
  induction w with
  | zero => intro _; rfl
  | succ w ih =>
    intro h
    show (if d (b + w) < 0 then lr_pg d b w else (b + w, d (b + w)) :: lr_pg d b w) = []
    rw [if_pos (h w (by omega))]; exact ih (fun i hi => h i (by omega))
/-! linked lists of entries -/
def lr_lk (nx : Nat → Int32) : List Nat → Int32 → Prop
  | [], h => h = -1
  | e :: l, h => h = nI e ∧ e < 64 ∧ lr_lk nx l (nx e)
theorem lr_lk_fr {nx : Nat → Int32} {e : Nat} {v : Int32} : ∀ {l : List Nat} {h : Int32}, e ∉ l → lr_lk nx l h → lr_lk (upd nx e v) l h := by
  intro l
  induction l with
  | nil => intro h _ k; exact k
  | cons a l ih =>
    intro h he k
    have h1 : a ≠ e := by intro z; subst z; exact he List.mem_cons_self
    refine ⟨k.1, k.2.1, ?_⟩
    rw [pk_un h1]
    exact ih (fun z => he (List.mem_cons_of_mem _ z)) k.2.2
def lr_f (ea ev : Nat → Int32) (e : Nat) : Int32 × Int32 := (ea e, ev e)
def lr_g (y : Nat × Int32) : Int32 × Int32 := (nI y.1, y.2)
def lr_uk (K : Nat → List (Nat × Int32)) (c : Nat) (x : List (Nat × Int32)) : Nat → List (Nat × Int32) := fun j => if j = c then x else K j
theorem lr_uk_s {K : Nat → List (Nat × Int32)} {c : Nat} {x : List (Nat × Int32)} : lr_uk K c x c = x := if_pos rfl
theorem lr_uk_n {K : Nat → List (Nat × Int32)} {c j : Nat} {x : List (Nat × Int32)} (h : j ≠ c) : lr_uk K c x j = K j := if_neg h
theorem lr_f_fr {ea ev : Nat → Int32} {e : Nat} {a v : Int32} {l : List Nat} (he : e ∉ l) : l.map (lr_f (upd ea e a) (upd ev e v)) = l.map (lr_f ea ev) := by
  apply List.map_congr_left
  intro x hx
  have h : x ≠ e := by intro z; subst z; exact he hx
  show (upd ea e a x, upd ev e v x) = (ea x, ev x)
  rw [pk_un h, pk_un h]
/-- the chain c: its entries -/
def lr_cc (ea ev nx ch : Nat → Int32) (K : Nat → List (Nat × Int32)) (ow : Nat → Nat) (c : Nat) (l : List Nat) : Prop :=
  lr_lk nx l (ch c) ∧ l.Nodup ∧ (∀ e, e ∈ l → ow e = c + 1) ∧ l.map (lr_f ea ev) = (K c).map lr_g
/-- the heap of entries: chains with content K, nf free ones, and a detached list d from h -/
def lr_EH (ea ev nx ch : Nat → Int32) (fe : Int32) (K : Nat → List (Nat × Int32)) (nf : Nat) (h : Int32) (d : List Nat) : Prop :=
  ∃ (F : List Nat) (E : Nat → List Nat) (ow : Nat → Nat),
    (lr_lk nx F fe ∧ F.Nodup ∧ (∀ e, e ∈ F → ow e = 0) ∧ F.length = nf) ∧
    (∀ c, c < 128 → lr_cc ea ev nx ch K ow c (E c)) ∧
    (lr_lk nx d h ∧ d.Nodup ∧ (∀ e, e ∈ d → ow e = 200))
theorem lr_EH_read {ea ev nx ch : Nat → Int32} {fe h : Int32} {K : Nat → List (Nat × Int32)} {nf c : Nat} {d : List Nat} (H : lr_EH ea ev nx ch fe K nf h d) (hc : c < 128) :
    ∃ l : List Nat, lr_lk nx l (ch c) ∧ l.map (lr_f ea ev) = (K c).map lr_g := by
  obtain ⟨F, E, ow, _, h2, _⟩ := H
  exact ⟨E c, (h2 c hc).1, (h2 c hc).2.2.2⟩
theorem lr_EH_push {ea ev nx ch : Nat → Int32} {fe : Int32} {K : Nat → List (Nat × Int32)} {m c : Nat} (a : Nat) (v : Int32) (H : lr_EH ea ev nx ch fe K (m + 1) (-1) []) (hc : c < 128) :
    ∃ e, e < 64 ∧ fe = nI e ∧ lr_EH (upd ea e (nI a)) (upd ev e v) (upd nx e (ch c)) (upd ch c (nI e)) (nx e) (lr_uk K c ((a, v) :: K c)) m (-1) [] := by
  obtain ⟨F, E, ow, ⟨f1, f2, f3, f4⟩, h2, h3⟩ := H
  cases F with
  | nil => simp at f4
  | cons e F =>
    have he : ∀ c, c < 128 → e ∉ E c := by
      intro c' hc' hm
      have h5 := (h2 c' hc').2.2.1 e hm
      rw [f3 e List.mem_cons_self] at h5
      omega
    refine ⟨e, f1.2.1, f1.1, F, (fun j => if j = c then e :: E c else E j), (fun j => if j = e then c + 1 else ow j), ⟨?_, (List.nodup_cons.mp f2).2, ?_, ?_⟩, ?_, ?_⟩
    · exact lr_lk_fr (List.nodup_cons.mp f2).1 f1.2.2
    · intro x hx
      have : x ≠ e := by intro z; subst z; exact (List.nodup_cons.mp f2).1 hx
      show (if x = e then c + 1 else ow x) = 0
      rw [if_neg this]; exact f3 x (List.mem_cons_of_mem _ hx)
    · simp at f4; exact f4
    · intro c' hc'
      obtain ⟨g1, g2, g3, g4⟩ := h2 c' hc'
      by_cases ec : c' = c
      · subst ec
        show lr_cc _ _ _ _ _ _ c' (if c' = c' then e :: E c' else E c')
        rw [if_pos rfl]
        refine ⟨?_, List.nodup_cons.mpr ⟨he c' hc', g2⟩, ?_, ?_⟩
        · refine ⟨pk_us, f1.2.1, ?_⟩
          rw [pk_us]
          exact lr_lk_fr (he c' hc') g1
        · intro x hx
          show (if x = e then c' + 1 else ow x) = c' + 1
          by_cases hxe : x = e
          · rw [if_pos hxe]
          · rw [if_neg hxe]
            rcases List.mem_cons.mp hx with z | z
            · exact absurd z hxe
            · exact g3 x z
        · rw [lr_uk_s, List.map_cons, List.map_cons, lr_f_fr (he c' hc'), g4]
          show (upd ea e (nI a) e, upd ev e v e) :: _ = (nI a, v) :: _
          rw [pk_us, pk_us]
      · show lr_cc _ _ _ _ _ _ c' (if c' = c then e :: E c else E c')
        rw [if_neg ec]
        refine ⟨?_, g2, ?_, ?_⟩
        · rw [pk_un ec]; exact lr_lk_fr (he c' hc') g1
        · intro x hx
          show (if x = e then c + 1 else ow x) = c' + 1
          have : x ≠ e := by intro z; subst z; exact he c' hc' hx
          rw [if_neg this]; exact g3 x hx
        · rw [lr_uk_n ec, lr_f_fr (he c' hc')]; exact g4
    · exact ⟨rfl, List.nodup_nil, fun x hx => by cases hx⟩
theorem lr_EH_detach {ea ev nx ch : Nat → Int32} {fe : Int32} {K : Nat → List (Nat × Int32)} {nf c : Nat} (H : lr_EH ea ev nx ch fe K nf (-1) []) (hc : c < 128) :
    ∃ d : List Nat, d.length = (K c).length ∧ lr_EH ea ev nx (upd ch c (-1)) fe (lr_uk K c []) nf (ch c) d := by
  obtain ⟨F, E, ow, ⟨f1, f2, f3, f4⟩, h2, _⟩ := H
  obtain ⟨g1, g2, g3, g4⟩ := h2 c hc
  refine ⟨E c, ?_, F, (fun j => if j = c then [] else E j), (fun e => if ow e = c + 1 then 200 else ow e), ⟨f1, f2, ?_, f4⟩, ?_, g1, g2, ?_⟩
  · have := congrArg List.length g4
    rw [List.length_map, List.length_map] at this
    exact this
  · intro e he
    show (if ow e = c + 1 then 200 else ow e) = 0
    rw [f3 e he, if_neg (by omega)]
  · intro c' hc'
    by_cases ec : c' = c
    · subst ec
      show lr_cc _ _ _ _ _ _ c' (if c' = c' then [] else E c')
      rw [if_pos rfl]
      refine ⟨pk_us, List.nodup_nil, (fun x hx => by cases hx), ?_⟩
      rw [lr_uk_s]; rfl
    · show lr_cc _ _ _ _ _ _ c' (if c' = c then [] else E c')
      rw [if_neg ec]
      obtain ⟨k1, k2, k3, k4⟩ := h2 c' hc'
      refine ⟨by rw [pk_un ec]; exact k1, k2, ?_, by rw [lr_uk_n ec]; exact k4⟩
      intro x hx
      show (if ow x = c + 1 then 200 else ow x) = c' + 1
      rw [k3 x hx, if_neg (by omega)]
  · intro x hx
    show (if ow x = c + 1 then 200 else ow x) = 200
    rw [if_pos (g3 x hx)]
theorem lr_EH_clear {ea ev nx ch : Nat → Int32} {fe : Int32} {K : Nat → List (Nat × Int32)} {nf c : Nat} (H : lr_EH ea ev nx ch fe K nf (-1) []) (hc : c < 128) :
    lr_EH ea ev nx (upd ch c (-1)) fe (lr_uk K c []) nf (-1) [] := by
  obtain ⟨d, _, F, E, ow, h1, h2, _⟩ := lr_EH_detach H hc
  exact ⟨F, E, ow, h1, h2, rfl, List.nodup_nil, fun x hx => by cases hx⟩
theorem lr_EH_step {ea ev nx ch : Nat → Int32} {fe h : Int32} {K : Nat → List (Nat × Int32)} {nf e : Nat} {d : List Nat} (H : lr_EH ea ev nx ch fe K nf h (e :: d)) :
    h = nI e ∧ e < 64 ∧ lr_EH ea ev (upd nx e fe) ch (nI e) K (nf + 1) (nx e) d := by
  obtain ⟨F, E, ow, ⟨f1, f2, f3, f4⟩, h2, ⟨g1, g2, g3⟩⟩ := H
  have eF : e ∉ F := by
    intro z
    have h5 := f3 e z
    rw [g3 e List.mem_cons_self] at h5; omega
  refine ⟨g1.1, g1.2.1, e :: F, E, (fun j => if j = e then 0 else ow j), ⟨⟨rfl, g1.2.1, ?_⟩, List.nodup_cons.mpr ⟨eF, f2⟩, ?_, ?_⟩, ?_, lr_lk_fr (List.nodup_cons.mp g2).1 g1.2.2, (List.nodup_cons.mp g2).2, ?_⟩
  · rw [pk_us]; exact lr_lk_fr eF f1
  · intro x hx
    show (if x = e then 0 else ow x) = 0
    by_cases z : x = e
    · rw [if_pos z]
    · rw [if_neg z]
      rcases List.mem_cons.mp hx with y | y
      · exact absurd y z
      · exact f3 x y
  · rw [List.length_cons, f4]
  · intro c hc
    obtain ⟨k1, k2, k3, k4⟩ := h2 c hc
    have eE : e ∉ E c := by
      intro z
      have h5 := k3 e z
      rw [g3 e List.mem_cons_self] at h5; omega
    refine ⟨lr_lk_fr eE k1, k2, ?_, k4⟩
    intro x hx
    show (if x = e then 0 else ow x) = c + 1
    have : x ≠ e := by intro z; subst z; exact eE hx
    rw [if_neg this]; exact k3 x hx
  · intro x hx
    show (if x = e then 0 else ow x) = 200
    have : x ≠ e := by intro z; subst z; exact (List.nodup_cons.mp g2).1 hx
    rw [if_neg this]; exact g3 x (List.mem_cons_of_mem _ hx)
theorem lr_EH_nil {ea ev nx ch : Nat → Int32} {fe h : Int32} {K : Nat → List (Nat × Int32)} {nf : Nat} (H : lr_EH ea ev nx ch fe K nf h []) :
    h = -1 ∧ lr_EH ea ev nx ch fe K nf (-1) [] := by
  obtain ⟨F, E, ow, h1, h2, h3, _⟩ := H
  have : h = -1 := h3
  subst this
  exact ⟨rfl, F, E, ow, h1, h2, rfl, List.nodup_nil, fun x hx => by cases hx⟩
theorem lr_EH_K {ea ev nx ch : Nat → Int32} {fe h : Int32} {K K' : Nat → List (Nat × Int32)} {nf : Nat} {d : List Nat} (H : lr_EH ea ev nx ch fe K nf h d) (e : ∀ c, c < 128 → K' c = K c) :
    lr_EH ea ev nx ch fe K' nf h d := by
  obtain ⟨F, E, ow, h1, h2, h3⟩ := H
  refine ⟨F, E, ow, h1, ?_, h3⟩
  intro c hc
  obtain ⟨k1, k2, k3, k4⟩ := h2 c hc
  exact ⟨k1, k2, k3, by rw [e c hc]; exact k4⟩
end
section
/-! what the queued diffs make of a word; X's application of diffs -/
def lr_ov (l : List lr_R) (a : Nat) (x : Int32) : Int32 := l.foldl (fun b q => if lr_d q a < 0 then b else lr_d q a) x
theorem lr_ov_snoc (l : List lr_R) (q : lr_R) (a : Nat) (x : Int32) : lr_ov (l ++ [q]) a x = if lr_d q a < 0 then lr_ov l a x else lr_d q a := by
  unfold lr_ov
  rw [List.foldl_append]; rfl
theorem lr_ov_app (l m : List lr_R) (a : Nat) (x : Int32) : lr_ov (l ++ m) a x = lr_ov m a (lr_ov l a x) := by
  unfold lr_ov
  rw [List.foldl_append]
theorem lr_ov_one (q : lr_R) (a : Nat) (x : Int32) : lr_ov [q] a x = if lr_d q a < 0 then x else lr_d q a := rfl
def lr_ap (n : Nat) : List (Nat × Int32) → (Nat → Int32) → (Nat → Int32)
  | [], c => c
  | z :: t, c => lr_ap n t (upd c (n * 32 + z.1) z.2)
theorem lr_ap_pg {d : Nat → Int32} {n b : Nat} : ∀ {w : Nat} {c : Nat → Int32} {i : Nat}, b + w ≤ 32 →
    lr_ap n (lr_pg d b w) c i = if (i / 32 = n ∧ b ≤ i % 32 ∧ i % 32 < b + w ∧ ¬ d (i % 32) < 0) then d (i % 32) else c i := by
  intro w
  induction w with
  | zero =>
    intro c i _
    rw [if_neg (fun z => by have := z.2.2.1; have := z.2.1; omega)]
    rfl
  | succ w ih =>
    intro c i hb
    by_cases h : d (b + w) < 0
    · rw [show lr_pg d b (w + 1) = lr_pg d b w from if_pos h, ih (by omega)]
      by_cases hc : (i / 32 = n ∧ b ≤ i % 32 ∧ i % 32 < b + w ∧ ¬ d (i % 32) < 0)
      · rw [if_pos hc, if_pos ⟨hc.1, hc.2.1, by omega, hc.2.2.2⟩]
      · rw [if_neg hc, if_neg]
        intro z
        by_cases e : i % 32 = b + w
        · exact z.2.2.2 (by rw [e]; exact h)
        · exact hc ⟨z.1, z.2.1, by have := z.2.2.1; omega, z.2.2.2⟩
    · rw [show lr_pg d b (w + 1) = (b + w, d (b + w)) :: lr_pg d b w from if_neg h]
      show lr_ap n (lr_pg d b w) (upd c (n * 32 + (b + w)) (d (b + w))) i = _
      rw [ih (by omega)]
      by_cases e : i = n * 32 + (b + w)
      · have h1 : i / 32 = n := by omega
        have h2 : i % 32 = b + w := by omega
        rw [if_neg (fun z => by have := z.2.2.1; omega), e, pk_us, ← e, if_pos ⟨h1, by omega, by omega, by rw [h2]; exact h⟩, h2]
      · by_cases hc : (i / 32 = n ∧ b ≤ i % 32 ∧ i % 32 < b + w ∧ ¬ d (i % 32) < 0)
        · rw [if_pos hc, if_pos ⟨hc.1, hc.2.1, by omega, hc.2.2.2⟩]
        · rw [if_neg hc, pk_un e, if_neg]
          intro z
          by_cases e2 : i % 32 = b + w
          · have := z.1; omega
          · exact hc ⟨z.1, z.2.1, by have := z.2.2.1; omega, z.2.2.2⟩
def lr_acc (n b B : Nat) (l : List lr_R) (c : Nat → Int32) : Nat → Int32 := fun i => if i / 32 = n ∧ b ≤ i % 32 ∧ i % 32 < b + B then lr_ov l (i % 32) (c i) else c i
theorem lr_acc_0 {n b B : Nat} {c : Nat → Int32} : lr_acc n b B [] c = c := by
  funext i
  show (if i / 32 = n ∧ b ≤ i % 32 ∧ i % 32 < b + B then lr_ov [] (i % 32) (c i) else c i) = c i
  by_cases h : i / 32 = n ∧ b ≤ i % 32 ∧ i % 32 < b + B
  · rw [if_pos h]; rfl
  · rw [if_neg h]
theorem lr_acc_s {n b B : Nat} (q : lr_R) (l : List lr_R) (c : Nat → Int32) (hb : b + B ≤ 32) : lr_ap n (lr_pg (lr_d q) b B) (lr_acc n b B l c) = lr_acc n b B (l ++ [q]) c := by
  funext i
  rw [lr_ap_pg hb]
  unfold lr_acc
  by_cases h : i / 32 = n ∧ b ≤ i % 32 ∧ i % 32 < b + B
  · rw [if_pos h, if_pos h, lr_ov_snoc]
    by_cases h2 : lr_d q (i % 32) < 0
    · rw [if_pos h2, if_neg (fun z => z.2.2.2 h2)]
    · rw [if_neg h2, if_pos ⟨h.1, h.2.1, h.2.2, h2⟩]
  · rw [if_neg h, if_neg h, if_neg (fun z => h ⟨z.1, z.2.1, z.2.2.1⟩)]
/-- the chain of record q at page p holds its diff there -/
def lr_ch (ea ev nx ch : Nat → Int32) (B : Nat) (q : lr_R) (p : Nat) : Prop :=
  lr_z q < 32 ∧ ∃ l : List Nat, lr_lk nx l (ch (lr_z q * 4 + p)) ∧ l.map (lr_f ea ev) = (lr_pg (lr_d q) (p * B) B).map lr_g
section
variable {N P B R : Nat} {f_openPages f_openNodes f_freeSlotCount f_retained f_freeEntry f_entriesUsed f_episodeCount : Int32} {a_copy a_twin a_opened a_openCount a_queue a_queued a_fetchCount a_clocks a_dropped a_slots a_freeSlots a_stamps a_sums a_notices a_chain a_entryAddr a_entryValue a_entryNext a_mode a_holders a_line a_lineLength a_lockClocks a_target a_cursor a_floor : Nat → Int32}
theorem xx_bN1 {post : Int32 → Prop} {j : Nat} (hN : N ≤ 4) (h : j < N) (hp : post 0) : wpX_badNode post (nI N, nI P, nI B, nI R, nI (P * B), f_openPages, f_openNodes, f_freeSlotCount, f_retained, f_freeEntry, f_entriesUsed, f_episodeCount, a_copy, a_twin, a_opened, a_openCount, a_queue, a_queued, a_fetchCount, a_clocks, a_dropped, a_slots, a_freeSlots, a_stamps, a_sums, a_notices, a_chain, a_entryAddr, a_entryValue, a_entryNext, a_mode, a_holders, a_line, a_lineLength, a_lockClocks, a_target, a_cursor, a_floor) (nI j) :=
  br_f (nI_pos (by omega)) (br_t (nI_lt h (by omega)) hp)
theorem xx_bN0 {post : Int32 → Prop} {x : Int32} (h : x < 0 ∨ ¬ x < nI N) (hp : post 1) : wpX_badNode post (nI N, nI P, nI B, nI R, nI (P * B), f_openPages, f_openNodes, f_freeSlotCount, f_retained, f_freeEntry, f_entriesUsed, f_episodeCount, a_copy, a_twin, a_opened, a_openCount, a_queue, a_queued, a_fetchCount, a_clocks, a_dropped, a_slots, a_freeSlots, a_stamps, a_sums, a_notices, a_chain, a_entryAddr, a_entryValue, a_entryNext, a_mode, a_holders, a_line, a_lineLength, a_lockClocks, a_target, a_cursor, a_floor) x := by
  by_cases h0 : x < 0
  · exact br_t h0 hp
  · exact br_f h0 (br_f (h.resolve_left h0) hp)
theorem xx_bP1 {post : Int32 → Prop} {j : Nat} (hN : P ≤ 4) (h : j < P) (hp : post 0) : wpX_badPage post (nI N, nI P, nI B, nI R, nI (P * B), f_openPages, f_openNodes, f_freeSlotCount, f_retained, f_freeEntry, f_entriesUsed, f_episodeCount, a_copy, a_twin, a_opened, a_openCount, a_queue, a_queued, a_fetchCount, a_clocks, a_dropped, a_slots, a_freeSlots, a_stamps, a_sums, a_notices, a_chain, a_entryAddr, a_entryValue, a_entryNext, a_mode, a_holders, a_line, a_lineLength, a_lockClocks, a_target, a_cursor, a_floor) (nI j) :=
  br_f (nI_pos (by omega)) (br_t (nI_lt h (by omega)) hp)
theorem xx_bP0 {post : Int32 → Prop} {x : Int32} (h : x < 0 ∨ ¬ x < nI P) (hp : post 1) : wpX_badPage post (nI N, nI P, nI B, nI R, nI (P * B), f_openPages, f_openNodes, f_freeSlotCount, f_retained, f_freeEntry, f_entriesUsed, f_episodeCount, a_copy, a_twin, a_opened, a_openCount, a_queue, a_queued, a_fetchCount, a_clocks, a_dropped, a_slots, a_freeSlots, a_stamps, a_sums, a_notices, a_chain, a_entryAddr, a_entryValue, a_entryNext, a_mode, a_holders, a_line, a_lineLength, a_lockClocks, a_target, a_cursor, a_floor) x := by
  by_cases h0 : x < 0
  · exact br_t h0 hp
  · exact br_f h0 (br_f (h.resolve_left h0) hp)
theorem xx_bL1 {post : Int32 → Prop} {j : Nat} (h : j < 4) (hp : post 0) : wpX_badLock post (nI N, nI P, nI B, nI R, nI (P * B), f_openPages, f_openNodes, f_freeSlotCount, f_retained, f_freeEntry, f_entriesUsed, f_episodeCount, a_copy, a_twin, a_opened, a_openCount, a_queue, a_queued, a_fetchCount, a_clocks, a_dropped, a_slots, a_freeSlots, a_stamps, a_sums, a_notices, a_chain, a_entryAddr, a_entryValue, a_entryNext, a_mode, a_holders, a_line, a_lineLength, a_lockClocks, a_target, a_cursor, a_floor) (nI j) :=
  br_f (nI_pos (by omega)) (br_t (nI_lt (b := 4) h (by omega)) hp)
theorem xx_bL0 {post : Int32 → Prop} {x : Int32} (h : x < 0 ∨ ¬ x < nI 4) (hp : post 1) : wpX_badLock post (nI N, nI P, nI B, nI R, nI (P * B), f_openPages, f_openNodes, f_freeSlotCount, f_retained, f_freeEntry, f_entriesUsed, f_episodeCount, a_copy, a_twin, a_opened, a_openCount, a_queue, a_queued, a_fetchCount, a_clocks, a_dropped, a_slots, a_freeSlots, a_stamps, a_sums, a_notices, a_chain, a_entryAddr, a_entryValue, a_entryNext, a_mode, a_holders, a_line, a_lineLength, a_lockClocks, a_target, a_cursor, a_floor) x := by
  by_cases h0 : x < 0
  · exact br_t h0 hp
  · exact br_f h0 (br_f (h.resolve_left h0) hp)
theorem xx_bA1 {post : Int32 → Prop} {j : Nat} (hN : P * B ≤ 32) (h : j < P * B) (hp : post 0) : wpX_badAddr post (nI N, nI P, nI B, nI R, nI (P * B), f_openPages, f_openNodes, f_freeSlotCount, f_retained, f_freeEntry, f_entriesUsed, f_episodeCount, a_copy, a_twin, a_opened, a_openCount, a_queue, a_queued, a_fetchCount, a_clocks, a_dropped, a_slots, a_freeSlots, a_stamps, a_sums, a_notices, a_chain, a_entryAddr, a_entryValue, a_entryNext, a_mode, a_holders, a_line, a_lineLength, a_lockClocks, a_target, a_cursor, a_floor) (nI j) :=
  br_f (nI_pos (by omega)) (br_t (nI_lt h (by omega)) hp)
theorem xx_bA0 {post : Int32 → Prop} {x : Int32} (h : x < 0 ∨ ¬ x < nI (P * B)) (hp : post 1) : wpX_badAddr post (nI N, nI P, nI B, nI R, nI (P * B), f_openPages, f_openNodes, f_freeSlotCount, f_retained, f_freeEntry, f_entriesUsed, f_episodeCount, a_copy, a_twin, a_opened, a_openCount, a_queue, a_queued, a_fetchCount, a_clocks, a_dropped, a_slots, a_freeSlots, a_stamps, a_sums, a_notices, a_chain, a_entryAddr, a_entryValue, a_entryNext, a_mode, a_holders, a_line, a_lineLength, a_lockClocks, a_target, a_cursor, a_floor) x := by
  by_cases h0 : x < 0
  · exact br_t h0 hp
  · exact br_f h0 (br_f (h.resolve_left h0) hp)
theorem xx_apD {post : SX → Prop} {n : Nat} (hn : n < 4) (hB : B ≤ 8) : ∀ (l : List Nat) (z : List (Nat × Int32)) (c : Nat → Int32) (h : Int32) (i : Nat), lr_lk a_entryNext l h → l.map (lr_f a_entryAddr a_entryValue) = z.map lr_g → (∀ y, y ∈ z → y.1 < 32) → i + l.length ≤ B → post (nI N, nI P, nI B, nI R, nI (P * B), f_openPages, f_openNodes, f_freeSlotCount, f_retained, f_freeEntry, f_entriesUsed, f_episodeCount, lr_ap n z c, a_twin, a_opened, a_openCount, a_queue, a_queued, a_fetchCount, a_clocks, a_dropped, a_slots, a_freeSlots, a_stamps, a_sums, a_notices, a_chain, a_entryAddr, a_entryValue, a_entryNext, a_mode, a_holders, a_line, a_lineLength, a_lockClocks, a_target, a_cursor, a_floor) → wX_applyDiff_15 post (nI n) (nI N) (nI P) (nI B) (nI R) (nI (P * B)) f_openPages f_openNodes f_freeSlotCount f_retained f_freeEntry f_entriesUsed f_episodeCount (l.length + 1) h (nI i) c a_twin a_opened a_openCount a_queue a_queued a_fetchCount a_clocks a_dropped a_slots a_freeSlots a_stamps a_sums a_notices a_chain a_entryAddr a_entryValue a_entryNext a_mode a_holders a_line a_lineLength a_lockClocks a_target a_cursor a_floor := by
  intro l
  induction l with
  | nil =>
    intro z c h i h1 h2 h3 h4 hp
    cases z with
    | nil =>
      have e : h = -1 := h1
      subst e
      by_cases hc : nI B ≤ nI i
      · exact br_t hc hp
      · exact br_f hc (br_t lr_neg1 hp)
    | cons y z => cases h2
  | cons e l ih =>
    intro z c h i h1 h2 h3 h4 hp
    cases z with
    | nil => cases h2
    | cons y z =>
      obtain ⟨rfl, he, hl⟩ := h1
      rw [List.map_cons, List.map_cons] at h2
      obtain ⟨h5, h6⟩ := List.cons.inj h2
      have ha : a_entryAddr e = nI y.1 := congrArg Prod.fst h5
      have hv : a_entryValue e = y.2 := congrArg Prod.snd h5
      have hy := h3 y List.mem_cons_self
      have hc : (nI e).toNatClampNeg = e := lr_c1 (by omega)
      rw [List.length_cons] at h4
      refine br_f (nI_ge (by omega) (by omega)) (br_f (nI_pos (by omega)) ⟨lr_v1 he (by omega), lr_v1 he (by omega), ?_, nm_r (e' := upd c (n * 32 + y.1) y.2) ?_ ⟨lr_v1 he (by omega), nm_r (e' := a_entryNext e) ?_ (nm_r (nI_1 i) (ih z _ _ (i + 1) hl h6 (fun y' hy' => h3 y' (List.mem_cons_of_mem _ hy')) (by omega) hp))⟩⟩)
      · rw [hc, ha]; exact lr_v32 (by omega) (by omega)
      · rw [hc, ha, hv, lr_c32 (by omega)]
      · rw [hc]
theorem xx_applyDiff {post : SX → Prop} {n p : Nat} {q : lr_R} (hn : n < 4) (hp : p < 4) (hB : B ≤ 8) (hb : p * B + B ≤ 32) (hq : lr_ch a_entryAddr a_entryValue a_entryNext a_chain B q p)
    (K : post (nI N, nI P, nI B, nI R, nI (P * B), f_openPages, f_openNodes, f_freeSlotCount, f_retained, f_freeEntry, f_entriesUsed, f_episodeCount, lr_ap n (lr_pg (lr_d q) (p * B) B) a_copy, a_twin, a_opened, a_openCount, a_queue, a_queued, a_fetchCount, a_clocks, a_dropped, a_slots, a_freeSlots, a_stamps, a_sums, a_notices, a_chain, a_entryAddr, a_entryValue, a_entryNext, a_mode, a_holders, a_line, a_lineLength, a_lockClocks, a_target, a_cursor, a_floor)) : wpX_applyDiff post (nI N, nI P, nI B, nI R, nI (P * B), f_openPages, f_openNodes, f_freeSlotCount, f_retained, f_freeEntry, f_entriesUsed, f_episodeCount, a_copy, a_twin, a_opened, a_openCount, a_queue, a_queued, a_fetchCount, a_clocks, a_dropped, a_slots, a_freeSlots, a_stamps, a_sums, a_notices, a_chain, a_entryAddr, a_entryValue, a_entryNext, a_mode, a_holders, a_line, a_lineLength, a_lockClocks, a_target, a_cursor, a_floor) (nI n) (nI (lr_z q)) (nI p) := by
  obtain ⟨hz, l, h1, h2⟩ := hq
  have hlen : l.length ≤ B := by
    have := congrArg List.length h2
    rw [List.length_map, List.length_map] at this
    rw [this]; exact lr_pg_le _ _ _
  refine ⟨lr_v4 (by omega) (by omega), nm_r (e' := a_chain (lr_z q * 4 + p)) (by rw [lr_c4 (by omega)]) ⟨_, xx_apD hn hB l _ a_copy _ 0 h1 h2 ?_ (by omega) K⟩⟩
  intro y hy
  obtain ⟨i, h3, _, h4⟩ := lr_pg_mem.mp hy
  rw [h4]; show p * B + i < 32; omega
theorem xx_access {post : SX → Prop} {n p : Nat} {l : List lr_R} (hn : n < 4) (hp : p < 4) (hB : B ≤ 8) (hb : p * B + B ≤ 32) (hl : a_queued (n * 4 + p) = nI l.length) (h32 : l.length ≤ 32)
    (hq : ∀ i q, l[i]? = some q → a_queue ((n * 4 + p) * 32 + i) = nI (lr_z q)) (hc : ∀ q, q ∈ l → lr_ch a_entryAddr a_entryValue a_entryNext a_chain B q p)
    (K : post (nI N, nI P, nI B, nI R, nI (P * B), f_openPages, f_openNodes, f_freeSlotCount, f_retained, f_freeEntry, f_entriesUsed, f_episodeCount, lr_acc n (p * B) B l a_copy, a_twin, a_opened, a_openCount, a_queue, upd a_queued (n * 4 + p) 0, upd a_fetchCount n (a_fetchCount n + a_queued (n * 4 + p)), a_clocks, a_dropped, a_slots, a_freeSlots, a_stamps, a_sums, a_notices, a_chain, a_entryAddr, a_entryValue, a_entryNext, a_mode, a_holders, a_line, a_lineLength, a_lockClocks, a_target, a_cursor, a_floor)) : wpX_access post (nI N, nI P, nI B, nI R, nI (P * B), f_openPages, f_openNodes, f_freeSlotCount, f_retained, f_freeEntry, f_entriesUsed, f_episodeCount, a_copy, a_twin, a_opened, a_openCount, a_queue, a_queued, a_fetchCount, a_clocks, a_dropped, a_slots, a_freeSlots, a_stamps, a_sums, a_notices, a_chain, a_entryAddr, a_entryValue, a_entryNext, a_mode, a_holders, a_line, a_lineLength, a_lockClocks, a_target, a_cursor, a_floor) (nI n) (nI p) := by
  refine nm_r (lr_i4 n p) ⟨lr_v1 (by omega) (by omega), nm_r (e' := nI l.length) (by rw [lr_c1 (by omega), hl]) ?_⟩
  refine loop_0 (fun f i c => wX_access_17 post (nI n) (nI p) (nI (n * 4 + p)) (nI l.length) f (nI i) (nI N) (nI P) (nI B) (nI R) (nI (P * B)) f_openPages f_openNodes f_freeSlotCount f_retained f_freeEntry f_entriesUsed f_episodeCount c a_twin a_opened a_openCount a_queue a_queued a_fetchCount a_clocks a_dropped a_slots a_freeSlots a_stamps a_sums a_notices a_chain a_entryAddr a_entryValue a_entryNext a_mode a_holders a_line a_lineLength a_lockClocks a_target a_cursor a_floor) (fun i c => c = lr_acc n (p * B) B (l.take i) a_copy) l.length a_copy ?_ ?_ ?_
  · rw [List.take_zero, lr_acc_0]
  · intro f c ec
    rw [List.take_length] at ec
    subst ec
    refine br_t (nI_le (Nat.le_refl _) (by omega)) ⟨lr_v1 hn (by omega), lr_v1 hn (by omega), nm_r (e' := upd a_fetchCount n (a_fetchCount n + a_queued (n * 4 + p))) (by rw [lr_c1 (by omega), hl]) ⟨lr_v1 (by omega) (by omega), nm_r (e' := upd a_queued (n * 4 + p) 0) (by rw [lr_c1 (by omega)]) K⟩⟩
  · intro f i c hi ec ih
    subst ec
    have hg : l[i]? = some l[i] := List.getElem?_eq_getElem hi
    refine br_f (nI_ge hi (by omega)) ⟨lr_v32 (by omega) (by omega), nm_r (e' := nI (lr_z l[i])) (by rw [lr_c32 (by omega), hq i _ hg]) ?_⟩
    refine xx_applyDiff hn hp hB hb (hc _ (List.getElem_mem hi)) (nm_r (nI_1 i) (ih _ ?_))
    rw [lr_acc_s _ _ _ hb, List.take_append_getElem hi]
end
end
section
/-! X: twins, look-ups -/
def lr_tw (n b w : Nat) (c t : Nat → Int32) : Nat → Int32 := fun i => if i / 32 = n ∧ b ≤ i % 32 ∧ i % 32 < b + w then c i else t i
theorem lr_tw_0 {n b : Nat} {c t : Nat → Int32} : t = lr_tw n b 0 c t := by
  funext i
  show _ = (if i / 32 = n ∧ b ≤ i % 32 ∧ i % 32 < b + 0 then c i else t i)
  rw [if_neg (fun z => by omega)]
theorem lr_tw_s {n b w : Nat} {c t : Nat → Int32} (h : b + w < 32) : upd (lr_tw n b w c t) (n * 32 + b + w) (c (n * 32 + b + w)) = lr_tw n b (w + 1) c t := by
  funext i
  by_cases e : i = n * 32 + b + w
  · rw [e, pk_us]
    show _ = (if _ then _ else _)
    rw [if_pos (by omega)]
  · rw [pk_un e]
    show (if _ then _ else _) = (if _ then _ else _)
    by_cases h2 : i / 32 = n ∧ b ≤ i % 32 ∧ i % 32 < b + w
    · rw [if_pos h2, if_pos (by omega)]
    · rw [if_neg h2, if_neg (by omega)]
theorem lr_inj {α β : Type} {f : α → β} : ∀ {l : List α}, (l.map f).Nodup → ∀ {x y : α}, x ∈ l → y ∈ l → f x = f y → x = y := by
  intro l
  induction l with
  | nil => intro _ x y hx; cases hx
  | cons a l ih =>
    intro h x y hx hy e
    rw [List.map_cons, List.nodup_cons] at h
    rcases List.mem_cons.mp hx with hx1 | hx1
    · rcases List.mem_cons.mp hy with hy1 | hy1
      · rw [hx1, hy1]
      · exact absurd (List.mem_map.mpr ⟨y, hy1, by rw [← e, hx1]⟩) h.1
    · rcases List.mem_cons.mp hy with hy1 | hy1
      · exact absurd (List.mem_map.mpr ⟨x, hx1, by rw [e, hy1]⟩) h.1
      · exact ih h.2 hx1 hy1 e
theorem lr_mem_at {α : Type} {l : List α} {x : α} (h : x ∈ l) : ∃ i : Nat, l[i]? = some x := by
  obtain ⟨i, hi, e⟩ := List.getElem_of_mem h
  exact ⟨i, by rw [List.getElem?_eq_getElem hi, e]⟩
theorem lr_at_lt {α : Type} {l : List α} {i : Nat} {x : α} (h : l[i]? = some x) : i < l.length := by
  obtain ⟨hi, _⟩ := List.getElem?_eq_some_iff.mp h
  exact hi
theorem lr_at_mem {α : Type} {l : List α} {i : Nat} {x : α} (h : l[i]? = some x) : x ∈ l := List.mem_of_getElem? h
section
variable {N P B R : Nat} {f_openPages f_openNodes f_freeSlotCount f_retained f_freeEntry f_entriesUsed f_episodeCount : Int32} {a_copy a_twin a_opened a_openCount a_queue a_queued a_fetchCount a_clocks a_dropped a_slots a_freeSlots a_stamps a_sums a_notices a_chain a_entryAddr a_entryValue a_entryNext a_mode a_holders a_line a_lineLength a_lockClocks a_target a_cursor a_floor : Nat → Int32}
theorem xx_openPage {post : SX → Prop} {n p : Nat} (hn : n < 4) (hp : p < 4) (hB : B ≤ 8) (hb : p * B + B ≤ 32)
    (K : post (nI N, nI P, nI B, nI R, nI (P * B), f_openPages + 1, if a_openCount n = 0 then f_openNodes + 1 else f_openNodes, f_freeSlotCount, f_retained, f_freeEntry, f_entriesUsed, f_episodeCount, a_copy, lr_tw n (p * B) B a_copy a_twin, upd a_opened (n * 4 + p) 1, upd a_openCount n (a_openCount n + 1), a_queue, a_queued, a_fetchCount, a_clocks, a_dropped, a_slots, a_freeSlots, a_stamps, a_sums, a_notices, a_chain, a_entryAddr, a_entryValue, a_entryNext, a_mode, a_holders, a_line, a_lineLength, a_lockClocks, a_target, a_cursor, a_floor)) :
    wpX_openPage post (nI N, nI P, nI B, nI R, nI (P * B), f_openPages, f_openNodes, f_freeSlotCount, f_retained, f_freeEntry, f_entriesUsed, f_episodeCount, a_copy, a_twin, a_opened, a_openCount, a_queue, a_queued, a_fetchCount, a_clocks, a_dropped, a_slots, a_freeSlots, a_stamps, a_sums, a_notices, a_chain, a_entryAddr, a_entryValue, a_entryNext, a_mode, a_holders, a_line, a_lineLength, a_lockClocks, a_target, a_cursor, a_floor) (nI n) (nI p) := by
  refine nm_r (e' := nI (n * 32 + p * B)) (by rw [lr_m32, pk_mul, nI_add]) ?_
  refine loop_0 (fun f i c => wX_openPage_15 post (nI n) (nI p) (nI (n * 32 + p * B)) (nI N) (nI P) (nI B) (nI R) (nI (P * B)) f_openPages f_openNodes f_freeSlotCount f_retained f_freeEntry f_entriesUsed f_episodeCount f (nI i) a_copy c a_opened a_openCount a_queue a_queued a_fetchCount a_clocks a_dropped a_slots a_freeSlots a_stamps a_sums a_notices a_chain a_entryAddr a_entryValue a_entryNext a_mode a_holders a_line a_lineLength a_lockClocks a_target a_cursor a_floor) (fun i c => c = lr_tw n (p * B) i a_copy a_twin) B a_twin lr_tw_0 ?_ ?_
  · intro f c ec
    subst ec
    refine br_t (nI_le (Nat.le_refl _) (by omega)) ⟨lr_v4 (by omega) (by omega), nm_r (e' := upd a_opened (n * 4 + p) 1) (by rw [lr_c4 (by omega), lr_nb1]) ⟨lr_v1 hn (by omega), ?_⟩⟩
    have hc : (nI n).toNatClampNeg = n := lr_c1 (by omega)
    by_cases h : a_openCount n = 0
    · rw [if_pos h] at K
      exact br_t (by rw [hc]; exact h) (nm_e ⟨lr_v1 hn (by omega), lr_v1 hn (by omega), nm_r (e' := upd a_openCount n (a_openCount n + 1)) (by rw [hc]) (nm_e K)⟩)
    · rw [if_neg h] at K
      exact br_f (by rw [hc]; exact h) ⟨lr_v1 hn (by omega), lr_v1 hn (by omega), nm_r (e' := upd a_openCount n (a_openCount n + 1)) (by rw [hc]) (nm_e K)⟩
  · intro f i c hi ec ih
    subst ec
    have hv : vp_in (nI (n * 32 + p * B) + nI i) 128 := by rw [nI_add]; exact lr_v1 (by omega) (by omega)
    refine br_f (nI_ge hi (by omega)) ⟨hv, hv, nm_r (e' := lr_tw n (p * B) (i + 1) a_copy a_twin) ?_ (nm_r (nI_1 i) (ih _ rfl))⟩
    rw [nI_add, lr_c1 (by omega), lr_tw_s (by omega)]
theorem xx_fE {post : Int32 → Prop} {a : Nat} (ha : a < 32) (hB : B ≤ 8) : ∀ (l : List Nat) (z : List (Nat × Int32)) (h : Int32) (i : Nat), lr_lk a_entryNext l h → l.map (lr_f a_entryAddr a_entryValue) = z.map lr_g → (∀ y, y ∈ z → y.1 < 32) → i + l.length ≤ B →
    ((∀ y, y ∈ z → y.1 ≠ a) → post (-1)) → (∀ e v, e < 64 → (a, v) ∈ z → a_entryValue e = v → post (nI e)) → wX_findEntry_19 post (nI a) (nI N) (nI P) (nI B) (nI R) (nI (P * B)) f_openPages f_openNodes f_freeSlotCount f_retained f_freeEntry f_entriesUsed f_episodeCount a_copy a_twin a_opened a_openCount a_queue a_queued a_fetchCount a_clocks a_dropped a_slots a_freeSlots a_stamps a_sums a_notices a_chain a_entryAddr a_entryValue a_entryNext a_mode a_holders a_line a_lineLength a_lockClocks a_target a_cursor a_floor (l.length + 1) h (nI i) := by
  intro l
  induction l with
  | nil =>
    intro z h i h1 h2 h3 h4 H1 H2
    cases z with
    | nil =>
      have e : h = -1 := h1
      subst e
      have hp := H1 (fun y hy => by cases hy)
      by_cases hc : nI B ≤ nI i
      · exact br_t hc hp
      · exact br_f hc (br_t lr_neg1 hp)
    | cons y z => cases h2
  | cons e l ih =>
    intro z h i h1 h2 h3 h4 H1 H2
    cases z with
    | nil => cases h2
    | cons y z =>
      obtain ⟨rfl, he, hl⟩ := h1
      rw [List.map_cons, List.map_cons] at h2
      obtain ⟨h5, h6⟩ := List.cons.inj h2
      have hea : a_entryAddr e = nI y.1 := congrArg Prod.fst h5
      have hv : a_entryValue e = y.2 := congrArg Prod.snd h5
      have hy := h3 y List.mem_cons_self
      have hc : (nI e).toNatClampNeg = e := lr_c1 (by omega)
      rw [List.length_cons] at h4
      refine br_f (nI_ge (by omega) (by omega)) (br_f (nI_pos (by omega)) ⟨lr_v1 he (by omega), ?_⟩)
      have hcm : a_entryAddr (nI e).toNatClampNeg = nI a ↔ y.1 = a := by rw [hc]; exact lr_Ieq hea rfl (by omega) (by omega)
      by_cases hya : y.1 = a
      · refine br_t (hcm.mpr hya) (H2 e y.2 he ?_ hv)
        rw [← hya]; exact List.mem_cons_self
      · refine br_f (fun z => hya (hcm.mp z)) ⟨lr_v1 he (by omega), nm_r (e' := a_entryNext e) (by rw [hc]) (nm_r (nI_1 i) (ih z _ (i + 1) hl h6 (fun y' hy' => h3 y' (List.mem_cons_of_mem _ hy')) (by omega) ?_ ?_))⟩
        · intro hz
          apply H1
          intro y' hy'
          rcases List.mem_cons.mp hy' with rfl | hy'
          · exact hya
          · exact hz y' hy'
        · intro e' v' he' hm hv'
          exact H2 e' v' he' (List.mem_cons_of_mem _ hm) hv'
theorem xx_findEntry {post : Int32 → Prop} {a : Nat} {q : lr_R} (ha : a < 32) (h1B : 1 ≤ B) (hB : B ≤ 8) (hap : a / B < 4) (hq : lr_ch a_entryAddr a_entryValue a_entryNext a_chain B q (a / B)) (hb : a / B * B + B ≤ 32)
    (H1 : lr_d q a < 0 → post (-1)) (H2 : ∀ e, e < 64 → ¬ lr_d q a < 0 → a_entryValue e = lr_d q a → post (nI e)) : wpX_findEntry post (nI N, nI P, nI B, nI R, nI (P * B), f_openPages, f_openNodes, f_freeSlotCount, f_retained, f_freeEntry, f_entriesUsed, f_episodeCount, a_copy, a_twin, a_opened, a_openCount, a_queue, a_queued, a_fetchCount, a_clocks, a_dropped, a_slots, a_freeSlots, a_stamps, a_sums, a_notices, a_chain, a_entryAddr, a_entryValue, a_entryNext, a_mode, a_holders, a_line, a_lineLength, a_lockClocks, a_target, a_cursor, a_floor) (nI (lr_z q)) (nI a) := by
  obtain ⟨hz, l, h1, h2⟩ := hq
  have hlen : l.length ≤ B := by
    have := congrArg List.length h2
    rw [List.length_map, List.length_map] at this
    rw [this]; exact lr_pg_le _ _ _
  have hd : nI a / nI B = nI (a / B) := pk_div (by omega) (by omega) (by omega)
  have hdm := Nat.div_add_mod' a B
  have hml := Nat.mod_lt a (show B > 0 by omega)
  refine ⟨nI_ne0 (by omega) (by omega), by rw [hd]; exact lr_v4 (by omega) (by omega), nm_r (e' := a_chain (lr_z q * 4 + a / B)) (by rw [hd, lr_c4 (by omega)]) ⟨_, xx_fE ha hB l _ _ 0 h1 h2 ?_ (by omega) ?_ ?_⟩⟩
  · intro y hy
    obtain ⟨i, h3, _, h4⟩ := lr_pg_mem.mp hy
    rw [h4]; show a / B * B + i < 32; omega
  · intro hz'
    apply H1
    by_cases hn : lr_d q a < 0
    · exact hn
    · exfalso
      refine hz' (a, lr_d q a) (lr_pg_mem.mpr ⟨a % B, hml, ?_, ?_⟩) rfl
      · rw [hdm]; exact hn
      · rw [hdm]
  · intro e v he hm hv
    obtain ⟨i, h3, h4, h5⟩ := lr_pg_mem.mp hm
    have e1 : a = a / B * B + i := congrArg Prod.fst h5
    have e2 : v = lr_d q (a / B * B + i) := congrArg Prod.snd h5
    rw [← e1] at h4 e2
    exact H2 e he h4 (hv.trans e2)
theorem xx_currentValue {post : Int32 → Prop} {n a : Nat} {l : List lr_R} (hn : n < 4) (ha : a < 32) (h1B : 1 ≤ B) (hB : B ≤ 8) (hap : a / B < 4) (hb : a / B * B + B ≤ 32) (hl : a_queued (n * 4 + a / B) = nI l.length) (h32 : l.length ≤ 32)
    (hq : ∀ i q, l[i]? = some q → a_queue ((n * 4 + a / B) * 32 + i) = nI (lr_z q)) (hc : ∀ q, q ∈ l → lr_ch a_entryAddr a_entryValue a_entryNext a_chain B q (a / B))
    (K : post (lr_ov l a (a_copy (n * 32 + a)))) : wpX_currentValue post (nI N, nI P, nI B, nI R, nI (P * B), f_openPages, f_openNodes, f_freeSlotCount, f_retained, f_freeEntry, f_entriesUsed, f_episodeCount, a_copy, a_twin, a_opened, a_openCount, a_queue, a_queued, a_fetchCount, a_clocks, a_dropped, a_slots, a_freeSlots, a_stamps, a_sums, a_notices, a_chain, a_entryAddr, a_entryValue, a_entryNext, a_mode, a_holders, a_line, a_lineLength, a_lockClocks, a_target, a_cursor, a_floor) (nI n) (nI a) := by
  have hd : nI a / nI B = nI (a / B) := pk_div (by omega) (by omega) (by omega)
  have key : ∀ i x, i ≤ l.length → x = nI i + (-1) → post (lr_ov (l.take i) a (a_copy (n * 32 + a))) → wX_currentValue_21 post (nI n) (nI a) (nI (n * 4 + a / B)) (nI N) (nI P) (nI B) (nI R) (nI (P * B)) f_openPages f_openNodes f_freeSlotCount f_retained f_freeEntry f_entriesUsed f_episodeCount a_copy a_twin a_opened a_openCount a_queue a_queued a_fetchCount a_clocks a_dropped a_slots a_freeSlots a_stamps a_sums a_notices a_chain a_entryAddr a_entryValue a_entryNext a_mode a_holders a_line a_lineLength a_lockClocks a_target a_cursor a_floor (i + 1) x := by
    intro i
    induction i with
    | zero =>
      intro x _ hx hp
      have : x = -1 := hx.trans (by decide)
      subst this
      refine br_t lr_neg1 ⟨lr_v32 (by omega) (by omega), ?_⟩
      rw [lr_c32 (by omega)]
      exact hp
    | succ i ih =>
      intro x hi hx hp
      rw [pk_m1] at hx
      subst hx
      have hg : l[i]? = some l[i] := List.getElem?_eq_getElem (by omega)
      rw [← List.take_append_getElem (show i < l.length by omega), lr_ov_snoc] at hp
      refine br_f (nI_pos (by omega)) ⟨lr_v32 (by omega) (by omega), nm_r (e' := nI (lr_z l[i])) (by rw [lr_c32 (by omega), hq i _ hg]) ?_⟩
      refine xx_findEntry ha h1B hB hap (hc _ (List.getElem_mem _)) hb ?_ ?_
      · intro hneg
        rw [if_pos hneg] at hp
        exact br_t lr_neg1 (nm_e (ih _ (by omega) rfl hp))
      · intro e he hpos hv
        rw [if_neg hpos] at hp
        refine br_f (nI_pos (by omega)) ⟨lr_v1 he (by omega), ?_⟩
        rw [lr_c1 (by omega), hv]; exact hp
  refine ⟨nI_ne0 (by omega) (by omega), nm_r (e' := nI (n * 4 + a / B)) (by rw [hd, lr_i4]) ⟨lr_v1 (by omega) (by omega), nm_e ⟨_, key l.length _ (Nat.le_refl _) ?_ ?_⟩⟩⟩
  · rw [lr_c1 (by omega), hl, Int32.sub_eq_add_neg]
  · rw [List.take_length]; exact K
theorem xx_findRecord {post : Int32 → Prop} {n cD cC : Nat} {x : Int32} (hn : n < 4) (hD : a_dropped n = nI cD) (hC : a_clocks (n * 4 + n) = nI cC) (hdc : cD ≤ cC) (hb : cC < 100000)
    (H1 : ∀ k, x = nI k → cD < k → k ≤ cC → post (a_slots (n * 32 + k % 32))) (H0 : (∀ k, x = nI k → cD < k → k ≤ cC → False) → post (-1)) : wpX_findRecord post (nI N, nI P, nI B, nI R, nI (P * B), f_openPages, f_openNodes, f_freeSlotCount, f_retained, f_freeEntry, f_entriesUsed, f_episodeCount, a_copy, a_twin, a_opened, a_openCount, a_queue, a_queued, a_fetchCount, a_clocks, a_dropped, a_slots, a_freeSlots, a_stamps, a_sums, a_notices, a_chain, a_entryAddr, a_entryValue, a_entryNext, a_mode, a_holders, a_line, a_lineLength, a_lockClocks, a_target, a_cursor, a_floor) (nI n) x := by
  refine ⟨lr_v1 hn (by omega), ?_⟩
  have hc : (nI n).toNatClampNeg = n := lr_c1 (by omega)
  by_cases h1 : x ≤ a_dropped (nI n).toNatClampNeg
  · refine br_t h1 (H0 ?_)
    intro k e h2 h3
    rw [hc] at h1
    have := (lr_Ile e hD (by omega) (by omega)).mp h1
    omega
  · refine br_f h1 ⟨lr_v4 (by omega) (by omega), ?_⟩
    rw [hc, hD] at h1
    have hx : ¬ x < 0 := by
      intro z
      exact h1 (Int32.le_trans (Int32.le_of_lt z) (nI_pos' (by omega)))
    obtain ⟨k, hk, rfl⟩ := nI_of hx
    have h2 : cD < k := by
      rcases Nat.lt_or_ge cD k with h | h
      · exact h
      · exact absurd (nI_le h (by omega)) h1
    by_cases h3 : k ≤ cC
    · refine br_t ?_ ⟨?_, ?_⟩
      · rw [lr_c4 (by omega), hC]; exact nI_le h3 (by omega)
      · rw [lr_and31 (by omega)]; exact lr_v32 (by omega) (by omega)
      · rw [lr_and31 (by omega), lr_c32 (by omega)]; exact H1 k rfl h2 h3
    · refine br_f ?_ (H0 ?_)
      · rw [lr_c4 (by omega), hC]; exact nI_ge (by omega) (by omega)
      · intro k' e h4 h5
        by_cases hk2 : k' < 2147483648
        · have := (nI_eq hk hk2).mp e
          omega
        · omega
end
end
section
/-! Y: look-ups -/
def lr_bit (x : Int32) : Nat := if x = 0 then 0 else 1
def lr_b1 (k : Nat) : Nat := if k = 0 then 0 else 1
def lr_on (o : Nat → Int32) (P n : Nat) : Nat := lr_sum (fun p => lr_bit (o (n * 4 + p))) P
theorem lr_bit_le (x : Int32) : lr_bit x ≤ 1 := by
  unfold lr_bit
  by_cases h : x = 0
  · rw [if_pos h]; omega
  · rw [if_neg h]; omega
theorem lr_b1_le (x : Nat) : lr_b1 x ≤ 1 := by
  unfold lr_b1
  by_cases h : x = 0
  · rw [if_pos h]; omega
  · rw [if_neg h]; omega
theorem lr_bit0 {x : Int32} (h : x = 0) : lr_bit x = 0 := if_pos h
theorem lr_bit1 {x : Int32} (h : ¬ x = 0) : lr_bit x = 1 := if_neg h
theorem lr_b10 {x : Nat} (h : x = 0) : lr_b1 x = 0 := if_pos h
theorem lr_b11 {x : Nat} (h : ¬ x = 0) : lr_b1 x = 1 := if_neg h
theorem lr_sum_ge {f : Nat → Nat} {i : Nat} : ∀ {n : Nat}, i < n → f i ≤ lr_sum f n := by
  intro n
  induction n with
  | zero => intro h; omega
  | succ n ih =>
    intro h
    show f i ≤ lr_sum f n + f n
    by_cases e : i = n
    · subst e; omega
    · have := ih (by omega); omega
theorem lr_on_le (o : Nat → Int32) (P n : Nat) : lr_on o P n ≤ P := by
  have := lr_sum_bd (f := fun p => lr_bit (o (n * 4 + p))) (k := 1) (n := P) (fun i _ => lr_bit_le _)
  unfold lr_on; omega
theorem lr_on0 {o : Nat → Int32} {P n : Nat} (h : lr_on o P n = 0) {p : Nat} (hp : p < P) : o (n * 4 + p) = 0 := by
  have h1 := lr_sum_ge (f := fun p => lr_bit (o (n * 4 + p))) hp
  have h2 : lr_sum (fun p => lr_bit (o (n * 4 + p))) P = 0 := h
  by_cases z : o (n * 4 + p) = 0
  · exact z
  · have h3 : lr_bit (o (n * 4 + p)) = 1 := lr_bit1 z
    have h4 : lr_bit (o (n * 4 + p)) ≤ lr_sum (fun p => lr_bit (o (n * 4 + p))) P := h1
    omega
section
variable {N P B R : Nat} {f_episodeCount f_queueLen f_recCount : Int32} {a_copies a_opened a_clocks a_holders a_queueNode a_queueLock a_recNode a_recNum a_recStamp a_recNotice a_recDiff a_v a_taken a_twin a_queued a_fetchCount a_mode a_lockClocks : Nat → Int32}
variable {k : Nat} {C LC : Nat → Nat → Nat} {D : Nat → Nat} {L : List lr_R} {Q : Nat → Nat → List lr_R} {WQ : List (Nat × Nat)}
theorem yy_bN1 {post : Int32 → Prop} {j : Nat} (hN : N ≤ 4) (h : j < N) (hp : post 0) : wpY_badNode post (nI N, nI P, nI B, nI R, f_queueLen, f_episodeCount, f_recCount, a_copies, a_twin, a_opened, a_queued, a_clocks, a_fetchCount, a_mode, a_holders, a_lockClocks, a_queueNode, a_queueLock, a_recNode, a_recNum, a_recStamp, a_recNotice, a_recDiff, a_v, a_taken) (nI j) :=
  br_f (nI_pos (by omega)) (br_t (nI_lt h (by omega)) hp)
theorem yy_bN0 {post : Int32 → Prop} {x : Int32} (h : x < 0 ∨ ¬ x < nI N) (hp : post 1) : wpY_badNode post (nI N, nI P, nI B, nI R, f_queueLen, f_episodeCount, f_recCount, a_copies, a_twin, a_opened, a_queued, a_clocks, a_fetchCount, a_mode, a_holders, a_lockClocks, a_queueNode, a_queueLock, a_recNode, a_recNum, a_recStamp, a_recNotice, a_recDiff, a_v, a_taken) x := by
  by_cases h0 : x < 0
  · exact br_t h0 hp
  · exact br_f h0 (br_f (h.resolve_left h0) hp)
theorem yy_bP1 {post : Int32 → Prop} {j : Nat} (hN : P ≤ 4) (h : j < P) (hp : post 0) : wpY_badPage post (nI N, nI P, nI B, nI R, f_queueLen, f_episodeCount, f_recCount, a_copies, a_twin, a_opened, a_queued, a_clocks, a_fetchCount, a_mode, a_holders, a_lockClocks, a_queueNode, a_queueLock, a_recNode, a_recNum, a_recStamp, a_recNotice, a_recDiff, a_v, a_taken) (nI j) :=
  br_f (nI_pos (by omega)) (br_t (nI_lt h (by omega)) hp)
theorem yy_bP0 {post : Int32 → Prop} {x : Int32} (h : x < 0 ∨ ¬ x < nI P) (hp : post 1) : wpY_badPage post (nI N, nI P, nI B, nI R, f_queueLen, f_episodeCount, f_recCount, a_copies, a_twin, a_opened, a_queued, a_clocks, a_fetchCount, a_mode, a_holders, a_lockClocks, a_queueNode, a_queueLock, a_recNode, a_recNum, a_recStamp, a_recNotice, a_recDiff, a_v, a_taken) x := by
  by_cases h0 : x < 0
  · exact br_t h0 hp
  · exact br_f h0 (br_f (h.resolve_left h0) hp)
theorem yy_bL1 {post : Int32 → Prop} {j : Nat} (h : j < 4) (hp : post 0) : wpY_badLock post (nI N, nI P, nI B, nI R, f_queueLen, f_episodeCount, f_recCount, a_copies, a_twin, a_opened, a_queued, a_clocks, a_fetchCount, a_mode, a_holders, a_lockClocks, a_queueNode, a_queueLock, a_recNode, a_recNum, a_recStamp, a_recNotice, a_recDiff, a_v, a_taken) (nI j) :=
  br_f (nI_pos (by omega)) (br_t (nI_lt (b := 4) h (by omega)) hp)
theorem yy_bL0 {post : Int32 → Prop} {x : Int32} (h : x < 0 ∨ ¬ x < nI 4) (hp : post 1) : wpY_badLock post (nI N, nI P, nI B, nI R, f_queueLen, f_episodeCount, f_recCount, a_copies, a_twin, a_opened, a_queued, a_clocks, a_fetchCount, a_mode, a_holders, a_lockClocks, a_queueNode, a_queueLock, a_recNode, a_recNum, a_recStamp, a_recNotice, a_recDiff, a_v, a_taken) x := by
  by_cases h0 : x < 0
  · exact br_t h0 hp
  · exact br_f h0 (br_f (h.resolve_left h0) hp)
theorem yy_bA1 {post : Int32 → Prop} {j : Nat} (hN : P * B ≤ 32) (h : j < P * B) (hp : post 0) : wpY_badAddr post (nI N, nI P, nI B, nI R, f_queueLen, f_episodeCount, f_recCount, a_copies, a_twin, a_opened, a_queued, a_clocks, a_fetchCount, a_mode, a_holders, a_lockClocks, a_queueNode, a_queueLock, a_recNode, a_recNum, a_recStamp, a_recNotice, a_recDiff, a_v, a_taken) (nI j) :=
  br_f (nI_pos (by omega)) (br_t (by rw [pk_mul]; exact nI_lt h (by omega)) hp)
theorem yy_bA0 {post : Int32 → Prop} {x : Int32} (h : x < 0 ∨ ¬ x < nI (P * B)) (hp : post 1) : wpY_badAddr post (nI N, nI P, nI B, nI R, f_queueLen, f_episodeCount, f_recCount, a_copies, a_twin, a_opened, a_queued, a_clocks, a_fetchCount, a_mode, a_holders, a_lockClocks, a_queueNode, a_queueLock, a_recNode, a_recNum, a_recStamp, a_recNotice, a_recDiff, a_v, a_taken) x := by
  by_cases h0 : x < 0
  · exact br_t h0 hp
  · exact br_f h0 (br_f (by rw [pk_mul]; exact h.resolve_left h0) hp)
theorem yy_access {post : SY → Prop} {n p : Nat} (hn : n < 4) (hp : p < 4) (K : post (nI N, nI P, nI B, nI R, f_queueLen, f_episodeCount, f_recCount, a_copies, a_twin, a_opened, upd a_queued (n * 4 + p) 0, a_clocks, upd a_fetchCount n (a_fetchCount n + a_queued (n * 4 + p)), a_mode, a_holders, a_lockClocks, a_queueNode, a_queueLock, a_recNode, a_recNum, a_recStamp, a_recNotice, a_recDiff, a_v, a_taken)) : wpY_access post (nI N, nI P, nI B, nI R, f_queueLen, f_episodeCount, f_recCount, a_copies, a_twin, a_opened, a_queued, a_clocks, a_fetchCount, a_mode, a_holders, a_lockClocks, a_queueNode, a_queueLock, a_recNode, a_recNum, a_recStamp, a_recNotice, a_recDiff, a_v, a_taken) (nI n) (nI p) :=
  ⟨lr_v1 hn (by omega), lr_v4 (by omega) (by omega), lr_v1 hn (by omega), nm_r (e' := upd a_fetchCount n (a_fetchCount n + a_queued (n * 4 + p))) (by rw [lr_c1 (by omega), lr_c4 (by omega)]) ⟨lr_v4 (by omega) (by omega), nm_r (e' := upd a_queued (n * 4 + p) 0) (by rw [lr_c4 (by omega)]) K⟩⟩
theorem yy_anyOpen {post : Int32 → Prop} {n : Nat} (hn : n < 4) (hP : P ≤ 4) (H0 : lr_on a_opened P n = 0 → post 0) (H1 : ¬ lr_on a_opened P n = 0 → post 1) : wpY_anyOpen post (nI N, nI P, nI B, nI R, f_queueLen, f_episodeCount, f_recCount, a_copies, a_twin, a_opened, a_queued, a_clocks, a_fetchCount, a_mode, a_holders, a_lockClocks, a_queueNode, a_queueLock, a_recNode, a_recNum, a_recStamp, a_recNotice, a_recDiff, a_v, a_taken) (nI n) := by
  have key : ∀ d p, p + d = P → lr_sum (fun p => lr_bit (a_opened (n * 4 + p))) p = 0 → wY_anyOpen_2 post (nI n) (nI N) (nI P) (nI B) (nI R) f_queueLen f_episodeCount f_recCount a_copies a_twin a_opened a_queued a_clocks a_fetchCount a_mode a_holders a_lockClocks a_queueNode a_queueLock a_recNode a_recNum a_recStamp a_recNotice a_recDiff a_v a_taken (d + 1) (nI p) := by
    intro d
    induction d with
    | zero =>
      intro p hp hs
      have e : p = P := by omega
      subst e
      exact br_t (nI_le (Nat.le_refl _) (by omega)) (H0 hs)
    | succ d ih =>
      intro p hp hs
      refine br_f (nI_ge (by omega) (by omega)) ⟨lr_v4 (by omega) (by omega), ?_⟩
      have hc := lr_c4 (a := n) (b := p) (by omega)
      by_cases z : a_opened (n * 4 + p) = 0
      · refine br_t (by rw [hc]; exact z) (nm_r (nI_1 p) (ih (p + 1) (by omega) ?_))
        show lr_sum _ p + lr_bit (a_opened (n * 4 + p)) = 0
        rw [hs, lr_bit0 z]
      · refine br_f (by rw [hc]; exact z) (H1 ?_)
        intro h
        exact z (lr_on0 h (by omega))
  exact ⟨_, key P 0 (by omega) rfl⟩
theorem yy_findRecord {post : Int32 → Prop} {n : Nat} {x : Int32} {L : List lr_R} (hL : L.length ≤ 32) (hr : f_recCount = nI L.length) (hq : ∀ i q, L[i]? = some q → a_recNode i = nI (lr_n q) ∧ a_recNum i = nI (lr_k q)) (hk : ∀ q, q ∈ L → lr_n q < 4) (hn : n < 4)
    (H1 : ∀ i q, L[i]? = some q → lr_n q = n → x = nI (lr_k q) → post (nI i)) (H0 : (∀ q, q ∈ L → lr_n q = n → x = nI (lr_k q) → False) → post (-1)) : wpY_findRecord post (nI N, nI P, nI B, nI R, f_queueLen, f_episodeCount, f_recCount, a_copies, a_twin, a_opened, a_queued, a_clocks, a_fetchCount, a_mode, a_holders, a_lockClocks, a_queueNode, a_queueLock, a_recNode, a_recNum, a_recStamp, a_recNotice, a_recDiff, a_v, a_taken) (nI n) x := by
  subst hr
  have key : ∀ d i, i + d = L.length → (∀ j q, j < i → L[j]? = some q → lr_n q = n → x = nI (lr_k q) → False) → wY_findRecord_2 post (nI n) x (nI N) (nI P) (nI B) (nI R) f_queueLen f_episodeCount (nI L.length) a_copies a_twin a_opened a_queued a_clocks a_fetchCount a_mode a_holders a_lockClocks a_queueNode a_queueLock a_recNode a_recNum a_recStamp a_recNotice a_recDiff a_v a_taken (d + 1) (nI i) := by
    intro d
    induction d with
    | zero =>
      intro i hi hs
      refine br_t (nI_le (by omega) (by omega)) (H0 ?_)
      intro q hq h1 h2
      obtain ⟨j, hj⟩ := lr_mem_at hq
      exact hs j q (by have := lr_at_lt hj; omega) hj h1 h2
    | succ d ih =>
      intro i hi hs
      have hg : L[i]? = some L[i] := List.getElem?_eq_getElem (by omega)
      have hc : (nI i).toNatClampNeg = i := lr_c1 (by omega)
      obtain ⟨e1, e2⟩ := hq i _ hg
      have hk1 := hk L[i] (List.getElem_mem _)
      refine br_f (nI_ge (by omega) (by omega)) ⟨lr_v1 (by omega) (by omega), ?_⟩
      by_cases c1 : a_recNode (nI i).toNatClampNeg = nI n
      · refine br_t c1 ⟨lr_v1 (by omega) (by omega), ?_⟩
        rw [hc, e1] at c1
        have c1' := (nI_eq (by omega) (by omega)).mp c1
        by_cases c2 : a_recNum (nI i).toNatClampNeg = x
        · refine br_t c2 (H1 i _ hg c1' ?_)
          rw [hc, e2] at c2
          exact c2.symm
        · refine br_f c2 (nm_r (nI_1 i) (ih (i + 1) (by omega) ?_))
          intro j q hj hjq h1 h2
          by_cases e : j = i
          · subst e
            rw [hg] at hjq
            cases hjq
            rw [hc, e2] at c2
            exact c2 h2.symm
          · exact hs j q (by omega) hjq h1 h2
      · refine br_f c1 (nm_r (nI_1 i) (ih (i + 1) (by omega) ?_))
        intro j q hj hjq h1 h2
        by_cases e : j = i
        · subst e
          rw [hg] at hjq
          cases hjq
          rw [hc, e1, h1] at c1
          exact c1 rfl
        · exact hs j q (by omega) hjq h1 h2
  exact ⟨_, key L.length 0 (by omega) (fun j q hj => by omega)⟩
theorem yy_stampSum {post : Int32 → Prop} {r : Nat} {s : Nat → Nat} (hr : r < 32) (hN : N ≤ 4) (hs : ∀ j, j < N → a_recStamp (r * 4 + j) = nI (s j)) (K : post (nI (lr_sum s N))) : wpY_stampSum post (nI N, nI P, nI B, nI R, f_queueLen, f_episodeCount, f_recCount, a_copies, a_twin, a_opened, a_queued, a_clocks, a_fetchCount, a_mode, a_holders, a_lockClocks, a_queueNode, a_queueLock, a_recNode, a_recNum, a_recStamp, a_recNotice, a_recDiff, a_v, a_taken) (nI r) := by
  refine loop_0 (fun f j x => wY_stampSum_4 post (nI r) (nI N) (nI P) (nI B) (nI R) f_queueLen f_episodeCount f_recCount a_copies a_twin a_opened a_queued a_clocks a_fetchCount a_mode a_holders a_lockClocks a_queueNode a_queueLock a_recNode a_recNum a_recStamp a_recNotice a_recDiff a_v a_taken f x (nI j)) (fun j x => x = nI (lr_sum s j)) N 0 rfl ?_ ?_
  · intro f x ex
    subst ex
    exact br_t (nI_le (Nat.le_refl _) (by omega)) K
  · intro f j x hj ex ih
    subst ex
    refine br_f (nI_ge hj (by omega)) ⟨lr_v4 (by omega) (by omega), nm_r (e' := nI (lr_sum s (j + 1))) ?_ (nm_r (nI_1 j) (ih _ rfl))⟩
    rw [lr_c4 (by omega), hs j hj, nI_add]; rfl
theorem yy_knownToAll {post : Int32 → Prop} {r d k : Nat} {C : Nat → Nat → Nat} (hr : r < 32) (hN : N ≤ 4) (hd : d < 4) (h1 : a_recNode r = nI d) (h2 : a_recNum r = nI k) (hk : k < 100000) (hC : ∀ m, m < N → a_clocks (m * 4 + d) = nI (C m d) ∧ C m d < 100000)
    (H1 : (∀ m, m < N → k ≤ C m d) → post 1) (H0 : ∀ m, m < N → C m d < k → post 0) : wpY_knownToAll post (nI N, nI P, nI B, nI R, f_queueLen, f_episodeCount, f_recCount, a_copies, a_twin, a_opened, a_queued, a_clocks, a_fetchCount, a_mode, a_holders, a_lockClocks, a_queueNode, a_queueLock, a_recNode, a_recNum, a_recStamp, a_recNotice, a_recDiff, a_v, a_taken) (nI r) := by
  have hc : (nI r).toNatClampNeg = r := lr_c1 (by omega)
  have key : ∀ e m, m + e = N → (∀ j, j < m → k ≤ C j d) → wY_knownToAll_2 post (nI r) (nI N) (nI P) (nI B) (nI R) f_queueLen f_episodeCount f_recCount a_copies a_twin a_opened a_queued a_clocks a_fetchCount a_mode a_holders a_lockClocks a_queueNode a_queueLock a_recNode a_recNum a_recStamp a_recNotice a_recDiff a_v a_taken (e + 1) (nI m) := by
    intro e
    induction e with
    | zero =>
      intro m hm hs
      have z : m = N := by omega
      subst z
      exact br_t (nI_le (Nat.le_refl _) (by omega)) (H1 hs)
    | succ e ih =>
      intro m hm hs
      have hi : nI m * 4 + a_recNode (nI r).toNatClampNeg = nI (m * 4 + d) := by rw [hc, h1, lr_i4]
      obtain ⟨c1, c2⟩ := hC m (by omega)
      have hcl : a_clocks (nI m * 4 + a_recNode (nI r).toNatClampNeg).toNatClampNeg = nI (C m d) := by rw [hi, lr_c1 (by omega), c1]
      refine br_f (nI_ge (by omega) (by omega)) ⟨lr_v1 hr (by omega), by rw [hi]; exact lr_v1 (by omega) (by omega), lr_v1 hr (by omega), ?_⟩
      by_cases z : k ≤ C m d
      · refine br_t (by rw [hcl, hc, h2]; exact nI_le z (by omega)) (nm_r (nI_1 m) (ih (m + 1) (by omega) ?_))
        intro j hj
        by_cases e2 : j = m
        · subst e2; exact z
        · exact hs j (by omega)
      · exact br_f (by rw [hcl, hc, h2]; exact nI_ge (by omega) (by omega)) (H0 m (by omega) (by omega))
  exact ⟨_, key N 0 (by omega) (fun j hj => by omega)⟩
end
end
section
/-! the relation's parts -/
def lr_Sz (N P B R : Nat) : Prop := 2 ≤ N ∧ N ≤ 4 ∧ 1 ≤ P ∧ P ≤ 4 ∧ 1 ≤ B ∧ B ≤ 8 ∧ 4 ≤ R ∧ R ≤ 32
def lr_CK (k N : Nat) (C : Nat → Nat → Nat) (D : Nat → Nat) (LC : Nat → Nat → Nat) (cl dr lc : Nat → Int32) : Prop :=
  (∀ n m, n < N → m < N → cl (n * 4 + m) = nI (C n m) ∧ C n m ≤ C m m ∧ D m ≤ C n m ∧ C n m ≤ k) ∧
  (∀ m, m < N → dr m = nI (D m)) ∧
  (∀ l m, l < 4 → m < N → lc (l * 4 + m) = nI (LC l m) ∧ LC l m ≤ C m m)
def lr_OP (N P : Nat) (o oc : Nat → Int32) (fp fn : Int32) : Prop :=
  (∀ n p, n < N → p < P → o (n * 4 + p) = 0 ∨ o (n * 4 + p) = 1) ∧ (∀ n, n < N → oc n = nI (lr_on o P n)) ∧
  fp = nI (lr_sum (lr_on o P) N) ∧ fn = nI (lr_sum (fun n => lr_b1 (lr_on o P n)) N)
def lr_us (A : Nat) (L : List lr_R) : Nat := (L.map (fun q => lr_cn (lr_d q) A)).sum
def lr_xq (N P B : Nat) (sl st sm no : Nat → Int32) (K : Nat → List (Nat × Int32)) (q : lr_R) : Prop :=
  lr_z q < 32 ∧ sl (lr_n q * 32 + lr_k q % 32) = nI (lr_z q) ∧ (∀ j, j < N → st (lr_z q * 4 + j) = nI (lr_s q j)) ∧
  sm (lr_z q) = nI (lr_sum (lr_s q) N) ∧ ∀ p, p < P → no (lr_z q * 4 + p) = lr_o q p ∧ K (lr_z q * 4 + p) = lr_pg (lr_d q) (p * B) B
def lr_XR (N P B : Nat) (L : List lr_R) (fsc ret fe eu : Int32) (sl fs st sm no ch ea ev nx : Nat → Int32) : Prop :=
  ∃ (F : List Nat) (K : Nat → List (Nat × Int32)), (fsc = nI F.length ∧ ret = nI L.length ∧ eu = nI (lr_us (P * B) L) ∧ lr_us (P * B) L ≤ 64) ∧
    lr_EH ea ev nx ch fe K (64 - lr_us (P * B) L) (-1) [] ∧ (∀ q, q ∈ L → lr_xq N P B sl st sm no K q) ∧
    ((L.map lr_z ++ F).Nodup ∧ (∀ s, s ∈ F → s < 32) ∧ F.length + L.length = 32 ∧ ∀ i s, F[i]? = some s → fs i = nI s)
def lr_yq (N P B : Nat) (rs rno rdf : Nat → Int32) (i : Nat) (q : lr_R) : Prop :=
  (∀ j, j < N → rs (i * 4 + j) = nI (lr_s q j)) ∧ (∀ p, p < P → rno (i * 4 + p) = lr_o q p) ∧ (∀ a, a < P * B → rdf (i * 32 + a) = lr_d q a)
def lr_YR (N P B : Nat) (L : List lr_R) (rc : Int32) (rnd rnm rs rno rdf : Nat → Int32) : Prop :=
  rc = nI L.length ∧ ∀ i q, L[i]? = some q → (rnd i = nI (lr_n q) ∧ rnm i = nI (lr_k q)) ∧ lr_yq N P B rs rno rdf i q
def lr_L1 (N : Nat) (C : Nat → Nat → Nat) (D : Nat → Nat) (L : List lr_R) : Prop :=
  (∀ q, q ∈ L → lr_n q < N ∧ D (lr_n q) < lr_k q ∧ lr_k q ≤ C (lr_n q) (lr_n q)) ∧
  (∀ m k, m < N → D m < k → k ≤ C m m → ∃ q, q ∈ L ∧ lr_n q = m ∧ lr_k q = k) ∧ (L.map lr_key).Nodup
def lr_L2 (N : Nat) (C : Nat → Nat → Nat) (L : List lr_R) : Prop :=
  (∀ q, q ∈ L → lr_sum (lr_s q) N ≤ lr_sum (C (lr_n q)) N) ∧
  (∀ q q', q ∈ L → q' ∈ L → lr_n q = lr_n q' → lr_k q < lr_k q' → lr_sum (lr_s q) N < lr_sum (lr_s q') N)
def lr_L3 (P B : Nat) (L : List lr_R) : Prop :=
  ∀ q p, q ∈ L → p < P → (lr_o q p = 0 ∨ lr_o q p = 1) ∧ (lr_o q p = 0 → ∀ w, w < B → lr_d q (p * B + w) < 0)
def lr_L4 (N P B R : Nat) (L : List lr_R) (o : Nat → Int32) : Prop :=
  L.length + lr_sum (fun n => lr_b1 (lr_on o P n)) N ≤ R ∧ lr_us (P * B) L + B * lr_sum (lr_on o P) N ≤ 64
def lr_M1 (N P : Nat) (bd : Nat → Nat → Nat) (L : List lr_R) (Q : Nat → Nat → List lr_R) (qd o : Nat → Int32) : Prop :=
  ∀ n p, n < N → p < P → qd (n * 4 + p) = nI (Q n p).length ∧ (∀ q, q ∈ Q n p → q ∈ L ∧ lr_k q ≤ bd n (lr_n q)) ∧ ((Q n p).map lr_key).Nodup ∧ (¬ o (n * 4 + p) = 0 → Q n p = [])
def lr_M2 (N P : Nat) (Q : Nat → Nat → List lr_R) (qu : Nat → Int32) : Prop :=
  ∀ n p i q, n < N → p < P → (Q n p)[i]? = some q → qu ((n * 4 + p) * 32 + i) = nI (lr_z q)
def lr_M3 (N P B : Nat) (Q : Nat → Nat → List lr_R) (cp cps : Nat → Int32) : Prop :=
  ∀ n p w, n < N → p < P → w < B → cps (n * 32 + (p * B + w)) = lr_ov (Q n p) (p * B + w) (cp (n * 32 + (p * B + w))) ∧ ¬ cps (n * 32 + (p * B + w)) < 0
def lr_LL (WQ : List (Nat × Nat)) (l : Nat) : List Nat := (WQ.filter (fun z => z.2 == l)).map Prod.fst
def lr_WT (N : Nat) (WQ : List (Nat × Nat)) (md ln ll qn ql : Nat → Int32) (qlen : Int32) : Prop :=
  (qlen = nI WQ.length ∧ ∀ i z, WQ[i]? = some z → qn i = nI z.1 ∧ ql i = nI z.2) ∧ (WQ.map Prod.fst).Nodup ∧
  (∀ z, z ∈ WQ → z.1 < N ∧ z.2 < 4 ∧ md z.1 = 1) ∧ (∀ n, n < N → md n = 1 → ∃ l, (n, l) ∈ WQ) ∧
  ∀ l, l < 4 → ll l = nI (lr_LL WQ l).length ∧ ∀ i n, (lr_LL WQ l)[i]? = some n → ln (l * 4 + i) = nI n
def lr_MO (N P : Nat) (md o : Nat → Int32) : Prop := ∀ n p, n < N → p < P → ¬ md n = 0 → o (n * 4 + p) = 0
def zz_I (k : Nat) (N : Nat) (P : Nat) (B : Nat) (R : Nat) (C : Nat → Nat → Nat) (D : Nat → Nat) (LC : Nat → Nat → Nat) (L : List lr_R) (Q : Nat → Nat → List lr_R) (WQ : List (Nat × Nat)) (f_openPages : Int32) (f_openNodes : Int32) (f_freeSlotCount : Int32) (f_retained : Int32) (f_freeEntry : Int32) (f_entriesUsed : Int32) (a_copy : Nat → Int32) (a_opened : Nat → Int32) (a_openCount : Nat → Int32) (a_queue : Nat → Int32) (a_queued : Nat → Int32) (a_clocks : Nat → Int32) (a_dropped : Nat → Int32) (a_slots : Nat → Int32) (a_freeSlots : Nat → Int32) (a_stamps : Nat → Int32) (a_sums : Nat → Int32) (a_notices : Nat → Int32) (a_chain : Nat → Int32) (a_entryAddr : Nat → Int32) (a_entryValue : Nat → Int32) (a_entryNext : Nat → Int32) (a_mode : Nat → Int32) (a_line : Nat → Int32) (a_lineLength : Nat → Int32) (a_lockClocks : Nat → Int32) (f_queueLen : Int32) (f_recCount : Int32) (a_copies : Nat → Int32) (a_queueNode : Nat → Int32) (a_queueLock : Nat → Int32) (a_recNode : Nat → Int32) (a_recNum : Nat → Int32) (a_recStamp : Nat → Int32) (a_recNotice : Nat → Int32) (a_recDiff : Nat → Int32) : Prop :=
  lr_Sz N P B R ∧ lr_CK k N C D LC a_clocks a_dropped a_lockClocks ∧ lr_OP N P a_opened a_openCount f_openPages f_openNodes ∧
  lr_XR N P B L f_freeSlotCount f_retained f_freeEntry f_entriesUsed a_slots a_freeSlots a_stamps a_sums a_notices a_chain a_entryAddr a_entryValue a_entryNext ∧
  lr_YR N P B L f_recCount a_recNode a_recNum a_recStamp a_recNotice a_recDiff ∧
  (lr_L1 N C D L ∧ lr_L2 N C L ∧ lr_L3 P B L ∧ lr_L4 N P B R L a_opened) ∧
  (lr_M1 N P C L Q a_queued a_opened ∧ lr_M2 N P Q a_queue ∧ lr_M3 N P B Q a_copy a_copies) ∧
  lr_WT N WQ a_mode a_line a_lineLength a_queueNode a_queueLock f_queueLen ∧ lr_MO N P a_mode a_opened
/-- the relation: equal arrays are the same functions; the rest by zz_I -/
def i_Rel (k : Nat) (u : SX) (v : SY) : Prop := ∃ (N : Nat) (P : Nat) (B : Nat) (R : Nat) (C : Nat → Nat → Nat) (D : Nat → Nat) (LC : Nat → Nat → Nat) (L : List lr_R) (Q : Nat → Nat → List lr_R) (WQ : List (Nat × Nat)) (f_openPages : Int32) (f_openNodes : Int32) (f_freeSlotCount : Int32) (f_retained : Int32) (f_freeEntry : Int32) (f_entriesUsed : Int32) (f_episodeCount : Int32) (a_copy : Nat → Int32) (a_twin : Nat → Int32) (a_opened : Nat → Int32) (a_openCount : Nat → Int32) (a_queue : Nat → Int32) (a_queued : Nat → Int32) (a_fetchCount : Nat → Int32) (a_clocks : Nat → Int32) (a_dropped : Nat → Int32) (a_slots : Nat → Int32) (a_freeSlots : Nat → Int32) (a_stamps : Nat → Int32) (a_sums : Nat → Int32) (a_notices : Nat → Int32) (a_chain : Nat → Int32) (a_entryAddr : Nat → Int32) (a_entryValue : Nat → Int32) (a_entryNext : Nat → Int32) (a_mode : Nat → Int32) (a_holders : Nat → Int32) (a_line : Nat → Int32) (a_lineLength : Nat → Int32) (a_lockClocks : Nat → Int32) (a_target : Nat → Int32) (a_cursor : Nat → Int32) (a_floor : Nat → Int32) (f_queueLen : Int32) (f_recCount : Int32) (a_copies : Nat → Int32) (a_queueNode : Nat → Int32) (a_queueLock : Nat → Int32) (a_recNode : Nat → Int32) (a_recNum : Nat → Int32) (a_recStamp : Nat → Int32) (a_recNotice : Nat → Int32) (a_recDiff : Nat → Int32) (a_v : Nat → Int32) (a_taken : Nat → Int32), u = (nI N, nI P, nI B, nI R, nI (P * B), f_openPages, f_openNodes, f_freeSlotCount, f_retained, f_freeEntry, f_entriesUsed, f_episodeCount, a_copy, a_twin, a_opened, a_openCount, a_queue, a_queued, a_fetchCount, a_clocks, a_dropped, a_slots, a_freeSlots, a_stamps, a_sums, a_notices, a_chain, a_entryAddr, a_entryValue, a_entryNext, a_mode, a_holders, a_line, a_lineLength, a_lockClocks, a_target, a_cursor, a_floor) ∧ v = (nI N, nI P, nI B, nI R, f_queueLen, f_episodeCount, f_recCount, a_copies, a_twin, a_opened, a_queued, a_clocks, a_fetchCount, a_mode, a_holders, a_lockClocks, a_queueNode, a_queueLock, a_recNode, a_recNum, a_recStamp, a_recNotice, a_recDiff, a_v, a_taken) ∧ zz_I k N P B R C D LC L Q WQ f_openPages f_openNodes f_freeSlotCount f_retained f_freeEntry f_entriesUsed a_copy a_opened a_openCount a_queue a_queued a_clocks a_dropped a_slots a_freeSlots a_stamps a_sums a_notices a_chain a_entryAddr a_entryValue a_entryNext a_mode a_line a_lineLength a_lockClocks f_queueLen f_recCount a_copies a_queueNode a_queueLock a_recNode a_recNum a_recStamp a_recNotice a_recDiff
theorem zz_CK_up {k k' N : Nat} {C LC : Nat → Nat → Nat} {D : Nat → Nat} {cl dr lc : Nat → Int32} (h : lr_CK k N C D LC cl dr lc) (hk : k ≤ k') : lr_CK k' N C D LC cl dr lc := by
  refine ⟨fun n m hn hm => ?_, h.2.1, h.2.2⟩
  obtain ⟨a, b, c, d⟩ := h.1 n m hn hm
  exact ⟨a, b, c, Nat.le_trans d hk⟩
section
variable {N P B R : Nat} {f_openPages f_openNodes f_freeSlotCount f_retained f_freeEntry f_entriesUsed f_episodeCount : Int32} {a_copy a_twin a_opened a_openCount a_queue a_queued a_fetchCount a_clocks a_dropped a_slots a_freeSlots a_stamps a_sums a_notices a_chain a_entryAddr a_entryValue a_entryNext a_mode a_holders a_line a_lineLength a_lockClocks a_target a_cursor a_floor : Nat → Int32}
variable {k : Nat} {C LC : Nat → Nat → Nat} {D : Nat → Nat} {L : List lr_R} {Q : Nat → Nat → List lr_R} {WQ : List (Nat × Nat)}
variable {f_queueLen f_recCount : Int32} {a_copies a_queueNode a_queueLock a_recNode a_recNum a_recStamp a_recNotice a_recDiff a_v a_taken : Nat → Int32}
theorem zz_mk (h : zz_I k N P B R C D LC L Q WQ f_openPages f_openNodes f_freeSlotCount f_retained f_freeEntry f_entriesUsed a_copy a_opened a_openCount a_queue a_queued a_clocks a_dropped a_slots a_freeSlots a_stamps a_sums a_notices a_chain a_entryAddr a_entryValue a_entryNext a_mode a_line a_lineLength a_lockClocks f_queueLen f_recCount a_copies a_queueNode a_queueLock a_recNode a_recNum a_recStamp a_recNotice a_recDiff) : i_Rel k (nI N, nI P, nI B, nI R, nI (P * B), f_openPages, f_openNodes, f_freeSlotCount, f_retained, f_freeEntry, f_entriesUsed, f_episodeCount, a_copy, a_twin, a_opened, a_openCount, a_queue, a_queued, a_fetchCount, a_clocks, a_dropped, a_slots, a_freeSlots, a_stamps, a_sums, a_notices, a_chain, a_entryAddr, a_entryValue, a_entryNext, a_mode, a_holders, a_line, a_lineLength, a_lockClocks, a_target, a_cursor, a_floor) (nI N, nI P, nI B, nI R, f_queueLen, f_episodeCount, f_recCount, a_copies, a_twin, a_opened, a_queued, a_clocks, a_fetchCount, a_mode, a_holders, a_lockClocks, a_queueNode, a_queueLock, a_recNode, a_recNum, a_recStamp, a_recNotice, a_recDiff, a_v, a_taken) :=
  ⟨_, _, _, _, _, _, _, _, _, _, _, _, _, _, _, _, _, _, _, _, _, _, _, _, _, _, _, _, _, _, _, _, _, _, _, _, _, _, _, _, _, _, _, _, _, _, _, _, _, _, _, _, _, _, _, rfl, rfl, h⟩
theorem zz_el {Pr : SX → SY → Prop} {k : Nat} {u : SX} {v : SY} (H : ∀ (N : Nat) (P : Nat) (B : Nat) (R : Nat) (C : Nat → Nat → Nat) (D : Nat → Nat) (LC : Nat → Nat → Nat) (L : List lr_R) (Q : Nat → Nat → List lr_R) (WQ : List (Nat × Nat)) (f_openPages : Int32) (f_openNodes : Int32) (f_freeSlotCount : Int32) (f_retained : Int32) (f_freeEntry : Int32) (f_entriesUsed : Int32) (f_episodeCount : Int32) (a_copy : Nat → Int32) (a_twin : Nat → Int32) (a_opened : Nat → Int32) (a_openCount : Nat → Int32) (a_queue : Nat → Int32) (a_queued : Nat → Int32) (a_fetchCount : Nat → Int32) (a_clocks : Nat → Int32) (a_dropped : Nat → Int32) (a_slots : Nat → Int32) (a_freeSlots : Nat → Int32) (a_stamps : Nat → Int32) (a_sums : Nat → Int32) (a_notices : Nat → Int32) (a_chain : Nat → Int32) (a_entryAddr : Nat → Int32) (a_entryValue : Nat → Int32) (a_entryNext : Nat → Int32) (a_mode : Nat → Int32) (a_holders : Nat → Int32) (a_line : Nat → Int32) (a_lineLength : Nat → Int32) (a_lockClocks : Nat → Int32) (a_target : Nat → Int32) (a_cursor : Nat → Int32) (a_floor : Nat → Int32) (f_queueLen : Int32) (f_recCount : Int32) (a_copies : Nat → Int32) (a_queueNode : Nat → Int32) (a_queueLock : Nat → Int32) (a_recNode : Nat → Int32) (a_recNum : Nat → Int32) (a_recStamp : Nat → Int32) (a_recNotice : Nat → Int32) (a_recDiff : Nat → Int32) (a_v : Nat → Int32) (a_taken : Nat → Int32), zz_I k N P B R C D LC L Q WQ f_openPages f_openNodes f_freeSlotCount f_retained f_freeEntry f_entriesUsed a_copy a_opened a_openCount a_queue a_queued a_clocks a_dropped a_slots a_freeSlots a_stamps a_sums a_notices a_chain a_entryAddr a_entryValue a_entryNext a_mode a_line a_lineLength a_lockClocks f_queueLen f_recCount a_copies a_queueNode a_queueLock a_recNode a_recNum a_recStamp a_recNotice a_recDiff → Pr (nI N, nI P, nI B, nI R, nI (P * B), f_openPages, f_openNodes, f_freeSlotCount, f_retained, f_freeEntry, f_entriesUsed, f_episodeCount, a_copy, a_twin, a_opened, a_openCount, a_queue, a_queued, a_fetchCount, a_clocks, a_dropped, a_slots, a_freeSlots, a_stamps, a_sums, a_notices, a_chain, a_entryAddr, a_entryValue, a_entryNext, a_mode, a_holders, a_line, a_lineLength, a_lockClocks, a_target, a_cursor, a_floor) (nI N, nI P, nI B, nI R, f_queueLen, f_episodeCount, f_recCount, a_copies, a_twin, a_opened, a_queued, a_clocks, a_fetchCount, a_mode, a_holders, a_lockClocks, a_queueNode, a_queueLock, a_recNode, a_recNum, a_recStamp, a_recNotice, a_recDiff, a_v, a_taken)) (I : i_Rel k u v) : Pr u v := by
  unfold i_Rel at I
  revert I
  exact fun I0 => Exists.elim I0 fun N I1 => Exists.elim I1 fun P I2 => Exists.elim I2 fun B I3 => Exists.elim I3 fun R I4 => Exists.elim I4 fun C I5 => Exists.elim I5 fun D I6 => Exists.elim I6 fun LC I7 => Exists.elim I7 fun L I8 => Exists.elim I8 fun Q I9 => Exists.elim I9 fun WQ I10 => Exists.elim I10 fun f_openPages I11 => Exists.elim I11 fun f_openNodes I12 => Exists.elim I12 fun f_freeSlotCount I13 => Exists.elim I13 fun f_retained I14 => Exists.elim I14 fun f_freeEntry I15 => Exists.elim I15 fun f_entriesUsed I16 => Exists.elim I16 fun f_episodeCount I17 => Exists.elim I17 fun a_copy I18 => Exists.elim I18 fun a_twin I19 => Exists.elim I19 fun a_opened I20 => Exists.elim I20 fun a_openCount I21 => Exists.elim I21 fun a_queue I22 => Exists.elim I22 fun a_queued I23 => Exists.elim I23 fun a_fetchCount I24 => Exists.elim I24 fun a_clocks I25 => Exists.elim I25 fun a_dropped I26 => Exists.elim I26 fun a_slots I27 => Exists.elim I27 fun a_freeSlots I28 => Exists.elim I28 fun a_stamps I29 => Exists.elim I29 fun a_sums I30 => Exists.elim I30 fun a_notices I31 => Exists.elim I31 fun a_chain I32 => Exists.elim I32 fun a_entryAddr I33 => Exists.elim I33 fun a_entryValue I34 => Exists.elim I34 fun a_entryNext I35 => Exists.elim I35 fun a_mode I36 => Exists.elim I36 fun a_holders I37 => Exists.elim I37 fun a_line I38 => Exists.elim I38 fun a_lineLength I39 => Exists.elim I39 fun a_lockClocks I40 => Exists.elim I40 fun a_target I41 => Exists.elim I41 fun a_cursor I42 => Exists.elim I42 fun a_floor I43 => Exists.elim I43 fun f_queueLen I44 => Exists.elim I44 fun f_recCount I45 => Exists.elim I45 fun a_copies I46 => Exists.elim I46 fun a_queueNode I47 => Exists.elim I47 fun a_queueLock I48 => Exists.elim I48 fun a_recNode I49 => Exists.elim I49 fun a_recNum I50 => Exists.elim I50 fun a_recStamp I51 => Exists.elim I51 fun a_recNotice I52 => Exists.elim I52 fun a_recDiff I53 => Exists.elim I53 fun a_v I54 => Exists.elim I54 fun a_taken I55 => Eq.ndrec (motive := fun u => Pr u v) (Eq.ndrec (motive := fun v => Pr (nI N, nI P, nI B, nI R, nI (P * B), f_openPages, f_openNodes, f_freeSlotCount, f_retained, f_freeEntry, f_entriesUsed, f_episodeCount, a_copy, a_twin, a_opened, a_openCount, a_queue, a_queued, a_fetchCount, a_clocks, a_dropped, a_slots, a_freeSlots, a_stamps, a_sums, a_notices, a_chain, a_entryAddr, a_entryValue, a_entryNext, a_mode, a_holders, a_line, a_lineLength, a_lockClocks, a_target, a_cursor, a_floor) v) (H N P B R C D LC L Q WQ f_openPages f_openNodes f_freeSlotCount f_retained f_freeEntry f_entriesUsed f_episodeCount a_copy a_twin a_opened a_openCount a_queue a_queued a_fetchCount a_clocks a_dropped a_slots a_freeSlots a_stamps a_sums a_notices a_chain a_entryAddr a_entryValue a_entryNext a_mode a_holders a_line a_lineLength a_lockClocks a_target a_cursor a_floor f_queueLen f_recCount a_copies a_queueNode a_queueLock a_recNode a_recNum a_recStamp a_recNotice a_recDiff a_v a_taken I55.2.2) I55.2.1.symm) I55.1.symm
theorem zz_up4 (h : zz_I k N P B R C D LC L Q WQ f_openPages f_openNodes f_freeSlotCount f_retained f_freeEntry f_entriesUsed a_copy a_opened a_openCount a_queue a_queued a_clocks a_dropped a_slots a_freeSlots a_stamps a_sums a_notices a_chain a_entryAddr a_entryValue a_entryNext a_mode a_line a_lineLength a_lockClocks f_queueLen f_recCount a_copies a_queueNode a_queueLock a_recNode a_recNum a_recStamp a_recNotice a_recDiff) : zz_I (k + 4) N P B R C D LC L Q WQ f_openPages f_openNodes f_freeSlotCount f_retained f_freeEntry f_entriesUsed a_copy a_opened a_openCount a_queue a_queued a_clocks a_dropped a_slots a_freeSlots a_stamps a_sums a_notices a_chain a_entryAddr a_entryValue a_entryNext a_mode a_line a_lineLength a_lockClocks f_queueLen f_recCount a_copies a_queueNode a_queueLock a_recNode a_recNum a_recStamp a_recNotice a_recDiff :=
  ⟨h.1, zz_CK_up h.2.1 (by omega), h.2.2⟩
end
theorem i_up {k : Nat} {u : SX} {v : SY} (h : i_Rel k u v) : i_Rel (k + 4) u v := by
  refine zz_el (Pr := fun u v => i_Rel (k + 4) u v) ?_ h
  intro N P B R C D LC L Q WQ f_openPages f_openNodes f_freeSlotCount f_retained f_freeEntry f_entriesUsed f_episodeCount a_copy a_twin a_opened a_openCount a_queue a_queued a_fetchCount a_clocks a_dropped a_slots a_freeSlots a_stamps a_sums a_notices a_chain a_entryAddr a_entryValue a_entryNext a_mode a_holders a_line a_lineLength a_lockClocks a_target a_cursor a_floor f_queueLen f_recCount a_copies a_queueNode a_queueLock a_recNode a_recNum a_recStamp a_recNotice a_recDiff a_v a_taken I
  exact zz_mk (zz_up4 I)
end
section
/-! small facts from the relation's parts -/
theorem lr_PB {N P B R : Nat} (h : lr_Sz N P B R) : P * B ≤ 32 := Nat.mul_le_mul h.2.2.2.1 h.2.2.2.2.2.1
theorem lr_pB {p P B : Nat} (hp : p < P) : p * B + B ≤ P * B := by
  rw [← Nat.succ_mul]; exact Nat.mul_le_mul_right B hp
theorem lr_pgof {a P B : Nat} (hB : 1 ≤ B) (ha : a < P * B) : a / B < P ∧ a % B < B ∧ a / B * B + a % B = a := by
  refine ⟨Nat.div_lt_of_lt_mul (by rw [Nat.mul_comm]; exact ha), Nat.mod_lt _ (by omega), Nat.div_add_mod' a B⟩
theorem lr_key_len {Q L : List lr_R} (h1 : (Q.map lr_key).Nodup) (h2 : ∀ q, q ∈ Q → q ∈ L) : Q.length ≤ L.length := by
  have h := List.Nodup.length_le_of_subset (l₂ := L.map lr_key) h1 (by
    intro x hx
    obtain ⟨q, hq, rfl⟩ := List.mem_map.mp hx
    exact List.mem_map.mpr ⟨q, h2 q hq, rfl⟩)
  rw [List.length_map, List.length_map] at h
  exact h
theorem lr_L4_32 {N P B R : Nat} {L : List lr_R} {o : Nat → Int32} (Z : lr_Sz N P B R) (h : lr_L4 N P B R L o) : L.length ≤ 32 := by
  have := h.1
  have := Z.2.2.2.2.2.2.2
  omega
theorem lr_Qlen {N P n p : Nat} {bd : Nat → Nat → Nat} {L : List lr_R} {Q : Nat → Nat → List lr_R} {qd o : Nat → Int32} (h : lr_M1 N P bd L Q qd o) (hn : n < N) (hp : p < P) : (Q n p).length ≤ L.length :=
  lr_key_len (h n p hn hp).2.2.1 (fun q hq => ((h n p hn hp).2.1 q hq).1)
theorem lr_XR_ch {N P B : Nat} {L : List lr_R} {fsc ret fe eu : Int32} {sl fs st sm no ch ea ev nx : Nat → Int32} (h : lr_XR N P B L fsc ret fe eu sl fs st sm no ch ea ev nx) (hP : P ≤ 4) {q : lr_R} (hq : q ∈ L) {p : Nat} (hp : p < P) : lr_ch ea ev nx ch B q p := by
  obtain ⟨F, K, _, h2, h3, _⟩ := h
  obtain ⟨z1, _, _, _, z2⟩ := h3 q hq
  obtain ⟨l, k1, k2⟩ := lr_EH_read (c := lr_z q * 4 + p) h2 (by omega)
  exact ⟨z1, l, k1, by rw [k2, (z2 p hp).2]⟩
theorem lr_XR_q {N P B : Nat} {L : List lr_R} {fsc ret fe eu : Int32} {sl fs st sm no ch ea ev nx : Nat → Int32} (h : lr_XR N P B L fsc ret fe eu sl fs st sm no ch ea ev nx) {q : lr_R} (hq : q ∈ L) :
    lr_z q < 32 ∧ sl (lr_n q * 32 + lr_k q % 32) = nI (lr_z q) ∧ (∀ j, j < N → st (lr_z q * 4 + j) = nI (lr_s q j)) ∧ sm (lr_z q) = nI (lr_sum (lr_s q) N) ∧ ∀ p, p < P → no (lr_z q * 4 + p) = lr_o q p := by
  obtain ⟨F, K, _, _, h3, _⟩ := h
  obtain ⟨z1, z2, z3, z4, z5⟩ := h3 q hq
  exact ⟨z1, z2, z3, z4, fun p hp => (z5 p hp).1⟩
section
variable {N P B R : Nat} {f_openPages f_openNodes f_freeSlotCount f_retained f_freeEntry f_entriesUsed f_episodeCount : Int32} {a_copy a_twin a_opened a_openCount a_queue a_queued a_fetchCount a_clocks a_dropped a_slots a_freeSlots a_stamps a_sums a_notices a_chain a_entryAddr a_entryValue a_entryNext a_mode a_holders a_line a_lineLength a_lockClocks a_target a_cursor a_floor : Nat → Int32}
variable {k : Nat} {C LC : Nat → Nat → Nat} {D : Nat → Nat} {L : List lr_R} {Q : Nat → Nat → List lr_R} {WQ : List (Nat × Nat)}
variable {f_queueLen f_recCount : Int32} {a_copies a_queueNode a_queueLock a_recNode a_recNum a_recStamp a_recNotice a_recDiff a_v a_taken : Nat → Int32}
theorem xx_accessR {post : SX → Prop} {bd : Nat → Nat → Nat} {n p : Nat} (Z : lr_Sz N P B R) (l4 : L.length ≤ 32) (X : lr_XR N P B L f_freeSlotCount f_retained f_freeEntry f_entriesUsed a_slots a_freeSlots a_stamps a_sums a_notices a_chain a_entryAddr a_entryValue a_entryNext)
    (m1 : lr_M1 N P bd L Q a_queued a_opened) (m2 : lr_M2 N P Q a_queue) (hn : n < N) (hp : p < P)
    (K : post (nI N, nI P, nI B, nI R, nI (P * B), f_openPages, f_openNodes, f_freeSlotCount, f_retained, f_freeEntry, f_entriesUsed, f_episodeCount, lr_acc n (p * B) B (Q n p) a_copy, a_twin, a_opened, a_openCount, a_queue, upd a_queued (n * 4 + p) 0, upd a_fetchCount n (a_fetchCount n + a_queued (n * 4 + p)), a_clocks, a_dropped, a_slots, a_freeSlots, a_stamps, a_sums, a_notices, a_chain, a_entryAddr, a_entryValue, a_entryNext, a_mode, a_holders, a_line, a_lineLength, a_lockClocks, a_target, a_cursor, a_floor)) : wpX_access post (nI N, nI P, nI B, nI R, nI (P * B), f_openPages, f_openNodes, f_freeSlotCount, f_retained, f_freeEntry, f_entriesUsed, f_episodeCount, a_copy, a_twin, a_opened, a_openCount, a_queue, a_queued, a_fetchCount, a_clocks, a_dropped, a_slots, a_freeSlots, a_stamps, a_sums, a_notices, a_chain, a_entryAddr, a_entryValue, a_entryNext, a_mode, a_holders, a_line, a_lineLength, a_lockClocks, a_target, a_cursor, a_floor) (nI n) (nI p) := by
  have h1 := lr_PB Z
  have h2 := lr_pB (B := B) hp
  have hq := lr_Qlen m1 hn hp
  obtain ⟨z1, z2, z3, z4, z5, z6, z7, z8⟩ := Z
  exact xx_access (by omega) (by omega) (by omega) (by omega) (m1 n p hn hp).1 (by omega) (fun i q hi => m2 n p i q hn hp hi) (fun q hq => lr_XR_ch X z4 ((m1 n p hn hp).2.1 q hq).1 hp) K
theorem xx_currentR {post : Int32 → Prop} {n a : Nat} (Z : lr_Sz N P B R) (l4 : L.length ≤ 32) (X : lr_XR N P B L f_freeSlotCount f_retained f_freeEntry f_entriesUsed a_slots a_freeSlots a_stamps a_sums a_notices a_chain a_entryAddr a_entryValue a_entryNext)
    (m1 : lr_M1 N P C L Q a_queued a_opened) (m2 : lr_M2 N P Q a_queue) (m3 : lr_M3 N P B Q a_copy a_copies) (hn : n < N) (ha : a < P * B)
    (K : post (a_copies (n * 32 + a))) : wpX_currentValue post (nI N, nI P, nI B, nI R, nI (P * B), f_openPages, f_openNodes, f_freeSlotCount, f_retained, f_freeEntry, f_entriesUsed, f_episodeCount, a_copy, a_twin, a_opened, a_openCount, a_queue, a_queued, a_fetchCount, a_clocks, a_dropped, a_slots, a_freeSlots, a_stamps, a_sums, a_notices, a_chain, a_entryAddr, a_entryValue, a_entryNext, a_mode, a_holders, a_line, a_lineLength, a_lockClocks, a_target, a_cursor, a_floor) (nI n) (nI a) := by
  have h1 := lr_PB Z
  obtain ⟨z1, z2, z3, z4, z5, z6, z7, z8⟩ := Z
  obtain ⟨g1, g2, g3⟩ := lr_pgof z5 ha
  have h2 := lr_pB (B := B) g1
  have hq := lr_Qlen m1 hn g1
  refine xx_currentValue (l := Q n (a / B)) (by omega) (by omega) z5 z6 (by omega) (by omega) (m1 n _ hn g1).1 (by omega) (fun i q hi => m2 n _ i q hn g1 hi) (fun q hq => lr_XR_ch X z4 ((m1 n _ hn g1).2.1 q hq).1 g1) ?_
  have h3 := (m3 n (a / B) (a % B) hn g1 g2).1
  rw [g3] at h3
  rw [← h3]; exact K
end
end
section
/-! X: the end of an interval -/
def lr_st (z : Nat) (c : Nat → Nat) (j : Nat) (st : Nat → Int32) : Nat → Int32 := fun i => if i / 4 = z ∧ i % 4 < j then nI (c (i % 4)) else st i
theorem lr_st_0 {z : Nat} {c : Nat → Nat} {st : Nat → Int32} : st = lr_st z c 0 st := by
  funext i
  show _ = (if i / 4 = z ∧ i % 4 < 0 then nI (c (i % 4)) else st i)
  rw [if_neg (fun h => by omega)]
theorem lr_st_s {z j : Nat} {c : Nat → Nat} {st : Nat → Int32} (hj : j < 4) : upd (lr_st z c j st) (z * 4 + j) (nI (c j)) = lr_st z c (j + 1) st := by
  funext i
  by_cases e : i = z * 4 + j
  · subst e
    rw [pk_us]
    show _ = (if _ then nI (c ((z * 4 + j) % 4)) else _)
    rw [if_pos (by omega), show (z * 4 + j) % 4 = j by omega]
  · rw [pk_un e]
    show (if _ then _ else _) = (if _ then _ else _)
    by_cases h2 : i / 4 = z ∧ i % 4 < j
    · rw [if_pos h2, if_pos (by omega)]
    · rw [if_neg h2, if_neg (by omega)]
theorem lr_st_at {z j m : Nat} {c : Nat → Nat} {st : Nat → Int32} (hm : m ≤ 4) (hj : j < m) : lr_st z c m st (z * 4 + j) = nI (c j) := by
  show (if _ then nI (c ((z * 4 + j) % 4)) else _) = _
  rw [if_pos (by omega), show (z * 4 + j) % 4 = j by omega]
theorem lr_st_ne {z m i : Nat} {c : Nat → Nat} {st : Nat → Int32} (h : i / 4 ≠ z) : lr_st z c m st i = st i := by
  show (if _ then _ else _) = _
  rw [if_neg (fun k => h k.1)]
/-- pages of node n below m are closed -/
def lr_cl (n m : Nat) (o : Nat → Int32) : Nat → Int32 := fun i => if i / 4 = n ∧ i % 4 < m then 0 else o i
theorem lr_cl_0 {n : Nat} {o : Nat → Int32} : o = lr_cl n 0 o := by
  funext i
  show _ = (if i / 4 = n ∧ i % 4 < 0 then 0 else o i)
  rw [if_neg (fun h => by omega)]
theorem lr_cl_s {n j : Nat} {o : Nat → Int32} (hj : j < 4) : upd (lr_cl n j o) (n * 4 + j) 0 = lr_cl n (j + 1) o := by
  funext i
  by_cases e : i = n * 4 + j
  · subst e
    rw [pk_us]
    show _ = (if _ then _ else _)
    rw [if_pos (by omega)]
  · rw [pk_un e]
    show (if _ then _ else _) = (if _ then _ else _)
    by_cases h2 : i / 4 = n ∧ i % 4 < j
    · rw [if_pos h2, if_pos (by omega)]
    · rw [if_neg h2, if_neg (by omega)]
theorem lr_cl_z {n j : Nat} {o : Nat → Int32} (hj : j < 4) (h : o (n * 4 + j) = 0) : lr_cl n j o = lr_cl n (j + 1) o := by
  rw [← lr_cl_s hj]
  funext i
  by_cases e : i = n * 4 + j
  · subst e
    rw [pk_us]
    show (if _ then _ else _) = _
    rw [if_neg (by omega)]; exact h
  · rw [pk_un e]
theorem lr_cl_at {n m p : Nat} {o : Nat → Int32} (hp : p < 4) (h : m ≤ p) : lr_cl n m o (n * 4 + p) = o (n * 4 + p) := by
  show (if _ then _ else _) = _
  rw [if_neg (by omega)]
/-- notices of slot s from the open pages of n -/
def lr_nt (s n m : Nat) (o no : Nat → Int32) : Nat → Int32 := fun i => if i / 4 = s ∧ i % 4 < m then o (n * 4 + i % 4) else no i
theorem lr_nt_0 {s n : Nat} {o no : Nat → Int32} : no = lr_nt s n 0 o no := by
  funext i
  show _ = (if i / 4 = s ∧ i % 4 < 0 then _ else no i)
  rw [if_neg (fun h => by omega)]
theorem lr_nt_s {s n j : Nat} {o no : Nat → Int32} (hj : j < 4) : upd (lr_nt s n j o no) (s * 4 + j) (o (n * 4 + j)) = lr_nt s n (j + 1) o no := by
  funext i
  by_cases e : i = s * 4 + j
  · subst e
    rw [pk_us]
    show _ = (if _ then o (n * 4 + (s * 4 + j) % 4) else _)
    rw [if_pos (by omega), show (s * 4 + j) % 4 = j by omega]
  · rw [pk_un e]
    show (if _ then _ else _) = (if _ then _ else _)
    by_cases h2 : i / 4 = s ∧ i % 4 < j
    · rw [if_pos h2, if_pos (by omega)]
    · rw [if_neg h2, if_neg (by omega)]
theorem lr_nt_at {s n j m : Nat} {o no : Nat → Int32} (hm : m ≤ 4) (hj : j < m) : lr_nt s n m o no (s * 4 + j) = o (n * 4 + j) := by
  show (if _ then o (n * 4 + (s * 4 + j) % 4) else _) = _
  rw [if_pos (by omega), show (s * 4 + j) % 4 = j by omega]
theorem lr_nt_ne {s n m i : Nat} {o no : Nat → Int32} (h : i / 4 ≠ s) : lr_nt s n m o no i = no i := by
  show (if _ then _ else _) = _
  rw [if_neg (fun k => h k.1)]
theorem lr_uk_uk {K : Nat → List (Nat × Int32)} {c : Nat} {x y : List (Nat × Int32)} : lr_uk (lr_uk K c x) c y = lr_uk K c y := by
  funext j
  by_cases e : j = c
  · subst e; rw [lr_uk_s, lr_uk_s]
  · rw [lr_uk_n e, lr_uk_n e, lr_uk_n e]
/-- what node n's record would hold: the words of open pages that differ -/
def lr_dd (P B n : Nat) (o cp tw d : Nat → Int32) : Prop := ∀ p w, p < P → w < B →
  (o (n * 4 + p) = 0 → d (p * B + w) < 0) ∧ (¬ o (n * 4 + p) = 0 → ¬ cp (n * 32 + (p * B + w)) < 0 ∧ d (p * B + w) = if cp (n * 32 + (p * B + w)) = tw (n * 32 + (p * B + w)) then -1 else cp (n * 32 + (p * B + w)))
theorem lr_cn_bd {P B n : Nat} {o cp tw d : Nat → Int32} (h : lr_dd P B n o cp tw d) : ∀ p, p ≤ P → lr_cn d (p * B) ≤ B * lr_sum (fun p => lr_bit (o (n * 4 + p))) p := by
  intro p
  induction p with
  | zero => intro _; rw [Nat.zero_mul]; exact Nat.le_refl 0
  | succ p ih =>
    intro hp
    have h1 := ih (by omega)
    have h2 := lr_pg_len d (p * B) B
    have h3 := lr_pg_le d (p * B) B
    rw [Nat.succ_mul, ← h2]
    show _ ≤ B * (lr_sum (fun p => lr_bit (o (n * 4 + p))) p + lr_bit (o (n * 4 + p)))
    rw [Nat.mul_add]
    by_cases z : o (n * 4 + p) = 0
    · rw [lr_bit0 z, lr_pg_none (fun i hi => (h p i (by omega) hi).1 z)]
      show 0 + _ ≤ _
      omega
    · rw [lr_bit1 z]; omega
section
variable {N P B R : Nat} {f_openPages f_openNodes f_freeSlotCount f_retained f_freeEntry f_entriesUsed f_episodeCount : Int32} {a_copy a_twin a_opened a_openCount a_queue a_queued a_fetchCount a_clocks a_dropped a_slots a_freeSlots a_stamps a_sums a_notices a_chain a_entryAddr a_entryValue a_entryNext a_mode a_holders a_line a_lineLength a_lockClocks a_target a_cursor a_floor : Nat → Int32}
theorem xx_stampRecord {post : SX → Prop} {n z : Nat} {c : Nat → Nat} (hN : N ≤ 4) (hn : n < 4) (hz : z < 32) (hc : ∀ j, j < N → a_clocks (n * 4 + j) = nI (c j))
    (K : post (nI N, nI P, nI B, nI R, nI (P * B), f_openPages, f_openNodes, f_freeSlotCount, f_retained, f_freeEntry, f_entriesUsed, f_episodeCount, a_copy, a_twin, a_opened, a_openCount, a_queue, a_queued, a_fetchCount, a_clocks, a_dropped, a_slots, a_freeSlots, lr_st z c N a_stamps, upd a_sums z (nI (lr_sum c N)), a_notices, a_chain, a_entryAddr, a_entryValue, a_entryNext, a_mode, a_holders, a_line, a_lineLength, a_lockClocks, a_target, a_cursor, a_floor)) : wpX_stampRecord post (nI N, nI P, nI B, nI R, nI (P * B), f_openPages, f_openNodes, f_freeSlotCount, f_retained, f_freeEntry, f_entriesUsed, f_episodeCount, a_copy, a_twin, a_opened, a_openCount, a_queue, a_queued, a_fetchCount, a_clocks, a_dropped, a_slots, a_freeSlots, a_stamps, a_sums, a_notices, a_chain, a_entryAddr, a_entryValue, a_entryNext, a_mode, a_holders, a_line, a_lineLength, a_lockClocks, a_target, a_cursor, a_floor) (nI n) (nI z) := by
  refine loop_0 (fun f j s => wX_stampRecord_5 post (nI n) (nI z) (nI N) (nI P) (nI B) (nI R) (nI (P * B)) f_openPages f_openNodes f_freeSlotCount f_retained f_freeEntry f_entriesUsed f_episodeCount f s.1 (nI j) a_copy a_twin a_opened a_openCount a_queue a_queued a_fetchCount a_clocks a_dropped a_slots a_freeSlots s.2 a_sums a_notices a_chain a_entryAddr a_entryValue a_entryNext a_mode a_holders a_line a_lineLength a_lockClocks a_target a_cursor a_floor) (fun j s => s = (nI (lr_sum c j), lr_st z c j a_stamps)) N (0, a_stamps) ?_ ?_ ?_
  · show ((0 : Int32), a_stamps) = (nI 0, lr_st z c 0 a_stamps)
    rw [← lr_st_0]; rfl
  · intro f s es
    subst es
    exact br_t (nI_le (Nat.le_refl _) (by omega)) ⟨lr_v1 hz (by omega), nm_r (e' := upd a_sums z (nI (lr_sum c N))) (by rw [lr_c1 (by omega)]) K⟩
  · intro f j s hj es ih
    subst es
    refine br_f (nI_ge hj (by omega)) ⟨lr_v4 (by omega) (by omega), nm_r (e' := nI (c j)) (by rw [lr_c4 (by omega), hc j hj]) ⟨lr_v4 (by omega) (by omega), nm_r (e' := lr_st z c (j + 1) a_stamps) (by rw [lr_c4 (by omega), lr_st_s (by omega)]) (nm_r (e' := nI (lr_sum c (j + 1))) (by rw [nI_add]; rfl) (nm_r (nI_1 j) (ih (nI (lr_sum c (j + 1)), lr_st z c (j + 1) a_stamps) rfl)))⟩⟩
theorem xx_addEntry {post : SX → Prop} {e c a : Nat} {v x y : Int32} (he : e < 64) (hc : c < 128) (hx : x = nI c) (hy : y = nI a)
    (K : post (nI N, nI P, nI B, nI R, nI (P * B), f_openPages, f_openNodes, f_freeSlotCount, f_retained, a_entryNext e, f_entriesUsed + 1, f_episodeCount, a_copy, a_twin, a_opened, a_openCount, a_queue, a_queued, a_fetchCount, a_clocks, a_dropped, a_slots, a_freeSlots, a_stamps, a_sums, a_notices, upd a_chain c (nI e), upd a_entryAddr e (nI a), upd a_entryValue e v, upd a_entryNext e (a_chain c), a_mode, a_holders, a_line, a_lineLength, a_lockClocks, a_target, a_cursor, a_floor)) :
    wpX_addEntry post (nI N, nI P, nI B, nI R, nI (P * B), f_openPages, f_openNodes, f_freeSlotCount, f_retained, nI e, f_entriesUsed, f_episodeCount, a_copy, a_twin, a_opened, a_openCount, a_queue, a_queued, a_fetchCount, a_clocks, a_dropped, a_slots, a_freeSlots, a_stamps, a_sums, a_notices, a_chain, a_entryAddr, a_entryValue, a_entryNext, a_mode, a_holders, a_line, a_lineLength, a_lockClocks, a_target, a_cursor, a_floor) x y v := by
  subst hx hy
  have h1 : (nI e).toNatClampNeg = e := lr_c1 (by omega)
  have h2 : (nI c).toNatClampNeg = c := lr_c1 (by omega)
  have v1 : vp_in (nI e) 64 := lr_v1 he (by omega)
  have v2 : vp_in (nI c) 128 := lr_v1 hc (by omega)
  exact br_t (nI_pos' (by omega)) ⟨v1, nm_r (e' := a_entryNext e) (by rw [h1]) (nm_e ⟨v1, nm_r (e' := upd a_entryAddr e (nI a)) (by rw [h1]) ⟨v1, nm_r (e' := upd a_entryValue e v) (by rw [h1]) ⟨v2, v1, nm_r (e' := upd a_entryNext e (a_chain c)) (by rw [h1, h2]) ⟨v2, nm_r (e' := upd a_chain c (nI e)) (by rw [h2]) K⟩⟩⟩⟩)⟩
theorem xx_mkD {post : SX → Prop} {n s p V : Nat} {d : Nat → Int32} (hn : n < 4) (hs : s < 32) (hp : p < 4) (hB : B ≤ 8) (hb : p * B + B ≤ 32)
    (hd : ∀ w, w < B → ¬ a_copy (n * 32 + (p * B + w)) < 0 ∧ d (p * B + w) = if a_copy (n * 32 + (p * B + w)) = a_twin (n * 32 + (p * B + w)) then -1 else a_copy (n * 32 + (p * B + w))) :
    ∀ (m w : Nat), w + m = B → ∀ (ch ea ev nx : Nat → Int32) (fe : Int32) (U : Nat) (K : Nat → List (Nat × Int32)), lr_EH ea ev nx ch fe K (64 - U) (-1) [] → K (s * 4 + p) = lr_pg d (p * B) w → U + m ≤ 64 → U + (lr_pg d (p * B) B).length = V + (lr_pg d (p * B) w).length →
    (∀ (ch' ea' ev' nx' : Nat → Int32) (fe' : Int32), lr_EH ea' ev' nx' ch' fe' (lr_uk K (s * 4 + p) (lr_pg d (p * B) B)) (64 - V) (-1) [] → post (nI N, nI P, nI B, nI R, nI (P * B), f_openPages, f_openNodes, f_freeSlotCount, f_retained, fe', nI V, f_episodeCount, a_copy, a_twin, a_opened, a_openCount, a_queue, a_queued, a_fetchCount, a_clocks, a_dropped, a_slots, a_freeSlots, a_stamps, a_sums, a_notices, ch', ea', ev', nx', a_mode, a_holders, a_line, a_lineLength, a_lockClocks, a_target, a_cursor, a_floor)) →
    wX_makeDiff_11 post (nI n) (nI s) (nI p) (nI (p * B)) (m + 1) (nI w) (nI N) (nI P) (nI B) (nI R) (nI (P * B)) f_openPages f_openNodes f_freeSlotCount f_retained fe (nI U) f_episodeCount a_copy a_twin a_opened a_openCount a_queue a_queued a_fetchCount a_clocks a_dropped a_slots a_freeSlots a_stamps a_sums a_notices ch ea ev nx a_mode a_holders a_line a_lineLength a_lockClocks a_target a_cursor a_floor := by
  intro m
  induction m with
  | zero =>
    intro w hw ch ea ev nx fe U K hE hK hU hV H
    have e : w = B := by omega
    subst e
    have e2 : V = U := by omega
    subst e2
    refine br_t (nI_le (Nat.le_refl _) (by omega)) (H ch ea ev nx fe (lr_EH_K hE ?_))
    intro c _
    by_cases e3 : c = s * 4 + p
    · subst e3; rw [lr_uk_s, hK]
    · rw [lr_uk_n e3]
  | succ m ih =>
    intro w hw ch ea ev nx fe U K hE hK hU hV H
    obtain ⟨d1, d2⟩ := hd w (by omega)
    have hi : nI n * 32 + nI (p * B + w) = nI (n * 32 + (p * B + w)) := lr_i32 _ _
    have hc : (nI n * 32 + nI (p * B + w)).toNatClampNeg = n * 32 + (p * B + w) := lr_c32 (by omega)
    have hv : vp_in (nI n * 32 + nI (p * B + w)) 128 := lr_v32 (by omega) (by omega)
    refine br_f (nI_ge (by omega) (by omega)) (nm_r (nI_add (p * B) w) ⟨hv, nm_r (e' := a_copy (n * 32 + (p * B + w))) (by rw [hc]) ⟨hv, ?_⟩⟩)
    by_cases z : a_copy (n * 32 + (p * B + w)) = a_twin (n * 32 + (p * B + w))
    · rw [if_pos z] at d2
      have hpg : lr_pg d (p * B) (w + 1) = lr_pg d (p * B) w := if_pos (by rw [d2]; exact lr_neg1)
      refine br_t (by rw [hc]; exact z) (nm_r (nI_1 w) (ih (w + 1) (by omega) ch ea ev nx fe U K hE (by rw [hpg]; exact hK) (by omega) (by rw [hpg]; exact hV) H))
    · rw [if_neg z] at d2
      have hpg : lr_pg d (p * B) (w + 1) = (p * B + w, d (p * B + w)) :: lr_pg d (p * B) w := if_neg (by rw [d2]; exact d1)
      obtain ⟨e, he, hfe, hE'⟩ := lr_EH_push (c := s * 4 + p) (m := 63 - U) (p * B + w) (d (p * B + w)) (by rw [show 63 - U + 1 = 64 - U by omega]; exact hE) (by omega)
      subst hfe
      refine br_f (by rw [hc]; exact z) ?_
      rw [← d2]
      refine xx_addEntry he (c := s * 4 + p) (by omega) (lr_i4 s p) rfl (nm_r (nI_1 w) ?_)
      rw [nI_1]
      refine ih (w + 1) (by omega) _ _ _ _ _ (U + 1) _ (by rw [show 64 - (U + 1) = 63 - U by omega]; exact hE') (by rw [lr_uk_s, hK, hpg]) (by omega) (by rw [hpg, List.length_cons]; omega) ?_
      intro ch' ea' ev' nx' fe' hE2
      rw [lr_uk_uk] at hE2
      exact H ch' ea' ev' nx' fe' hE2
theorem xx_endL {post : SX → Prop} {n s U0 : Nat} {d : Nat → Int32} {K0 : Nat → List (Nat × Int32)} (hn : n < 4) (hs : s < 32) (hP : P ≤ 4) (hB : B ≤ 8) (hPB : P * B ≤ 32)
    (hop : ∀ p, p < P → a_opened (n * 4 + p) = 0 ∨ a_opened (n * 4 + p) = 1) (hd : lr_dd P B n a_opened a_copy a_twin d) (hU : U0 + B * lr_on a_opened P n ≤ 64)
    (H : ∀ (ch' ea' ev' nx' : Nat → Int32) (fe' : Int32) (K' : Nat → List (Nat × Int32)), lr_EH ea' ev' nx' ch' fe' K' (64 - (U0 + lr_cn d (P * B))) (-1) [] → (∀ p, p < P → K' (s * 4 + p) = lr_pg d (p * B) B) → (∀ c, c < 128 → c / 4 ≠ s → K' c = K0 c) →
      post (nI N, nI P, nI B, nI R, nI (P * B), f_openPages - a_openCount n, f_openNodes - 1, f_freeSlotCount, f_retained, fe', nI (U0 + lr_cn d (P * B)), f_episodeCount, a_copy, a_twin, lr_cl n P a_opened, upd a_openCount n 0, a_queue, a_queued, a_fetchCount, a_clocks, a_dropped, a_slots, a_freeSlots, a_stamps, a_sums, lr_nt s n P a_opened a_notices, ch', ea', ev', nx', a_mode, a_holders, a_line, a_lineLength, a_lockClocks, a_target, a_cursor, a_floor)) :
    ∀ (m p : Nat), p + m = P → ∀ (ch ea ev nx : Nat → Int32) (fe : Int32) (K : Nat → List (Nat × Int32)), lr_EH ea ev nx ch fe K (64 - (U0 + lr_cn d (p * B))) (-1) [] → (∀ p', p' < p → K (s * 4 + p') = lr_pg d (p' * B) B) → (∀ c, c < 128 → c / 4 ≠ s → K c = K0 c) →
    wX_endInterval_85 post (nI n) (nI s) (m + 1) (nI p) (nI N) (nI P) (nI B) (nI R) (nI (P * B)) f_openPages f_openNodes f_freeSlotCount f_retained fe (nI (U0 + lr_cn d (p * B))) f_episodeCount a_copy a_twin (lr_cl n p a_opened) a_openCount a_queue a_queued a_fetchCount a_clocks a_dropped a_slots a_freeSlots a_stamps a_sums (lr_nt s n p a_opened a_notices) ch ea ev nx a_mode a_holders a_line a_lineLength a_lockClocks a_target a_cursor a_floor := by
  intro m
  induction m with
  | zero =>
    intro p hp ch ea ev nx fe K hE hK hK0
    have e : p = P := by omega
    subst e
    have h1 : (nI n).toNatClampNeg = n := lr_c1 (by omega)
    exact br_t (nI_le (Nat.le_refl _) (by omega)) ⟨lr_v1 hn (by omega), nm_r (e' := f_openPages - a_openCount n) (by rw [h1]) ⟨lr_v1 hn (by omega), nm_r (e' := upd a_openCount n 0) (by rw [h1]) (nm_e (H ch ea ev nx fe K hE hK hK0))⟩⟩
  | succ m ih =>
    intro p hp ch ea ev nx fe K hE hK hK0
    have hpP : p < P := by omega
    have hpb := lr_pB (B := B) hpP
    have hE1 := lr_EH_clear (c := s * 4 + p) hE (by omega)
    have hlen := lr_pg_len d (p * B) B
    have hsm : (p + 1) * B = p * B + B := Nat.succ_mul p B
    have hbit := hop p hpP
    refine br_f (nI_ge (by omega) (by omega)) ⟨lr_v4 (by omega) (by omega), nm_r (e' := a_opened (n * 4 + p)) (by rw [lr_c4 (by omega), lr_cl_at (by omega) (Nat.le_refl _)]) ⟨lr_v4 (by omega) (by omega), nm_r (e' := lr_nt s n (p + 1) a_opened a_notices) (by rw [lr_c4 (by omega), lr_nb hbit, lr_nt_s (by omega)]) ⟨lr_v4 (by omega) (by omega), nm_r (e' := upd ch (s * 4 + p) (-1)) (by rw [lr_c4 (by omega)]) ?_⟩⟩⟩
    have hK2 : ∀ x, ∀ p', p' < p + 1 → (p' = p → x = lr_pg d (p * B) B) → lr_uk K (s * 4 + p) x (s * 4 + p') = lr_pg d (p' * B) B := by
      intro x p' hp' hx
      by_cases e : p' = p
      · subst e; rw [lr_uk_s, hx rfl]
      · rw [lr_uk_n (by omega)]; exact hK p' (by omega)
    have hK3 : ∀ x, ∀ c, c < 128 → c / 4 ≠ s → lr_uk K (s * 4 + p) x c = K0 c := by
      intro x c hc hcs
      rw [lr_uk_n (by omega)]; exact hK0 c hc hcs
    by_cases z : a_opened (n * 4 + p) = 0
    · have hpg : lr_pg d (p * B) B = [] := lr_pg_none (fun i hi => (hd p i hpP hi).1 z)
      have hcn : lr_cn d ((p + 1) * B) = lr_cn d (p * B) := by rw [hsm, ← hlen, hpg]; show 0 + _ = _; omega
      have key := ih (p + 1) (by omega) (upd ch (s * 4 + p) (-1)) ea ev nx fe (lr_uk K (s * 4 + p) []) (by rw [hcn]; exact hE1) (fun p' hp' => hK2 [] p' hp' (fun _ => hpg.symm)) (hK3 [])
      rw [← lr_cl_z (by omega) z, hcn] at key
      exact br_t z (nm_r (nI_1 p) key)
    · refine br_f z ?_
      have hbd := lr_cn_bd hd p (by omega)
      have hon : lr_sum (fun p => lr_bit (a_opened (n * 4 + p))) p + 1 ≤ lr_on a_opened P n := by
        have h5 : lr_sum (fun p => lr_bit (a_opened (n * 4 + p))) (p + 1) ≤ lr_sum (fun p => lr_bit (a_opened (n * 4 + p))) P := by
          clear ih
          have : ∀ t, lr_sum (fun p => lr_bit (a_opened (n * 4 + p))) (p + 1) ≤ lr_sum (fun p => lr_bit (a_opened (n * 4 + p))) (p + 1 + t) := by
            intro t
            induction t with
            | zero => exact Nat.le_refl _
            | succ t iht => exact Nat.le_trans iht (Nat.le_add_right _ _)
          have h6 := this m
          rw [show p + 1 + m = P by omega] at h6
          exact h6
        have h7 : lr_sum (fun p => lr_bit (a_opened (n * 4 + p))) (p + 1) = lr_sum (fun p => lr_bit (a_opened (n * 4 + p))) p + lr_bit (a_opened (n * 4 + p)) := rfl
        rw [lr_bit1 z] at h7
        show _ ≤ lr_sum (fun p => lr_bit (a_opened (n * 4 + p))) P
        omega
      have hbud : U0 + lr_cn d (p * B) + B ≤ 64 := by
        have h8 := Nat.mul_le_mul_left B hon
        rw [Nat.mul_add, Nat.mul_one] at h8
        omega
      refine nm_r (pk_mul p B) ⟨_, xx_mkD (V := U0 + lr_cn d ((p + 1) * B)) (d := d) hn hs (by omega) hB (by omega) (fun w hw => (hd p w hpP hw).2 z) B 0 (by omega) _ _ _ _ _ (U0 + lr_cn d (p * B)) _ hE1 (by rw [lr_uk_s]; rfl) (by omega) (by rw [hsm, ← hlen]; show _ = _ + 0; omega) ?_⟩
      intro ch' ea' ev' nx' fe' hE2
      rw [lr_uk_uk] at hE2
      refine ⟨lr_v4 (by omega) (by omega), nm_r (e' := lr_cl n (p + 1) a_opened) (by rw [lr_c4 (by omega), lr_nb0, lr_cl_s (by omega)]) (nm_r (nI_1 p) (ih (p + 1) (by omega) ch' ea' ev' nx' fe' _ hE2 (fun p' hp' => hK2 _ p' hp' (fun _ => rfl)) (hK3 _)))⟩
end
end
section
/-! X: the end of an interval, whole -/
theorem lr_us_snoc (A : Nat) (L : List lr_R) (q : lr_R) : lr_us A (L ++ [q]) = lr_us A L + lr_cn (lr_d q) A := by
  unfold lr_us
  rw [List.map_append, List.sum_append]
  show _ + (lr_cn (lr_d q) A + 0) = _
  omega
section
variable {N P B R : Nat} {f_openPages f_openNodes f_freeSlotCount f_retained f_freeEntry f_entriesUsed f_episodeCount : Int32} {a_copy a_twin a_opened a_openCount a_queue a_queued a_fetchCount a_clocks a_dropped a_slots a_freeSlots a_stamps a_sums a_notices a_chain a_entryAddr a_entryValue a_entryNext a_mode a_holders a_line a_lineLength a_lockClocks a_target a_cursor a_floor : Nat → Int32}
variable {k : Nat} {C LC : Nat → Nat → Nat} {D : Nat → Nat} {L : List lr_R} {Q : Nat → Nat → List lr_R} {WQ : List (Nat × Nat)}
variable {f_queueLen f_recCount : Int32} {a_copies a_queueNode a_queueLock a_recNode a_recNum a_recStamp a_recNotice a_recDiff a_v a_taken : Nat → Int32}
theorem xx_end {post : SX → Prop} {n : Nat} {c : Nat → Nat} {d : Nat → Int32} (Z : lr_Sz N P B R) (hn : n < N) (hcl : a_clocks (n * 4 + n) = nI (C n n)) (hc : ∀ j, j < N → j ≠ n → a_clocks (n * 4 + j) = nI (c j)) (hcn : c n = C n n + 1) (hC : C n n < 100000)
    (hoc : a_openCount n = nI (lr_on a_opened P n)) (hon : ¬ lr_on a_opened P n = 0) (hop : ∀ p, p < P → a_opened (n * 4 + p) = 0 ∨ a_opened (n * 4 + p) = 1)
    (X : lr_XR N P B L f_freeSlotCount f_retained f_freeEntry f_entriesUsed a_slots a_freeSlots a_stamps a_sums a_notices a_chain a_entryAddr a_entryValue a_entryNext)
    (hL : L.length < 32) (hU : lr_us (P * B) L + B * lr_on a_opened P n ≤ 64) (hsl : ∀ q, q ∈ L → lr_n q = n → lr_k q % 32 ≠ (C n n + 1) % 32) (hd : lr_dd P B n a_opened a_copy a_twin d)
    (H : ∀ (s : Nat) (fsc' ret' fe' eu' : Int32) (sl' st' sm' no' ch' ea' ev' nx' : Nat → Int32), lr_XR N P B (L ++ [(n, C n n + 1, s, c, fun p => a_opened (n * 4 + p), d)]) fsc' ret' fe' eu' sl' a_freeSlots st' sm' no' ch' ea' ev' nx' →
      post (nI N, nI P, nI B, nI R, nI (P * B), f_openPages - a_openCount n, f_openNodes - 1, fsc', ret', fe', eu', f_episodeCount, a_copy, a_twin, lr_cl n P a_opened, upd a_openCount n 0, a_queue, a_queued, a_fetchCount, upd a_clocks (n * 4 + n) (nI (C n n + 1)), a_dropped, sl', a_freeSlots, st', sm', no', ch', ea', ev', nx', a_mode, a_holders, a_line, a_lineLength, a_lockClocks, a_target, a_cursor, a_floor)) :
    wpX_endInterval post (nI N, nI P, nI B, nI R, nI (P * B), f_openPages, f_openNodes, f_freeSlotCount, f_retained, f_freeEntry, f_entriesUsed, f_episodeCount, a_copy, a_twin, a_opened, a_openCount, a_queue, a_queued, a_fetchCount, a_clocks, a_dropped, a_slots, a_freeSlots, a_stamps, a_sums, a_notices, a_chain, a_entryAddr, a_entryValue, a_entryNext, a_mode, a_holders, a_line, a_lineLength, a_lockClocks, a_target, a_cursor, a_floor) (nI n) := by
  have hPB := lr_PB Z
  obtain ⟨z1, z2, z3, z4, z5, z6, z7, z8⟩ := Z
  obtain ⟨F, K, ⟨x1, x2, x3, x4⟩, xE, xq, ⟨f1, f2, f3, f4⟩⟩ := X
  have hF : F ≠ [] := by intro e; rw [e] at f3; simp at f3; omega
  obtain ⟨F', s, rfl⟩ : ∃ F' s, F = F' ++ [s] := ⟨F.dropLast, F.getLast hF, (List.dropLast_concat_getLast hF).symm⟩
  rw [List.length_append, List.length_singleton] at f3 x1
  subst x1 x2 x3
  have hs : s < 32 := f2 s (by simp)
  have hfs : a_freeSlots F'.length = nI s := f4 _ _ (by simp)
  have honl := lr_on_le a_opened P n
  have h1 : (nI n).toNatClampNeg = n := lr_c1 (by omega)
  have h44 : (nI (n * 4 + n)).toNatClampNeg = n * 4 + n := lr_c1 (by omega)
  have v44 : vp_in (nI (n * 4 + n)) 16 := lr_v1 (by omega) (by omega)
  have hix : nI n * 32 + (upd a_clocks (n * 4 + n) (nI (C n n + 1)) (nI (n * 4 + n)).toNatClampNeg &&& 31) = nI (n * 32 + (C n n + 1) % 32) := by
    rw [h44, pk_us, lr_and31 (by omega), lr_i32]
  refine ⟨lr_v1 (by omega) (by omega), br_f (by rw [h1, hoc]; exact nI_ne0 (by omega) (by omega)) (nm_r (lr_i4 n n) ⟨v44, v44, nm_r (e' := upd a_clocks (n * 4 + n) (nI (C n n + 1))) (by rw [h44, hcl, nI_1]) (nm_r (e' := nI F'.length) (nI_pred _) ⟨lr_v1 (by omega) (by omega), nm_r (e' := nI s) (by rw [lr_c1 (by omega), hfs]) ⟨v44, by rw [hix]; exact lr_v1 (by omega) (by omega), nm_r (e' := upd a_slots (n * 32 + (C n n + 1) % 32) (nI s)) (by rw [hix, lr_c1 (by omega)]) (nm_r (nI_1 _) ?_)⟩⟩)⟩)⟩
  refine xx_stampRecord (c := c) z2 (by omega) hs ?_ ?_
  · intro j hj
    by_cases e : j = n
    · subst e; rw [pk_us, hcn]
    · rw [pk_un (by omega)]; exact hc j hj e
  refine ⟨P + 1, ?_⟩
  have key := fun post H => xx_endL (post := post) (n := n) (s := s) (U0 := lr_us (P * B) L) (d := d) (K0 := K) (N := N) (P := P) (B := B) (R := R) (f_openPages := f_openPages) (f_openNodes := f_openNodes) (f_freeSlotCount := nI F'.length) (f_retained := nI (L.length + 1)) (f_episodeCount := f_episodeCount)
    (a_copy := a_copy) (a_twin := a_twin) (a_opened := a_opened) (a_openCount := a_openCount) (a_queue := a_queue) (a_queued := a_queued) (a_fetchCount := a_fetchCount) (a_clocks := upd a_clocks (n * 4 + n) (nI (C n n + 1))) (a_dropped := a_dropped) (a_slots := upd a_slots (n * 32 + (C n n + 1) % 32) (nI s)) (a_freeSlots := a_freeSlots) (a_stamps := lr_st s c N a_stamps) (a_sums := upd a_sums s (nI (lr_sum c N))) (a_notices := a_notices) (a_mode := a_mode) (a_holders := a_holders) (a_line := a_line) (a_lineLength := a_lineLength) (a_lockClocks := a_lockClocks) (a_target := a_target) (a_cursor := a_cursor) (a_floor := a_floor)
    (by omega) hs z4 z6 hPB hop hd hU H P 0 (by omega) a_chain a_entryAddr a_entryValue a_entryNext f_freeEntry K (by rw [Nat.zero_mul]; exact xE) (fun p' hp' => by omega) (fun c _ _ => rfl)
  rw [Nat.zero_mul, ← lr_cl_0, ← lr_nt_0] at key
  refine key _ ?_
  intro ch' ea' ev' nx' fe' K' hE' hK' hK0
  refine H s _ _ _ _ _ _ _ _ _ _ _ _ ⟨F', K', ⟨rfl, ?_, ?_, ?_⟩, ?_, ?_, ?_, ?_, ?_, ?_⟩
  · rw [List.length_append, List.length_singleton]
  · rw [lr_us_snoc]; rfl
  · rw [lr_us_snoc]
    have hb := lr_cn_bd hd P (Nat.le_refl _)
    show lr_us (P * B) L + lr_cn d (P * B) ≤ 64
    have : B * lr_on a_opened P n = B * lr_sum (fun p => lr_bit (a_opened (n * 4 + p))) P := rfl
    omega
  · rw [lr_us_snoc]; exact hE'
  · intro q hq
    rcases List.mem_append.mp hq with hq | hq
    · obtain ⟨y1, y2, y3, y4, y5⟩ := xq q hq
      have hzs : lr_z q ≠ s := by
        intro e
        have hh := (List.nodup_append.mp f1).2.2 (lr_z q) (List.mem_map.mpr ⟨q, hq, rfl⟩) s (by simp)
        exact hh e
      refine ⟨y1, ?_, ?_, ?_, ?_⟩
      · rw [pk_un]; exact y2
        intro e
        have h5 : lr_n q = n := by omega
        exact hsl q hq h5 (by omega)
      · intro j hj; rw [lr_st_ne (by omega)]; exact y3 j hj
      · rw [pk_un hzs]; exact y4
      · intro p hp
        rw [lr_nt_ne (by omega), hK0 _ (by omega) (by omega)]
        exact y5 p hp
    · rw [List.mem_singleton] at hq
      subst hq
      refine ⟨hs, ?_, ?_, ?_, ?_⟩
      · exact pk_us
      · intro j hj; exact lr_st_at (by omega) hj
      · exact pk_us
      · intro p hp; exact ⟨lr_nt_at (by omega) hp, hK' p hp⟩
  · rw [List.map_append, List.append_assoc]
    refine (List.Perm.nodup_iff ?_).mp f1
    exact List.Perm.append_left _ List.perm_append_comm
  · intro x hx; exact f2 x (by simp [hx])
  · rw [List.length_append, List.length_singleton]; omega
  · intro i x hx
    refine f4 i x ?_
    rw [List.getElem?_append_left (lr_at_lt hx)]; exact hx
end
end
section
/-! counting the retained records; the order of learning -/
def lr_cl2 (D f : Nat → Nat) : Nat → List (Nat × Nat)
  | 0 => []
  | n + 1 => lr_cl2 D f n ++ (List.range' (D n + 1) (f n - D n)).map (fun k => (n, k))
theorem lr_cl2_mem {D f : Nat → Nat} : ∀ {N : Nat} {x : Nat × Nat}, x ∈ lr_cl2 D f N ↔ x.1 < N ∧ D x.1 < x.2 ∧ x.2 ≤ f x.1 := by
  intro N
  induction N with
  | zero => intro x; constructor
            · intro h; cases h
            · intro h; omega
  | succ N ih =>
    intro x
    show x ∈ lr_cl2 D f N ++ (List.range' (D N + 1) (f N - D N)).map (fun k => (N, k)) ↔ _
    rw [List.mem_append, ih, List.mem_map]
    constructor
    · intro h
      rcases h with h | ⟨k, hk, rfl⟩
      · exact ⟨by omega, h.2⟩
      · rw [List.mem_range'_1] at hk
        show N < N + 1 ∧ D N < k ∧ k ≤ f N
        omega
    · intro h
      by_cases e : x.1 = N
      · refine Or.inr ⟨x.2, ?_, ?_⟩
        · rw [List.mem_range'_1]
          rw [e] at h; omega
        · rw [← e]
      · exact Or.inl ⟨by omega, h.2⟩
theorem lr_cl2_nd {D f : Nat → Nat} : ∀ {N : Nat}, (lr_cl2 D f N).Nodup := by
  intro N
  induction N with
  | zero => exact List.nodup_nil
  | succ N ih =>
    show (lr_cl2 D f N ++ (List.range' (D N + 1) (f N - D N)).map (fun k => (N, k))).Nodup
    rw [List.nodup_append]
    refine ⟨ih, ?_, ?_⟩
    · rw [List.nodup_iff_pairwise_ne, List.pairwise_map]
      have h := List.nodup_range' (s := D N + 1) (n := f N - D N) (step := 1)
      rw [List.nodup_iff_pairwise_ne] at h
      exact h.imp (fun hne e => hne (congrArg Prod.snd e))
    · intro a ha b hb e
      have h1 := (lr_cl2_mem.mp ha).1
      obtain ⟨k, _, rfl⟩ := List.mem_map.mp hb
      rw [e] at h1
      exact absurd h1 (Nat.lt_irrefl _)
theorem lr_cl2_len {D f : Nat → Nat} : ∀ {N : Nat}, (lr_cl2 D f N).length = lr_sum (fun m => f m - D m) N := by
  intro N
  induction N with
  | zero => rfl
  | succ N ih =>
    show (lr_cl2 D f N ++ (List.range' (D N + 1) (f N - D N)).map (fun k => (N, k))).length = _
    rw [List.length_append, ih, List.length_map, List.length_range']; rfl
theorem lr_count {N : Nat} {C : Nat → Nat → Nat} {D f : Nat → Nat} {L : List lr_R} (h : lr_L1 N C D L) (hf : ∀ m, m < N → f m ≤ C m m) :
    (L.filter (fun q => decide (lr_k q ≤ f (lr_n q)))).length = lr_sum (fun m => f m - D m) N := by
  rw [← lr_cl2_len, ← List.length_map (f := lr_key)]
  apply List.Perm.length_eq
  rw [List.perm_ext_iff_of_nodup ?_ lr_cl2_nd]
  · intro x
    rw [lr_cl2_mem, List.mem_map]
    constructor
    · intro ⟨q, hq, e⟩
      obtain ⟨h1, h2⟩ := List.mem_filter.mp hq
      have h3 := h.1 q h1
      have h4 := of_decide_eq_true h2
      subst e
      exact ⟨h3.1, h3.2.1, h4⟩
    · intro ⟨h1, h2, h3⟩
      obtain ⟨q, hq, q1, q2⟩ := h.2.1 x.1 x.2 h1 h2 (Nat.le_trans h3 (hf _ h1))
      refine ⟨q, List.mem_filter.mpr ⟨hq, decide_eq_true (by rw [q1, q2]; exact h3)⟩, ?_⟩
      show (lr_n q, lr_k q) = x
      rw [q1, q2]
  · exact List.Nodup.sublist (List.Sublist.map _ List.filter_sublist) h.2.2
theorem lr_len {N : Nat} {C : Nat → Nat → Nat} {D : Nat → Nat} {L : List lr_R} (h : lr_L1 N C D L) : L.length = lr_sum (fun m => C m m - D m) N := by
  have h1 := lr_count (f := fun m => C m m) h (fun m _ => Nat.le_refl _)
  rw [← h1]
  have h2 : L.filter (fun q => decide (lr_k q ≤ C (lr_n q) (lr_n q))) = L := by
    rw [List.filter_eq_self]
    intro q hq
    exact decide_eq_true (h.1 q hq).2.2
  exact congrArg List.length h2.symm
/-- still to be learned by n, with cursors cur and target T -/
def lr_rem (n : Nat) (T cur : Nat → Nat) (q : lr_R) : Prop := lr_n q ≠ n ∧ cur (lr_n q) ≤ lr_k q ∧ lr_k q ≤ T (lr_n q)
def lr_up1 (cur : Nat → Nat) (b : Nat) : Nat → Nat := fun m => if m = b then cur m + 1 else cur m
theorem lr_up1_s {cur : Nat → Nat} {b : Nat} : lr_up1 cur b b = cur b + 1 := if_pos rfl
theorem lr_up1_n {cur : Nat → Nat} {b m : Nat} (h : m ≠ b) : lr_up1 cur b m = cur m := if_neg h
theorem lr_up1_le {cur : Nat → Nat} {b m : Nat} : cur m ≤ lr_up1 cur b m := by
  by_cases e : m = b
  · subst e; rw [lr_up1_s]; omega
  · rw [lr_up1_n e]; exact Nat.le_refl _
/-- S is the order in which n learns -/
def lr_os (N : Nat) (L : List lr_R) (n : Nat) (T : Nat → Nat) : List lr_R → (Nat → Nat) → Prop
  | [], cur => ∀ q, q ∈ L → ¬ lr_rem n T cur q
  | q :: S, cur => (q ∈ L ∧ lr_rem n T cur q ∧ lr_k q = cur (lr_n q)) ∧
      (∀ q', q' ∈ L → lr_rem n T cur q' → lr_sum (lr_s q) N < lr_sum (lr_s q') N ∨ (lr_sum (lr_s q) N = lr_sum (lr_s q') N ∧ lr_n q ≤ lr_n q')) ∧
      lr_os N L n T S (lr_up1 cur (lr_n q))
def lr_mu (N n : Nat) (T cur : Nat → Nat) : Nat := lr_sum (fun m => if m = n then 0 else T m + 1 - cur m) N
theorem lr_mu_s {N n b : Nat} {T cur : Nat → Nat} (hb : b < N) (hbn : b ≠ n) (h : cur b ≤ T b) : lr_mu N n T cur = lr_mu N n T (lr_up1 cur b) + 1 := by
  unfold lr_mu
  refine lr_sum_up hb ?_ ?_
  · intro i _ hi
    by_cases e : i = n
    · rw [if_pos e, if_pos e]
    · rw [if_neg e, if_neg e, lr_up1_n hi]
  · rw [if_neg hbn, if_neg hbn, lr_up1_s]; omega
theorem lr_os_len {N n : Nat} {L : List lr_R} {T : Nat → Nat} (hL : ∀ q, q ∈ L → lr_n q < N) : ∀ {S : List lr_R} {cur : Nat → Nat}, lr_os N L n T S cur → S.length ≤ lr_mu N n T cur := by
  intro S
  induction S with
  | nil => intro cur _; exact Nat.zero_le _
  | cons q S ih =>
    intro cur h
    obtain ⟨⟨h1, h2, h3⟩, _, h5⟩ := h
    have h6 := ih h5
    rw [lr_mu_s (hL q h1) h2.1 (by have := h2.2; omega), List.length_cons]
    omega
theorem lr_os_mem {N n : Nat} {L : List lr_R} {T : Nat → Nat} : ∀ {S : List lr_R} {cur : Nat → Nat}, lr_os N L n T S cur → ∀ q, q ∈ S → q ∈ L ∧ lr_n q ≠ n ∧ lr_k q ≤ T (lr_n q) := by
  intro S
  induction S with
  | nil => intro cur _ q hq; cases hq
  | cons q S ih =>
    intro cur h q' hq'
    obtain ⟨⟨h1, h2, h3⟩, _, h5⟩ := h
    rcases List.mem_cons.mp hq' with e | hq'
    · subst e; exact ⟨h1, h2.1, h2.2.2⟩
    · exact ih h5 q' hq'
theorem lr_rem_up {n : Nat} {T cur : Nat → Nat} {q q' : lr_R} (h : lr_k q = cur (lr_n q)) : lr_rem n T (lr_up1 cur (lr_n q)) q' ↔ (lr_rem n T cur q' ∧ ¬ (lr_n q' = lr_n q ∧ lr_k q' = lr_k q)) := by
  unfold lr_rem
  by_cases e : lr_n q' = lr_n q
  · rw [e, lr_up1_s]
    constructor
    · intro ⟨a, b, c⟩; exact ⟨⟨a, by omega, c⟩, fun z => by have := z.2; omega⟩
    · intro ⟨⟨a, b, c⟩, d⟩
      refine ⟨a, ?_, c⟩
      have : lr_k q' ≠ lr_k q := fun z => d ⟨rfl, z⟩
      omega
  · rw [lr_up1_n e]
    constructor
    · intro h1; exact ⟨h1, fun z => e z.1⟩
    · intro h1; exact h1.1
def lr_fo (p : Nat) (q : lr_R) : Bool := !(decide (lr_o q p = 0))
def lr_qa (lq : Nat → List lr_R) (S : List lr_R) : Nat → List lr_R := fun p => lq p ++ S.filter (lr_fo p)
theorem lr_qa_c {lq : Nat → List lr_R} {q : lr_R} {S : List lr_R} : lr_qa (lr_qa lq [q]) S = lr_qa lq (q :: S) := by
  funext p
  unfold lr_qa
  rw [List.append_assoc, ← List.filter_append]; rfl
theorem lr_qa_0 {lq : Nat → List lr_R} : lr_qa lq [] = lq := by
  funext p
  unfold lr_qa
  rw [List.filter_nil, List.append_nil]
theorem lr_qa_1 {lq : Nat → List lr_R} {q : lr_R} {p : Nat} (h : ¬ lr_o q p = 0) : lr_qa lq [q] p = lq p ++ [q] := by
  unfold lr_qa
  rw [List.filter_cons_of_pos]
  · rfl
  · unfold lr_fo; simp [h]
theorem lr_qa_2 {lq : Nat → List lr_R} {q : lr_R} {p : Nat} (h : lr_o q p = 0) : lr_qa lq [q] p = lq p := by
  unfold lr_qa
  rw [List.filter_cons_of_neg]
  · rw [List.filter_nil, List.append_nil]
  · unfold lr_fo; simp [h]
/-- one more pending record for node n at the pages of q -/
def lr_qp (P n : Nat) (o qd : Nat → Int32) : Nat → Int32 := fun i => if i / 4 = n ∧ i % 4 < P ∧ ¬ o (i % 4) = 0 then qd i + 1 else qd i
def lr_qpL (P n : Nat) : (Nat → Int32) → List lr_R → (Nat → Int32)
  | qd, [] => qd
  | qd, q :: S => lr_qpL P n (lr_qp P n (lr_o q) qd) S
theorem lr_qp_0 {n : Nat} {o qd : Nat → Int32} : qd = lr_qp 0 n o qd := by
  funext i
  show _ = (if _ then _ else _)
  rw [if_neg (fun z => by have := z.2.1; omega)]
theorem lr_qp_at {P n p : Nat} {o qd : Nat → Int32} (hp : p < P) (hP : P ≤ 4) (h : ¬ o p = 0) : lr_qp P n o qd (n * 4 + p) = qd (n * 4 + p) + 1 := by
  show (if _ ∧ _ ∧ ¬ o ((n * 4 + p) % 4) = 0 then _ else _) = _
  rw [if_pos ⟨by omega, by omega, by rw [show (n * 4 + p) % 4 = p by omega]; exact h⟩]
theorem lr_qp_at0 {P n p : Nat} {o qd : Nat → Int32} (hp : p < 4) (h : P ≤ p ∨ o p = 0) : lr_qp P n o qd (n * 4 + p) = qd (n * 4 + p) := by
  show (if _ ∧ _ ∧ ¬ o ((n * 4 + p) % 4) = 0 then _ else _) = _
  rw [if_neg]
  intro z
  rcases h with h | h
  · have := z.2.1; omega
  · exact z.2.2 (by rw [show (n * 4 + p) % 4 = p by omega]; exact h)
theorem lr_qp_s {n p : Nat} {o qd : Nat → Int32} (hp : p < 4) (h : ¬ o p = 0) : upd (lr_qp p n o qd) (n * 4 + p) (lr_qp p n o qd (n * 4 + p) + 1) = lr_qp (p + 1) n o qd := by
  funext i
  by_cases e : i = n * 4 + p
  · subst e
    rw [pk_us]
    rw [lr_qp_at0 hp (Or.inl (Nat.le_refl _)), lr_qp_at (by omega) (by omega) h]
  · rw [pk_un e]
    show (if _ then _ else _) = (if _ then _ else _)
    by_cases h2 : i / 4 = n ∧ i % 4 < p ∧ ¬ o (i % 4) = 0
    · rw [if_pos h2, if_pos ⟨h2.1, by have := h2.2.1; omega, h2.2.2⟩]
    · rw [if_neg h2, if_neg (fun z => h2 ⟨z.1, by have := z.2.1; have := z.1; omega, z.2.2⟩)]
theorem lr_qp_z {n p : Nat} {o qd : Nat → Int32} (hp : p < 4) (h : o p = 0) : lr_qp p n o qd = lr_qp (p + 1) n o qd := by
  funext i
  show (if _ then _ else _) = (if _ then _ else _)
  by_cases h2 : i / 4 = n ∧ i % 4 < p ∧ ¬ o (i % 4) = 0
  · rw [if_pos h2, if_pos ⟨h2.1, by have := h2.2.1; omega, h2.2.2⟩]
  · rw [if_neg h2, if_neg]
    intro z
    by_cases e : i % 4 = p
    · exact z.2.2 (by rw [e]; exact h)
    · exact h2 ⟨z.1, by have := z.2.1; omega, z.2.2⟩
theorem lr_qp_ne {P n i : Nat} {o qd : Nat → Int32} (h : i / 4 ≠ n) : lr_qp P n o qd i = qd i := by
  show (if _ then _ else _) = _
  rw [if_neg (fun z => h z.1)]
theorem lr_qpL_ne {P n i : Nat} (h : i / 4 ≠ n) : ∀ {S : List lr_R} {qd : Nat → Int32}, lr_qpL P n qd S i = qd i := by
  intro S
  induction S with
  | nil => intro qd; rfl
  | cons q S ih => intro qd; show lr_qpL P n (lr_qp P n (lr_o q) qd) S i = _; rw [ih, lr_qp_ne h]
end
section
/-! X: learning -/
def lr_bst (n : Nat) (T cur sq : Nat → Nat) (m : Nat) (x y : Int32) : Prop :=
  (x = -1 ∧ ∀ m', m' < m → m' ≠ n → cur m' ≤ T m' → False) ∨
  (∃ b, b < m ∧ b ≠ n ∧ cur b ≤ T b ∧ x = nI b ∧ y = nI (sq b) ∧ ∀ m', m' < m → m' ≠ n → cur m' ≤ T m' → sq b < sq m' ∨ (sq b = sq m' ∧ b ≤ m'))
theorem lr_bst_skip {n m : Nat} {T cur sq : Nat → Nat} {x y : Int32} (h : lr_bst n T cur sq m x y) (hm : m ≠ n → cur m ≤ T m → False) : lr_bst n T cur sq (m + 1) x y := by
  rcases h with ⟨h1, h2⟩ | ⟨b, h1, h2, h3, h4, h5, h6⟩
  · refine Or.inl ⟨h1, ?_⟩
    intro m' hm' a1 a2
    by_cases e : m' = m
    · subst e; exact hm a1 a2
    · exact h2 m' (by omega) a1 a2
  · refine Or.inr ⟨b, by omega, h2, h3, h4, h5, ?_⟩
    intro m' hm' a1 a2
    by_cases e : m' = m
    · subst e; exact (hm a1 a2).elim
    · exact h6 m' (by omega) a1 a2
theorem lr_bst_new {n m : Nat} {T cur sq : Nat → Nat} {x y : Int32} (h : lr_bst n T cur sq m x y) (h1 : m ≠ n) (h2 : cur m ≤ T m) (h3 : ∀ b, x = nI b → b < m → y = nI (sq b) → sq m < sq b) : lr_bst n T cur sq (m + 1) (nI m) (nI (sq m)) := by
  refine Or.inr ⟨m, by omega, h1, h2, rfl, rfl, ?_⟩
  intro m' hm' a1 a2
  by_cases e : m' = m
  · subst e; exact Or.inr ⟨rfl, Nat.le_refl _⟩
  · rcases h with ⟨_, g2⟩ | ⟨b, g1, g2, g3, g4, g5, g6⟩
    · exact (g2 m' (by omega) a1 a2).elim
    · have g7 := h3 b g4 g1 g5
      rcases g6 m' (by omega) a1 a2 with g8 | g8
      · exact Or.inl (by omega)
      · exact Or.inl (by omega)
theorem lr_bst_keep {n m b : Nat} {T cur sq : Nat → Nat} (h1 : b < m) (h2 : b ≠ n) (h3 : cur b ≤ T b) (h6 : ∀ m', m' < m → m' ≠ n → cur m' ≤ T m' → sq b < sq m' ∨ (sq b = sq m' ∧ b ≤ m')) (h : sq b ≤ sq m) : lr_bst n T cur sq (m + 1) (nI b) (nI (sq b)) := by
  refine Or.inr ⟨b, by omega, h2, h3, rfl, rfl, ?_⟩
  intro m' hm' a1 a2
  by_cases e : m' = m
  · subst e
    rcases Nat.lt_or_ge (sq b) (sq m') with z | z
    · exact Or.inl z
    · exact Or.inr ⟨by omega, by omega⟩
  · exact h6 m' (by omega) a1 a2
def lr_qw (n z : Nat) (o : Nat → Int32) (len : Nat → Nat) (p : Nat) (qu : Nat → Int32) : Nat → Int32 := fun j => if j / 128 = n ∧ (j / 32) % 4 < p ∧ ¬ o ((j / 32) % 4) = 0 ∧ j % 32 = len ((j / 32) % 4) then nI z else qu j
theorem lr_qw_0 {n z : Nat} {o : Nat → Int32} {len : Nat → Nat} {qu : Nat → Int32} : qu = lr_qw n z o len 0 qu := by
  funext j
  show _ = (if _ then _ else _)
  rw [if_neg (fun h => by have := h.2.1; omega)]
theorem lr_qw_s {n z p : Nat} {o : Nat → Int32} {len : Nat → Nat} {qu : Nat → Int32} (hp : p < 4) (h : ¬ o p = 0) (hl : len p < 32) : upd (lr_qw n z o len p qu) ((n * 4 + p) * 32 + len p) (nI z) = lr_qw n z o len (p + 1) qu := by
  funext j
  by_cases e : j = (n * 4 + p) * 32 + len p
  · have e1 : j / 32 % 4 = p := by omega
    rw [e, pk_us, ← e]
    show _ = (if j / 128 = n ∧ (j / 32) % 4 < p + 1 ∧ ¬ o ((j / 32) % 4) = 0 ∧ j % 32 = len ((j / 32) % 4) then nI z else qu j)
    rw [if_pos ⟨by omega, by omega, by rw [e1]; exact h, by rw [e1]; omega⟩]
  · rw [pk_un e]
    show (if j / 128 = n ∧ (j / 32) % 4 < p ∧ ¬ o ((j / 32) % 4) = 0 ∧ j % 32 = len ((j / 32) % 4) then nI z else qu j) = (if j / 128 = n ∧ (j / 32) % 4 < p + 1 ∧ ¬ o ((j / 32) % 4) = 0 ∧ j % 32 = len ((j / 32) % 4) then nI z else qu j)
    by_cases h2 : j / 128 = n ∧ (j / 32) % 4 < p ∧ ¬ o ((j / 32) % 4) = 0 ∧ j % 32 = len ((j / 32) % 4)
    · rw [if_pos h2, if_pos ⟨h2.1, by have := h2.2.1; omega, h2.2.2⟩]
    · rw [if_neg h2, if_neg]
      intro y
      by_cases e1 : j / 32 % 4 = p
      · have y1 := y.1
        have y2 := y.2.2.2
        rw [e1] at y2
        omega
      · exact h2 ⟨y.1, by have := y.2.1; omega, y.2.2⟩
theorem lr_qw_z {n z p : Nat} {o : Nat → Int32} {len : Nat → Nat} {qu : Nat → Int32} (h : o p = 0) : lr_qw n z o len p qu = lr_qw n z o len (p + 1) qu := by
  funext j
  show (if j / 128 = n ∧ (j / 32) % 4 < p ∧ ¬ o ((j / 32) % 4) = 0 ∧ j % 32 = len ((j / 32) % 4) then nI z else qu j) = (if j / 128 = n ∧ (j / 32) % 4 < p + 1 ∧ ¬ o ((j / 32) % 4) = 0 ∧ j % 32 = len ((j / 32) % 4) then nI z else qu j)
  by_cases h2 : j / 128 = n ∧ (j / 32) % 4 < p ∧ ¬ o ((j / 32) % 4) = 0 ∧ j % 32 = len ((j / 32) % 4)
  · rw [if_pos h2, if_pos ⟨h2.1, by have := h2.2.1; omega, h2.2.2⟩]
  · rw [if_neg h2, if_neg]
    intro y
    by_cases e1 : j / 32 % 4 = p
    · exact y.2.2.1 (by rw [e1]; exact h)
    · exact h2 ⟨y.1, by have := y.2.1; omega, y.2.2⟩
theorem lr_qw_at {n z P p : Nat} {o : Nat → Int32} {len : Nat → Nat} {qu : Nat → Int32} (hP : P ≤ 4) (hp : p < P) (h : ¬ o p = 0) (hl : len p < 32) : lr_qw n z o len P qu ((n * 4 + p) * 32 + len p) = nI z := by
  show (if _ / 128 = n ∧ ((n * 4 + p) * 32 + len p) / 32 % 4 < P ∧ ¬ o (((n * 4 + p) * 32 + len p) / 32 % 4) = 0 ∧ ((n * 4 + p) * 32 + len p) % 32 = len (((n * 4 + p) * 32 + len p) / 32 % 4) then nI z else _) = _
  have e1 : ((n * 4 + p) * 32 + len p) / 32 % 4 = p := by omega
  rw [if_pos]
  rw [e1]
  exact ⟨by omega, hp, h, by omega⟩
theorem lr_qw_lo {n z P p i : Nat} {o : Nat → Int32} {len : Nat → Nat} {qu : Nat → Int32} (hp : p < 4) (hi : i < 32) (hl : i ≠ len p) : lr_qw n z o len P qu ((n * 4 + p) * 32 + i) = qu ((n * 4 + p) * 32 + i) := by
  show (if _ / 128 = n ∧ ((n * 4 + p) * 32 + i) / 32 % 4 < P ∧ ¬ o (((n * 4 + p) * 32 + i) / 32 % 4) = 0 ∧ ((n * 4 + p) * 32 + i) % 32 = len (((n * 4 + p) * 32 + i) / 32 % 4) then nI z else _) = _
  have e1 : ((n * 4 + p) * 32 + i) / 32 % 4 = p := by omega
  rw [if_neg]
  rw [e1]
  intro y
  have := y.2.2.2
  omega
theorem lr_qw_ne {n z P j : Nat} {o : Nat → Int32} {len : Nat → Nat} {qu : Nat → Int32} (h : j / 128 ≠ n) : lr_qw n z o len P qu j = qu j := by
  show (if _ then _ else _) = _
  rw [if_neg (fun y => h y.1)]
section
variable {N P B R : Nat} {f_openPages f_openNodes f_freeSlotCount f_retained f_freeEntry f_entriesUsed f_episodeCount : Int32} {a_copy a_twin a_opened a_openCount a_queue a_queued a_fetchCount a_clocks a_dropped a_slots a_freeSlots a_stamps a_sums a_notices a_chain a_entryAddr a_entryValue a_entryNext a_mode a_holders a_line a_lineLength a_lockClocks a_target a_cursor a_floor : Nat → Int32}
variable {k : Nat} {C LC : Nat → Nat → Nat} {D : Nat → Nat} {L : List lr_R} {Q : Nat → Nat → List lr_R} {WQ : List (Nat × Nat)}
variable {f_queueLen f_recCount : Int32} {a_copies a_queueNode a_queueLock a_recNode a_recNum a_recStamp a_recNotice a_recDiff a_v a_taken : Nat → Int32}
theorem xx_nextSource {post : Int32 → Prop} {n : Nat} {T cur sq : Nat → Nat} (hN : N ≤ 4) (hn : n < N) (hT : ∀ m, m < N → a_target m = nI (T m) ∧ T m < 100000) (hc : ∀ m, m < N → a_cursor m = nI (cur m) ∧ cur m < 100000)
    (hs : ∀ m, m < N → m ≠ n → cur m ≤ T m → ∃ z, z < 32 ∧ a_slots (m * 32 + cur m % 32) = nI z ∧ a_sums z = nI (sq m) ∧ sq m < 1000000)
    (H0 : (∀ m, m < N → m ≠ n → cur m ≤ T m → False) → post (-1)) (H1 : ∀ b, b < N → b ≠ n → cur b ≤ T b → (∀ m, m < N → m ≠ n → cur m ≤ T m → sq b < sq m ∨ (sq b = sq m ∧ b ≤ m)) → post (nI b)) : wpX_nextSource post (nI N, nI P, nI B, nI R, nI (P * B), f_openPages, f_openNodes, f_freeSlotCount, f_retained, f_freeEntry, f_entriesUsed, f_episodeCount, a_copy, a_twin, a_opened, a_openCount, a_queue, a_queued, a_fetchCount, a_clocks, a_dropped, a_slots, a_freeSlots, a_stamps, a_sums, a_notices, a_chain, a_entryAddr, a_entryValue, a_entryNext, a_mode, a_holders, a_line, a_lineLength, a_lockClocks, a_target, a_cursor, a_floor) (nI n) := by
  have key : ∀ d m x y, m + d = N → lr_bst n T cur sq m x y → wX_nextSource_7 post (nI n) (nI N) (nI P) (nI B) (nI R) (nI (P * B)) f_openPages f_openNodes f_freeSlotCount f_retained f_freeEntry f_entriesUsed f_episodeCount a_copy a_twin a_opened a_openCount a_queue a_queued a_fetchCount a_clocks a_dropped a_slots a_freeSlots a_stamps a_sums a_notices a_chain a_entryAddr a_entryValue a_entryNext a_mode a_holders a_line a_lineLength a_lockClocks a_target a_cursor a_floor (d + 1) x y (nI m) := by
    intro d
    induction d with
    | zero =>
      intro m x y hm hb
      have e : m = N := by omega
      subst e
      refine br_t (nI_le (Nat.le_refl _) (by omega)) ?_
      rcases hb with ⟨h1, h2⟩ | ⟨b, h1, h2, h3, h4, h5, h6⟩
      · rw [h1]; exact H0 h2
      · rw [h4]; exact H1 b h1 h2 h3 h6
    | succ d ih =>
      intro m x y hm hb
      have hcm : (nI m).toNatClampNeg = m := lr_c1 (by omega)
      refine br_f (nI_ge (by omega) (by omega)) ?_
      by_cases e : m = n
      · refine br_t (by rw [e]) (nm_r (nI_1 m) (ih (m + 1) x y (by omega) (lr_bst_skip hb (fun z => absurd e z))))
      · refine br_f (fun z => e ((nI_eq (by omega) (by omega)).mp z)) ⟨lr_v1 (by omega) (by omega), lr_v1 (by omega) (by omega), ?_⟩
        obtain ⟨t1, t2⟩ := hT m (by omega)
        obtain ⟨c1, c2⟩ := hc m (by omega)
        have hcmp : a_target (nI m).toNatClampNeg < a_cursor (nI m).toNatClampNeg ↔ T m < cur m := by rw [hcm]; exact lr_Ilt t1 c1 (by omega) (by omega)
        by_cases ha : T m < cur m
        · exact br_t (hcmp.mpr ha) (nm_r (nI_1 m) (ih (m + 1) x y (by omega) (lr_bst_skip hb (fun _ z => by omega))))
        · obtain ⟨z, z1, z2, z3, z4⟩ := hs m (by omega) e (by omega)
          have hix : nI m * 32 + (a_cursor (nI m).toNatClampNeg &&& 31) = nI (m * 32 + cur m % 32) := by rw [hcm, c1, lr_and31 (by omega), lr_i32]
          have hsl : a_slots (nI m * 32 + (a_cursor (nI m).toNatClampNeg &&& 31)).toNatClampNeg = nI z := by rw [hix, lr_c1 (by omega), z2]
          refine br_f (fun y => ha (hcmp.mp y)) ⟨lr_v1 (by omega) (by omega), by rw [hix]; exact lr_v1 (by omega) (by omega), by rw [hsl]; exact lr_v1 z1 (by omega), nm_r (e' := nI (sq m)) (by rw [hsl, lr_c1 (by omega), z3]) ?_⟩
          rcases hb with ⟨h1, h2⟩ | ⟨b, h1, h2, h3, h4, h5, h6⟩
          · refine br_t (by rw [h1]; exact lr_neg1) (nm_r (nI_1 m) (ih (m + 1) _ _ (by omega) (lr_bst_new (y := y) (Or.inl ⟨h1, h2⟩) e (by omega) ?_)))
            intro b hb hbm _
            rw [h1] at hb
            exact absurd lr_neg1 (by rw [hb]; exact nI_pos (by omega))
          · subst h4 h5
            refine br_f (nI_pos (by omega)) ?_
            obtain ⟨_, _, _, _, y4⟩ := hs b (by omega) h2 h3
            by_cases hq : sq b ≤ sq m
            · exact br_t (nI_le hq (by omega)) (nm_r (nI_1 m) (ih (m + 1) _ _ (by omega) (lr_bst_keep h1 h2 h3 h6 hq)))
            · refine br_f (nI_ge (by omega) (by omega)) (nm_r (nI_1 m) (ih (m + 1) _ _ (by omega) (lr_bst_new (Or.inr ⟨b, h1, h2, h3, rfl, rfl, h6⟩) e (by omega) ?_)))
              intro b' hb' hbm _
              have : b = b' := (nI_eq (by omega) (by omega)).mp hb'
              subst this
              omega
  exact ⟨_, key N 0 (-1) 0 (by omega) (Or.inl ⟨rfl, fun m' h => by omega⟩)⟩
theorem xx_queueNotices {post : SX → Prop} {n z : Nat} {o : Nat → Int32} {len : Nat → Nat} (hn : n < 4) (hz : z < 32) (hP : P ≤ 4) (hno : ∀ p, p < P → a_notices (z * 4 + p) = o p) (hqd : ∀ p, p < P → a_queued (n * 4 + p) = nI (len p)) (hlen : ∀ p, p < P → ¬ o p = 0 → len p < 32)
    (K : post (nI N, nI P, nI B, nI R, nI (P * B), f_openPages, f_openNodes, f_freeSlotCount, f_retained, f_freeEntry, f_entriesUsed, f_episodeCount, a_copy, a_twin, a_opened, a_openCount, lr_qw n z o len P a_queue, lr_qp P n o a_queued, a_fetchCount, a_clocks, a_dropped, a_slots, a_freeSlots, a_stamps, a_sums, a_notices, a_chain, a_entryAddr, a_entryValue, a_entryNext, a_mode, a_holders, a_line, a_lineLength, a_lockClocks, a_target, a_cursor, a_floor)) : wpX_queueNotices post (nI N, nI P, nI B, nI R, nI (P * B), f_openPages, f_openNodes, f_freeSlotCount, f_retained, f_freeEntry, f_entriesUsed, f_episodeCount, a_copy, a_twin, a_opened, a_openCount, a_queue, a_queued, a_fetchCount, a_clocks, a_dropped, a_slots, a_freeSlots, a_stamps, a_sums, a_notices, a_chain, a_entryAddr, a_entryValue, a_entryNext, a_mode, a_holders, a_line, a_lineLength, a_lockClocks, a_target, a_cursor, a_floor) (nI n) (nI z) := by
  refine loop_0 (fun f p s => wX_queueNotices_2 post (nI n) (nI z) (nI N) (nI P) (nI B) (nI R) (nI (P * B)) f_openPages f_openNodes f_freeSlotCount f_retained f_freeEntry f_entriesUsed f_episodeCount f (nI p) a_copy a_twin a_opened a_openCount s.1 s.2 a_fetchCount a_clocks a_dropped a_slots a_freeSlots a_stamps a_sums a_notices a_chain a_entryAddr a_entryValue a_entryNext a_mode a_holders a_line a_lineLength a_lockClocks a_target a_cursor a_floor) (fun p s => s = (lr_qw n z o len p a_queue, lr_qp p n o a_queued)) P (a_queue, a_queued) ?_ ?_ ?_
  · show (a_queue, a_queued) = (lr_qw n z o len 0 a_queue, lr_qp 0 n o a_queued)
    rw [← lr_qw_0, ← lr_qp_0]
  · intro f s es
    subst es
    exact br_t (nI_le (Nat.le_refl _) (by omega)) K
  · intro f p s hp es ih
    subst es
    have h1 : (nI (n * 4 + p)).toNatClampNeg = n * 4 + p := lr_c1 (by omega)
    have v1 : vp_in (nI (n * 4 + p)) 16 := lr_v1 (by omega) (by omega)
    refine br_f (nI_ge hp (by omega)) (nm_r (lr_i4 n p) ⟨lr_v4 (by omega) (by omega), ?_⟩)
    by_cases ho : o p = 0
    · refine br_t (by rw [lr_c4 (by omega), hno p hp]; exact ho) (nm_r (nI_1 p) (ih _ ?_))
      rw [← lr_qw_z ho, ← lr_qp_z (by omega) ho]
    · have hq0 : lr_qp p n o a_queued (n * 4 + p) = nI (len p) := by rw [lr_qp_at0 (by omega) (Or.inl (Nat.le_refl _)), hqd p hp]
      have hl := hlen p hp ho
      refine br_f (by rw [lr_c4 (by omega), hno p hp]; exact ho) ⟨v1, br_f (by show ¬ (32 : Int32) ≤ lr_qp p n o a_queued _; rw [h1, hq0]; exact nI_ge (b := 32) hl (by omega)) ⟨v1, ?_, nm_r (e' := lr_qw n z o len (p + 1) a_queue) ?_ ⟨v1, v1, nm_r (e' := lr_qp (p + 1) n o a_queued) ?_ (nm_r (nI_1 p) (ih _ rfl))⟩⟩⟩
      · show vp_in (nI (n * 4 + p) * 32 + lr_qp p n o a_queued _) 512
        rw [h1, hq0]; exact lr_v32 (by omega) (by omega)
      · show upd (lr_qw n z o len p a_queue) (nI (n * 4 + p) * 32 + lr_qp p n o a_queued _).toNatClampNeg _ = _
        rw [h1, hq0, lr_c32 (by omega), lr_qw_s (by omega) ho hl]
      · show upd (lr_qp p n o a_queued) _ (lr_qp p n o a_queued _ + 1) = _
        rw [h1, lr_qp_s (by omega) ho]
end
end
section
/-! X: learning, the loop -/
def lr_qr (P n : Nat) (L : List lr_R) (cur : Nat → Nat) (lq : Nat → List lr_R) (qu qd : Nat → Int32) : Prop :=
  ∀ p, p < P → qd (n * 4 + p) = nI (lq p).length ∧ (∀ q, q ∈ lq p → q ∈ L ∧ lr_k q < cur (lr_n q)) ∧ ((lq p).map lr_key).Nodup ∧ ∀ i q, (lq p)[i]? = some q → qu ((n * 4 + p) * 32 + i) = nI (lr_z q)
theorem lr_nd_snoc {l : List lr_R} {q : lr_R} {cur : Nat → Nat} (h : (l.map lr_key).Nodup) (h1 : ∀ q', q' ∈ l → lr_k q' < cur (lr_n q')) (h2 : lr_k q = cur (lr_n q)) : ((l ++ [q]).map lr_key).Nodup := by
  rw [List.map_append, List.nodup_append]
  refine ⟨h, by simp, ?_⟩
  intro a ha b hb e
  obtain ⟨q', hq', rfl⟩ := List.mem_map.mp ha
  rw [List.map_singleton, List.mem_singleton] at hb
  rw [hb] at e
  have e1 : lr_n q' = lr_n q := congrArg (fun x : Nat × Nat => x.1) e
  have e2 : lr_k q' = lr_k q := congrArg (fun x : Nat × Nat => x.2) e
  have := h1 q' hq'
  rw [e1] at this
  omega
theorem lr_qr_lt {P n p : Nat} {L : List lr_R} {cur : Nat → Nat} {lq : Nat → List lr_R} {qu qd : Nat → Int32} {q : lr_R} (h : lr_qr P n L cur lq qu qd) (hq : q ∈ L) (hk : lr_k q = cur (lr_n q)) (hp : p < P) : (lq p).length < L.length := by
  obtain ⟨h1, h2, h3, h4⟩ := h p hp
  have := lr_key_len (L := L) (lr_nd_snoc h3 (fun q' hq' => (h2 q' hq').2) hk) (by
    intro q' hq'
    rcases List.mem_append.mp hq' with z | z
    · exact (h2 q' z).1
    · rw [List.mem_singleton] at z; rw [z]; exact hq)
  rw [List.length_append, List.length_singleton] at this
  omega
theorem lr_qr_s {P n : Nat} {L : List lr_R} {cur : Nat → Nat} {lq : Nat → List lr_R} {qu qd : Nat → Int32} {q : lr_R} (hP : P ≤ 4) (hL : L.length ≤ 32) (h : lr_qr P n L cur lq qu qd) (hq : q ∈ L) (hk : lr_k q = cur (lr_n q)) :
    lr_qr P n L (lr_up1 cur (lr_n q)) (lr_qa lq [q]) (lr_qw n (lr_z q) (lr_o q) (fun p => (lq p).length) P qu) (lr_qp P n (lr_o q) qd) := by
  intro p hp
  have hlt := lr_qr_lt h hq hk hp
  obtain ⟨h1, h2, h3, h4⟩ := h p hp
  have hcu : ∀ m, cur m ≤ lr_up1 cur (lr_n q) m := fun m => lr_up1_le
  by_cases ho : lr_o q p = 0
  · rw [lr_qa_2 ho, lr_qp_at0 (by omega) (Or.inr ho)]
    refine ⟨h1, fun q' hq' => ⟨(h2 q' hq').1, Nat.lt_of_lt_of_le (h2 q' hq').2 (hcu _)⟩, h3, ?_⟩
    intro i q' hi
    have := lr_at_lt hi
    rw [lr_qw_lo (by omega) (by omega) (by show i ≠ (lq p).length; omega)]
    exact h4 i q' hi
  · rw [lr_qa_1 ho, lr_qp_at hp hP ho]
    refine ⟨?_, ?_, lr_nd_snoc h3 (fun q' hq' => (h2 q' hq').2) hk, ?_⟩
    · rw [h1, nI_1, List.length_append, List.length_singleton]
    · intro q' hq'
      rcases List.mem_append.mp hq' with z | z
      · exact ⟨(h2 q' z).1, Nat.lt_of_lt_of_le (h2 q' z).2 (hcu _)⟩
      · rw [List.mem_singleton] at z; rw [z]; exact ⟨hq, by rw [lr_up1_s]; omega⟩
    · intro i q' hi
      by_cases e : i < (lq p).length
      · rw [List.getElem?_append_left e] at hi
        rw [lr_qw_lo (by omega) (by omega) (by show i ≠ (lq p).length; omega)]
        exact h4 i q' hi
      · have h5 := lr_at_lt hi
        rw [List.length_append, List.length_singleton] at h5
        have e2 : i = (lq p).length := by omega
        subst e2
        rw [List.getElem?_concat_length] at hi
        cases hi
        exact lr_qw_at (len := fun p => (lq p).length) hP hp ho (by show (lq p).length < 32; omega)
section
variable {N P B R : Nat} {f_openPages f_openNodes f_freeSlotCount f_retained f_freeEntry f_entriesUsed f_episodeCount : Int32} {a_copy a_twin a_opened a_openCount a_queue a_queued a_fetchCount a_clocks a_dropped a_slots a_freeSlots a_stamps a_sums a_notices a_chain a_entryAddr a_entryValue a_entryNext a_mode a_holders a_line a_lineLength a_lockClocks a_target a_cursor a_floor : Nat → Int32}
variable {k : Nat} {C LC : Nat → Nat → Nat} {D : Nat → Nat} {L : List lr_R} {Q : Nat → Nat → List lr_R} {WQ : List (Nat × Nat)}
variable {f_queueLen f_recCount : Int32} {a_copies a_queueNode a_queueLock a_recNode a_recNum a_recStamp a_recNotice a_recDiff a_v a_taken : Nat → Int32}
theorem xx_lrnL {post : SX → Prop} {n : Nat} {T : Nat → Nat} (Z : lr_Sz N P B R) (hn : n < N) (hT : ∀ m, m < N → a_target m = nI (T m) ∧ T m < 90000 ∧ T m ≤ C m m) (l1 : lr_L1 N C D L) (l2 : lr_L2 N C L)
    (X : lr_XR N P B L f_freeSlotCount f_retained f_freeEntry f_entriesUsed a_slots a_freeSlots a_stamps a_sums a_notices a_chain a_entryAddr a_entryValue a_entryNext) (hL : L.length ≤ 32) (hsum : ∀ q, q ∈ L → lr_sum (lr_s q) N < 1000000) :
    ∀ (μ : Nat) (cur : Nat → Nat) (st : Nat) (qu qd cu : Nat → Int32) (lq : Nat → List lr_R), lr_mu N n T cur = μ → st + μ ≤ R → (∀ m, m < N → cu m = nI (cur m) ∧ D m < cur m ∧ cur m < 95000) → lr_qr P n L cur lq qu qd →
    (∀ (S : List lr_R) (qu' cu' : Nat → Int32), lr_os N L n T S cur → (∃ cur', lr_qr P n L cur' (lr_qa lq S) qu' (lr_qpL P n qd S)) → (∀ j, j / 128 ≠ n → qu' j = qu j) → ∃ n103 : Nat, wX_learn_103 post (nI n) (nI N) (nI P) (nI B) (nI R) (nI (P * B)) f_openPages f_openNodes f_freeSlotCount f_retained f_freeEntry f_entriesUsed f_episodeCount n103 0 a_copy a_twin a_opened a_openCount qu' (lr_qpL P n qd S) a_fetchCount a_clocks a_dropped a_slots a_freeSlots a_stamps a_sums a_notices a_chain a_entryAddr a_entryValue a_entryNext a_mode a_holders a_line a_lineLength a_lockClocks a_target cu' a_floor) →
    wX_learn_36 post (nI n) (μ + 1) (nI st) (nI N) (nI P) (nI B) (nI R) (nI (P * B)) f_openPages f_openNodes f_freeSlotCount f_retained f_freeEntry f_entriesUsed f_episodeCount a_copy a_twin a_opened a_openCount qu qd a_fetchCount a_clocks a_dropped a_slots a_freeSlots a_stamps a_sums a_notices a_chain a_entryAddr a_entryValue a_entryNext a_mode a_holders a_line a_lineLength a_lockClocks a_target cu a_floor := by
  obtain ⟨z1, z2, z3, z4, z5, z6, z7, z8⟩ := Z
  have none_os : ∀ cur : Nat → Nat, (∀ m, m < N → m ≠ n → cur m ≤ T m → False) → lr_os N L n T [] cur := by
    intro cur h q hq hr
    exact h (lr_n q) (l1.1 q hq).1 hr.1 (Nat.le_trans hr.2.1 hr.2.2)
  intro μ
  induction μ with
  | zero =>
    intro cur st qu qd cu lq hmu hst hcu hqr H
    have hno : ∀ m, m < N → m ≠ n → cur m ≤ T m → False := by
      intro m hm hmn hc
      have h1 := lr_sum_ge (f := fun m => if m = n then 0 else T m + 1 - cur m) hm
      have h2 : lr_sum (fun m => if m = n then 0 else T m + 1 - cur m) N = 0 := hmu
      rw [h2] at h1
      have h3 : (if m = n then 0 else T m + 1 - cur m) ≤ 0 := h1
      rw [if_neg hmn] at h3
      omega
    have K := H [] qu cu (none_os cur hno) ⟨cur, by rw [lr_qa_0]; exact hqr⟩ (fun j _ => rfl)
    by_cases hR : nI R ≤ nI st
    · exact br_t hR K
    · refine br_f hR (xx_nextSource (T := T) (cur := cur) (sq := fun _ => 0) z2 hn (fun m hm => ⟨(hT m hm).1, by have := (hT m hm).2.1; omega⟩) (fun m hm => ⟨(hcu m hm).1, by have := (hcu m hm).2.2; omega⟩) (fun m hm a b => (hno m hm a b).elim) (fun _ => br_f (by decide) K) (fun b hb h1 h2 _ => (hno b hb h1 h2).elim))
  | succ μ ih =>
    intro cur st qu qd cu lq hmu hst hcu hqr H
    have hsq : ∀ q, q ∈ L → lr_k q = cur (lr_n q) → (a_slots (lr_n q * 32 + cur (lr_n q) % 32) = nI (lr_z q) ∧ (a_sums (a_slots (lr_n q * 32 + cur (lr_n q) % 32)).toNatClampNeg).toNatClampNeg = lr_sum (lr_s q) N) := by
      intro q hq hk
      obtain ⟨x1, x2, x3, x4, x5⟩ := lr_XR_q X hq
      have hs := hsum q hq
      rw [hk] at x2
      refine ⟨x2, ?_⟩
      rw [x2, lr_c1 (by omega), x4, lr_c1 (by omega)]
    have hhd : ∀ m, m < N → cur m ≤ T m → ∃ q, q ∈ L ∧ lr_n q = m ∧ lr_k q = cur m := by
      intro m hm hc
      exact l1.2.1 m (cur m) hm (hcu m hm).2.1 (Nat.le_trans hc (hT m hm).2.2)
    refine br_f (nI_ge (by omega) (by omega)) (xx_nextSource (T := T) (cur := cur) (sq := fun m => (a_sums (a_slots (m * 32 + cur m % 32)).toNatClampNeg).toNatClampNeg) z2 hn (fun m hm => ⟨(hT m hm).1, by have := (hT m hm).2.1; omega⟩) (fun m hm => ⟨(hcu m hm).1, by have := (hcu m hm).2.2; omega⟩) ?_ ?_ ?_)
    · intro m hm hmn hc
      obtain ⟨q, hq, rfl, hk⟩ := hhd m hm hc
      obtain ⟨x1, x2, x3, x4, x5⟩ := lr_XR_q X hq
      obtain ⟨y1, y2⟩ := hsq q hq hk
      have hs := hsum q hq
      refine ⟨lr_z q, x1, y1, ?_, ?_⟩
      · show a_sums (lr_z q) = nI (a_sums (a_slots (lr_n q * 32 + cur (lr_n q) % 32)).toNatClampNeg).toNatClampNeg
        rw [y2, x4]
      · show (a_sums (a_slots (lr_n q * 32 + cur (lr_n q) % 32)).toNatClampNeg).toNatClampNeg < 1000000
        rw [y2]; exact hs
    · intro hno
      exact br_f (by decide) (H [] qu cu (none_os cur hno) ⟨cur, by rw [lr_qa_0]; exact hqr⟩ (fun j _ => rfl))
    · intro b hb hbn hbc hmin
      obtain ⟨q, hq, rfl, hk⟩ := hhd b hb hbc
      obtain ⟨x1, x2, x3, x4, x5⟩ := lr_XR_q X hq
      obtain ⟨y1, y2⟩ := hsq q hq hk
      obtain ⟨c1, c2, c3⟩ := hcu (lr_n q) hb
      obtain ⟨t1, t2, t3⟩ := hT (lr_n q) hb
      have hc1 : (nI (lr_n q)).toNatClampNeg = lr_n q := lr_c1 (by omega)
      have hix : nI (lr_n q) * 32 + (cu (nI (lr_n q)).toNatClampNeg &&& 31) = nI (lr_n q * 32 + cur (lr_n q) % 32) := by rw [hc1, c1, lr_and31 (by omega), lr_i32]
      refine br_t (nI_pos' (by omega)) ⟨lr_v1 (by omega) (by omega), by rw [hix]; exact lr_v1 (by omega) (by omega), nm_r (e' := nI (lr_z q)) (by rw [hix, lr_c1 (by omega), y1]) ?_⟩
      refine xx_queueNotices (o := lr_o q) (len := fun p => (lq p).length) (by omega) x1 z4 (fun p hp => x5 p hp) (fun p hp => (hqr p hp).1) (fun p hp _ => by have := lr_qr_lt hqr hq hk hp; show (lq p).length < 32; omega) ?_
      refine ⟨lr_v1 (by omega) (by omega), lr_v1 (by omega) (by omega), nm_r (e' := upd cu (lr_n q) (nI (cur (lr_n q) + 1))) (by rw [hc1, c1, nI_1]) (nm_r (nI_1 st) ?_)⟩
      have hms := lr_mu_s (N := N) (T := T) hb hbn hbc
      refine ih (lr_up1 cur (lr_n q)) (st + 1) _ _ _ (lr_qa lq [q]) (by omega) (by omega) ?_ (lr_qr_s z4 hL hqr hq hk) ?_
      · intro m hm
        by_cases e : m = lr_n q
        · subst e; rw [pk_us, lr_up1_s]; exact ⟨rfl, by omega, by omega⟩
        · rw [pk_un e, lr_up1_n e]; exact hcu m hm
      · intro S qu' cu' hos hqr' hne
        rw [lr_qa_c] at hqr'
        refine H (q :: S) qu' cu' ⟨⟨hq, ⟨hbn, by omega, by omega⟩, hk⟩, ?_, hos⟩ hqr' ?_
        · intro q' hq' hr
          have hn' := (l1.1 q' hq').1
          have hc' : cur (lr_n q') ≤ T (lr_n q') := Nat.le_trans hr.2.1 hr.2.2
          obtain ⟨h, hh, e1, e2⟩ := hhd (lr_n q') hn' hc'
          have hle : lr_sum (lr_s h) N ≤ lr_sum (lr_s q') N := by
            by_cases e3 : lr_k h = lr_k q'
            · have : h = q' := lr_inj l1.2.2 hh hq' (by show (lr_n h, lr_k h) = (lr_n q', lr_k q'); rw [e1, e3])
              rw [this]; exact Nat.le_refl _
            · exact Nat.le_of_lt (l2.2 h q' hh hq' e1 (by have := hr.2.1; omega))
          have hm := hmin (lr_n q') hn' hr.1 hc'
          rw [y2] at hm
          have hy := (hsq h hh (by rw [e1]; exact e2)).2
          rw [e1] at hy
          rw [hy] at hm
          rcases hm with hm | hm
          · exact Or.inl (by omega)
          · rcases Nat.lt_or_ge (lr_sum (lr_s h) N) (lr_sum (lr_s q') N) with g | g
            · exact Or.inl (by omega)
            · exact Or.inr ⟨by omega, hm.2⟩
        · intro j hj
          rw [hne j hj, lr_qw_ne hj]
end
end
section
/-! X: learning, whole -/
def lr_mx (a b : Nat) : Nat := if a < b then b else a
theorem lr_mx_s (a b : Nat) : a ≤ lr_mx a b ∧ b ≤ lr_mx a b ∧ (lr_mx a b = a ∨ lr_mx a b = b) := by
  unfold lr_mx
  by_cases h : a < b
  · rw [if_pos h]; exact ⟨by omega, Nat.le_refl _, Or.inr rfl⟩
  · rw [if_neg h]; exact ⟨Nat.le_refl _, by omega, Or.inl rfl⟩
theorem lr_mx_l {a b : Nat} (h : b ≤ a) : lr_mx a b = a := by
  unfold lr_mx; rw [if_neg (by omega)]
theorem lr_mx_r {a b : Nat} (h : a < b) : lr_mx a b = b := by
  unfold lr_mx; rw [if_pos h]
def lr_ck (n m : Nat) (c T : Nat → Nat) (cl : Nat → Int32) : Nat → Int32 := fun i => if i / 4 = n ∧ i % 4 < m then nI (lr_mx (c (i % 4)) (T (i % 4))) else cl i
theorem lr_ck_0 {n : Nat} {c T : Nat → Nat} {cl : Nat → Int32} : cl = lr_ck n 0 c T cl := by
  funext i
  show _ = (if i / 4 = n ∧ i % 4 < 0 then nI (lr_mx (c (i % 4)) (T (i % 4))) else cl i)
  rw [if_neg (fun h => by omega)]
theorem lr_ck_at {n m j : Nat} {c T : Nat → Nat} {cl : Nat → Int32} (hm : m ≤ 4) (hj : j < m) : lr_ck n m c T cl (n * 4 + j) = nI (lr_mx (c j) (T j)) := by
  show (if (n * 4 + j) / 4 = n ∧ (n * 4 + j) % 4 < m then nI (lr_mx (c ((n * 4 + j) % 4)) (T ((n * 4 + j) % 4))) else _) = _
  rw [if_pos (by omega), show (n * 4 + j) % 4 = j by omega]
theorem lr_ck_hi {n m j : Nat} {c T : Nat → Nat} {cl : Nat → Int32} (hj : j < 4) (h : m ≤ j) : lr_ck n m c T cl (n * 4 + j) = cl (n * 4 + j) := by
  show (if (n * 4 + j) / 4 = n ∧ (n * 4 + j) % 4 < m then nI (lr_mx (c ((n * 4 + j) % 4)) (T ((n * 4 + j) % 4))) else _) = _
  rw [if_neg (by omega)]
theorem lr_ck_ne {n m i : Nat} {c T : Nat → Nat} {cl : Nat → Int32} (h : i / 4 ≠ n) : lr_ck n m c T cl i = cl i := by
  show (if _ then _ else _) = _
  rw [if_neg (fun k => h k.1)]
theorem lr_ck_s {n m : Nat} {c T : Nat → Nat} {cl : Nat → Int32} (hm : m < 4) : upd (lr_ck n m c T cl) (n * 4 + m) (nI (lr_mx (c m) (T m))) = lr_ck n (m + 1) c T cl := by
  funext i
  by_cases e : i = n * 4 + m
  · subst e
    rw [pk_us, lr_ck_at (by omega) (by omega)]
  · rw [pk_un e]
    show (if _ then _ else _) = (if _ then _ else _)
    by_cases h2 : i / 4 = n ∧ i % 4 < m
    · rw [if_pos h2, if_pos (by omega)]
    · rw [if_neg h2, if_neg (by omega)]
theorem lr_ck_z {n m : Nat} {c T : Nat → Nat} {cl : Nat → Int32} (hm : m < 4) (h : cl (n * 4 + m) = nI (c m)) (hc : T m ≤ c m) : lr_ck n m c T cl = lr_ck n (m + 1) c T cl := by
  rw [← lr_ck_s hm, lr_mx_l hc]
  funext i
  by_cases e : i = n * 4 + m
  · subst e
    rw [pk_us, lr_ck_hi (by omega) (Nat.le_refl _), h]
  · rw [pk_un e]
section
variable {N P B R : Nat} {f_openPages f_openNodes f_freeSlotCount f_retained f_freeEntry f_entriesUsed f_episodeCount : Int32} {a_copy a_twin a_opened a_openCount a_queue a_queued a_fetchCount a_clocks a_dropped a_slots a_freeSlots a_stamps a_sums a_notices a_chain a_entryAddr a_entryValue a_entryNext a_mode a_holders a_line a_lineLength a_lockClocks a_target a_cursor a_floor : Nat → Int32}
variable {k : Nat} {C LC : Nat → Nat → Nat} {D : Nat → Nat} {L : List lr_R} {Q : Nat → Nat → List lr_R} {WQ : List (Nat × Nat)}
variable {f_queueLen f_recCount : Int32} {a_copies a_queueNode a_queueLock a_recNode a_recNum a_recStamp a_recNotice a_recDiff a_v a_taken : Nat → Int32}
theorem xx_learn103 {post : SX → Prop} {n : Nat} {T : Nat → Nat} (hN : N ≤ 4) (hn : n < N) (hc : ∀ m, m < N → a_clocks (n * 4 + m) = nI (C n m) ∧ C n m < 90000) (hT : ∀ m, m < N → a_target m = nI (T m) ∧ T m < 90000)
    (K : post (nI N, nI P, nI B, nI R, nI (P * B), f_openPages, f_openNodes, f_freeSlotCount, f_retained, f_freeEntry, f_entriesUsed, f_episodeCount, a_copy, a_twin, a_opened, a_openCount, a_queue, a_queued, a_fetchCount, lr_ck n N (C n) T a_clocks, a_dropped, a_slots, a_freeSlots, a_stamps, a_sums, a_notices, a_chain, a_entryAddr, a_entryValue, a_entryNext, a_mode, a_holders, a_line, a_lineLength, a_lockClocks, a_target, a_cursor, a_floor)) : ∃ n103 : Nat, wX_learn_103 post (nI n) (nI N) (nI P) (nI B) (nI R) (nI (P * B)) f_openPages f_openNodes f_freeSlotCount f_retained f_freeEntry f_entriesUsed f_episodeCount n103 0 a_copy a_twin a_opened a_openCount a_queue a_queued a_fetchCount a_clocks a_dropped a_slots a_freeSlots a_stamps a_sums a_notices a_chain a_entryAddr a_entryValue a_entryNext a_mode a_holders a_line a_lineLength a_lockClocks a_target a_cursor a_floor := by
  refine loop_0 (fun f m s => wX_learn_103 post (nI n) (nI N) (nI P) (nI B) (nI R) (nI (P * B)) f_openPages f_openNodes f_freeSlotCount f_retained f_freeEntry f_entriesUsed f_episodeCount f (nI m) a_copy a_twin a_opened a_openCount a_queue a_queued a_fetchCount s a_dropped a_slots a_freeSlots a_stamps a_sums a_notices a_chain a_entryAddr a_entryValue a_entryNext a_mode a_holders a_line a_lineLength a_lockClocks a_target a_cursor a_floor) (fun m s => s = lr_ck n m (C n) T a_clocks) N a_clocks lr_ck_0 ?_ ?_
  · intro f s es
    subst es
    exact br_t (nI_le (Nat.le_refl _) (by omega)) K
  · intro f m s hm es ih
    subst es
    obtain ⟨c1, c2⟩ := hc m hm
    obtain ⟨t1, t2⟩ := hT m hm
    have h1 : (nI m).toNatClampNeg = m := lr_c1 (by omega)
    have h2 : (nI n * 4 + nI m).toNatClampNeg = n * 4 + m := lr_c4 (by omega)
    have h3 : lr_ck n m (C n) T a_clocks (nI n * 4 + nI m).toNatClampNeg = nI (C n m) := by rw [h2, lr_ck_hi (by omega) (Nat.le_refl _), c1]
    refine br_f (nI_ge hm (by omega)) ⟨lr_v1 (by omega) (by omega), lr_v4 (by omega) (by omega), ?_⟩
    by_cases z : T m ≤ C n m
    · refine br_t (by rw [h1, t1, h3]; exact nI_le z (by omega)) (nm_r (nI_1 m) (ih _ ?_))
      exact lr_ck_z (by omega) c1 z
    · refine br_f (by rw [h1, t1, h3]; exact nI_ge (by omega) (by omega)) ⟨lr_v1 (by omega) (by omega), lr_v4 (by omega) (by omega), nm_e (nm_r (nI_1 m) (ih _ ?_))⟩
      rw [h1, h2, t1, ← lr_ck_s (by omega), lr_mx_r (by omega)]
theorem xx_learn {post : SX → Prop} {n : Nat} {T : Nat → Nat} (Z : lr_Sz N P B R) (hn : n < N) (hc : ∀ m, m < N → a_clocks (n * 4 + m) = nI (C n m) ∧ C n m < 90000 ∧ D m ≤ C n m) (hT : ∀ m, m < N → a_target m = nI (T m) ∧ T m < 90000 ∧ T m ≤ C m m) (l1 : lr_L1 N C D L) (l2 : lr_L2 N C L)
    (X : lr_XR N P B L f_freeSlotCount f_retained f_freeEntry f_entriesUsed a_slots a_freeSlots a_stamps a_sums a_notices a_chain a_entryAddr a_entryValue a_entryNext) (hL : L.length ≤ R) (hsum : ∀ q, q ∈ L → lr_sum (lr_s q) N < 1000000)
    (hqr : lr_qr P n L (fun m => C n m + 1) (Q n) a_queue a_queued)
    (H : ∀ (S : List lr_R) (qu' cu' : Nat → Int32), lr_os N L n T S (fun m => C n m + 1) → (∃ cur', lr_qr P n L cur' (lr_qa (Q n) S) qu' (lr_qpL P n a_queued S)) → (∀ j, j / 128 ≠ n → qu' j = a_queue j) → post (nI N, nI P, nI B, nI R, nI (P * B), f_openPages, f_openNodes, f_freeSlotCount, f_retained, f_freeEntry, f_entriesUsed, f_episodeCount, a_copy, a_twin, a_opened, a_openCount, qu', lr_qpL P n a_queued S, a_fetchCount, lr_ck n N (C n) T a_clocks, a_dropped, a_slots, a_freeSlots, a_stamps, a_sums, a_notices, a_chain, a_entryAddr, a_entryValue, a_entryNext, a_mode, a_holders, a_line, a_lineLength, a_lockClocks, a_target, cu', a_floor)) :
    wpX_learn post (nI N, nI P, nI B, nI R, nI (P * B), f_openPages, f_openNodes, f_freeSlotCount, f_retained, f_freeEntry, f_entriesUsed, f_episodeCount, a_copy, a_twin, a_opened, a_openCount, a_queue, a_queued, a_fetchCount, a_clocks, a_dropped, a_slots, a_freeSlots, a_stamps, a_sums, a_notices, a_chain, a_entryAddr, a_entryValue, a_entryNext, a_mode, a_holders, a_line, a_lineLength, a_lockClocks, a_target, a_cursor, a_floor) (nI n) := by
  have Z' := Z
  obtain ⟨z1, z2, z3, z4, z5, z6, z7, z8⟩ := Z
  have hmu : lr_mu N n T (fun m => C n m + 1) ≤ L.length := by
    rw [lr_len l1]
    unfold lr_mu
    refine lr_sum_le ?_
    intro m hm
    by_cases e : m = n
    · rw [if_pos e]; omega
    · rw [if_neg e]
      have h1 := (hT m hm).2.2
      have h2 := (hc m hm).2.2
      show T m + 1 - (C n m + 1) ≤ C m m - D m
      omega
  refine loop_0 (fun f m s => wX_learn_2 post (nI n) (nI N) (nI P) (nI B) (nI R) (nI (P * B)) f_openPages f_openNodes f_freeSlotCount f_retained f_freeEntry f_entriesUsed f_episodeCount f (nI m) a_copy a_twin a_opened a_openCount a_queue a_queued a_fetchCount a_clocks a_dropped a_slots a_freeSlots a_stamps a_sums a_notices a_chain a_entryAddr a_entryValue a_entryNext a_mode a_holders a_line a_lineLength a_lockClocks a_target s a_floor) (fun m s => ∀ j, j < m → s j = nI (C n j + 1)) N a_cursor (fun j hj => by omega) ?_ ?_
  · intro f s es
    refine br_t (nI_le (Nat.le_refl _) (by omega)) ⟨_, xx_lrnL Z' hn hT l1 l2 X (by omega) hsum _ (fun m => C n m + 1) 0 a_queue a_queued s (Q n) rfl (by omega) ?_ hqr ?_⟩
    · intro m hm
      have h1 := hc m hm
      exact ⟨es m hm, by show D m < C n m + 1; omega, by show C n m + 1 < 95000; omega⟩
    · intro S qu' cu' h1 h2 h3
      exact xx_learn103 z2 hn (fun m hm => ⟨(hc m hm).1, (hc m hm).2.1⟩) (fun m hm => ⟨(hT m hm).1, (hT m hm).2.1⟩) (H S qu' cu' h1 h2 h3)
  · intro f m s hm es ih
    refine br_f (nI_ge hm (by omega)) ⟨lr_v4 (by omega) (by omega), lr_v1 (by omega) (by omega), nm_r (e' := upd s m (nI (C n m + 1))) (by rw [lr_c1 (by omega), lr_c4 (by omega), (hc m hm).1, nI_1]) (nm_r (nI_1 m) (ih _ ?_))⟩
    intro j hj
    by_cases e : j = m
    · subst e; rw [pk_us]
    · rw [pk_un e]; exact es j (by omega)
end
end
section
/-! Y: learning -/
def lr_lc (A n : Nat) (d f : Nat → Int32) : Nat → Int32 := fun i => if i / 32 = n ∧ i % 32 < A ∧ ¬ d (i % 32) < 0 then d (i % 32) else f i
def lr_lcL (A n : Nat) : (Nat → Int32) → List lr_R → (Nat → Int32)
  | f, [] => f
  | f, q :: S => lr_lcL A n (lr_lc A n (lr_d q) f) S
theorem lr_lc_0 {n : Nat} {d f : Nat → Int32} : f = lr_lc 0 n d f := by
  funext i
  show _ = (if _ then _ else _)
  rw [if_neg (fun z => by have := z.2.1; omega)]
theorem lr_lc_at {A n a : Nat} {d f : Nat → Int32} (ha : a < A) (hA : A ≤ 32) (h : ¬ d a < 0) : lr_lc A n d f (n * 32 + a) = d a := by
  show (if (n * 32 + a) / 32 = n ∧ (n * 32 + a) % 32 < A ∧ ¬ d ((n * 32 + a) % 32) < 0 then d ((n * 32 + a) % 32) else _) = _
  have e : (n * 32 + a) % 32 = a := by omega
  rw [e, if_pos ⟨by omega, ha, h⟩]
theorem lr_lc_at0 {A n a : Nat} {d f : Nat → Int32} (ha : a < 32) (h : A ≤ a ∨ d a < 0) : lr_lc A n d f (n * 32 + a) = f (n * 32 + a) := by
  show (if (n * 32 + a) / 32 = n ∧ (n * 32 + a) % 32 < A ∧ ¬ d ((n * 32 + a) % 32) < 0 then d ((n * 32 + a) % 32) else _) = _
  have e : (n * 32 + a) % 32 = a := by omega
  rw [e, if_neg]
  intro z
  rcases h with h | h
  · have := z.2.1; omega
  · exact z.2.2 h
theorem lr_lc_ne {A n i : Nat} {d f : Nat → Int32} (h : i / 32 ≠ n) : lr_lc A n d f i = f i := by
  show (if _ then _ else _) = _
  rw [if_neg (fun z => h z.1)]
theorem lr_lc_s {n a : Nat} {d f : Nat → Int32} (ha : a < 32) (h : ¬ d a < 0) : upd (lr_lc a n d f) (n * 32 + a) (d a) = lr_lc (a + 1) n d f := by
  funext i
  by_cases e : i = n * 32 + a
  · subst e
    rw [pk_us, lr_lc_at (by omega) (by omega) h]
  · rw [pk_un e]
    show (if i / 32 = n ∧ i % 32 < a ∧ ¬ d (i % 32) < 0 then _ else _) = (if i / 32 = n ∧ i % 32 < a + 1 ∧ ¬ d (i % 32) < 0 then _ else _)
    by_cases h2 : i / 32 = n ∧ i % 32 < a ∧ ¬ d (i % 32) < 0
    · rw [if_pos h2, if_pos ⟨h2.1, by have := h2.2.1; omega, h2.2.2⟩]
    · rw [if_neg h2, if_neg (fun z => h2 ⟨z.1, by have := z.2.1; have := z.1; omega, z.2.2⟩)]
theorem lr_lc_z {n a : Nat} {d f : Nat → Int32} (h : d a < 0) : lr_lc a n d f = lr_lc (a + 1) n d f := by
  funext i
  show (if i / 32 = n ∧ i % 32 < a ∧ ¬ d (i % 32) < 0 then _ else _) = (if i / 32 = n ∧ i % 32 < a + 1 ∧ ¬ d (i % 32) < 0 then _ else _)
  by_cases h2 : i / 32 = n ∧ i % 32 < a ∧ ¬ d (i % 32) < 0
  · rw [if_pos h2, if_pos ⟨h2.1, by have := h2.2.1; omega, h2.2.2⟩]
  · rw [if_neg h2, if_neg]
    intro z
    by_cases e : i % 32 = a
    · exact z.2.2 (by rw [e]; exact h)
    · exact h2 ⟨z.1, by have := z.2.1; omega, z.2.2⟩
def lr_bet (N : Nat) (q q' : lr_R) : Prop := lr_sum (lr_s q) N < lr_sum (lr_s q') N ∨ (lr_sum (lr_s q) N = lr_sum (lr_s q') N ∧ lr_n q ≤ lr_n q')
def lr_bsy (N : Nat) (L : List lr_R) (tk : Nat → Int32) (i : Nat) (x y : Int32) : Prop :=
  (x = -1 ∧ ∀ r q, r < i → L[r]? = some q → ¬ tk r = 0) ∨
  (∃ b q, b < i ∧ L[b]? = some q ∧ tk b = 0 ∧ x = nI b ∧ y = nI (lr_sum (lr_s q) N) ∧ ∀ r q', r < i → L[r]? = some q' → tk r = 0 → lr_bet N q q')
theorem lr_bsy_skip {N i : Nat} {L : List lr_R} {tk : Nat → Int32} {x y : Int32} (h : lr_bsy N L tk i x y) (hi : ¬ tk i = 0) : lr_bsy N L tk (i + 1) x y := by
  rcases h with ⟨h1, h2⟩ | ⟨b, q, h1, h2, h3, h4, h5, h6⟩
  · refine Or.inl ⟨h1, ?_⟩
    intro r q hr hq
    by_cases e : r = i
    · subst e; exact hi
    · exact h2 r q (by omega) hq
  · refine Or.inr ⟨b, q, by omega, h2, h3, h4, h5, ?_⟩
    intro r q' hr hq hz
    by_cases e : r = i
    · subst e; exact absurd hz hi
    · exact h6 r q' (by omega) hq hz
theorem lr_bsy_new {N i : Nat} {L : List lr_R} {tk : Nat → Int32} {x y : Int32} {qi : lr_R} (h : lr_bsy N L tk i x y) (h1 : L[i]? = some qi) (h2 : tk i = 0) (h3 : ∀ b q, x = nI b → b < i → L[b]? = some q → y = nI (lr_sum (lr_s q) N) → lr_sum (lr_s qi) N < lr_sum (lr_s q) N ∨ (lr_sum (lr_s qi) N = lr_sum (lr_s q) N ∧ lr_n qi < lr_n q)) : lr_bsy N L tk (i + 1) (nI i) (nI (lr_sum (lr_s qi) N)) := by
  refine Or.inr ⟨i, qi, by omega, h1, h2, rfl, rfl, ?_⟩
  intro r q' hr hq hz
  by_cases e : r = i
  · subst e
    rw [h1] at hq
    cases hq
    exact Or.inr ⟨rfl, Nat.le_refl _⟩
  · rcases h with ⟨_, g2⟩ | ⟨b, q, g1, g2, g3, g4, g5, g6⟩
    · exact absurd hz (g2 r q' (by omega) hq)
    · have g7 := h3 b q g4 g1 g2 g5
      have g8 := g6 r q' (by omega) hq hz
      unfold lr_bet at g8 ⊢
      omega
theorem lr_bsy_keep {N i b : Nat} {L : List lr_R} {tk : Nat → Int32} {q qi : lr_R} (h1 : b < i) (h2 : L[b]? = some q) (h3 : tk b = 0) (h6 : ∀ r q', r < i → L[r]? = some q' → tk r = 0 → lr_bet N q q') (hi : L[i]? = some qi) (h : lr_bet N q qi) : lr_bsy N L tk (i + 1) (nI b) (nI (lr_sum (lr_s q) N)) := by
  refine Or.inr ⟨b, q, by omega, h2, h3, rfl, rfl, ?_⟩
  intro r q' hr hq hz
  by_cases e : r = i
  · subst e
    rw [hi] at hq
    cases hq
    exact h
  · exact h6 r q' (by omega) hq hz
section
variable {N P B R : Nat} {f_episodeCount f_queueLen f_recCount : Int32} {a_copies a_opened a_clocks a_holders a_queueNode a_queueLock a_recNode a_recNum a_recStamp a_recNotice a_recDiff a_v a_taken a_twin a_queued a_fetchCount a_mode a_lockClocks : Nat → Int32}
variable {k : Nat} {C LC : Nat → Nat → Nat} {D : Nat → Nat} {L : List lr_R} {Q : Nat → Nat → List lr_R} {WQ : List (Nat × Nat)}
theorem yy_learn241 {post : SY → Prop} {J : Int32 → (Nat → Int32) → (Nat → Int32) → (Nat → Int32) → (Nat → Int32) → (Nat → Int32) → (Nat → Int32) → (Nat → Int32) → (Nat → Int32) → (Nat → Int32) → (Nat → Int32) → (Nat → Int32) → (Nat → Int32) → (Nat → Int32) → (Nat → Int32) → (Nat → Int32) → (Nat → Int32) → (Nat → Int32) → (Nat → Int32) → Prop} {n r rd : Nat} {o : Nat → Int32} (hn : n < 4) (hr : r < 32) (hP : P ≤ 4) (ho : ∀ p, p < P → a_recNotice (r * 4 + p) = o p) (K : J (nI (rd + 1)) a_copies a_twin a_opened (lr_qp P n o a_queued) a_clocks a_fetchCount a_mode a_holders a_lockClocks a_queueNode a_queueLock a_recNode a_recNum a_recStamp a_recNotice a_recDiff a_v a_taken) :
    ∃ n241 : Nat, wY_learn_241 post J (nI n) (nI rd) (nI r) (nI N) (nI P) (nI B) (nI R) f_queueLen f_episodeCount f_recCount n241 0 a_copies a_twin a_opened a_queued a_clocks a_fetchCount a_mode a_holders a_lockClocks a_queueNode a_queueLock a_recNode a_recNum a_recStamp a_recNotice a_recDiff a_v a_taken := by
  refine loop_0 (fun f p s => wY_learn_241 post J (nI n) (nI rd) (nI r) (nI N) (nI P) (nI B) (nI R) f_queueLen f_episodeCount f_recCount f (nI p) a_copies a_twin a_opened s a_clocks a_fetchCount a_mode a_holders a_lockClocks a_queueNode a_queueLock a_recNode a_recNum a_recStamp a_recNotice a_recDiff a_v a_taken) (fun p s => s = lr_qp p n o a_queued) P a_queued lr_qp_0 ?_ ?_
  · intro f s es
    subst es
    exact br_t (nI_le (Nat.le_refl _) (by omega)) (nm_r (nI_1 rd) K)
  · intro f p s hp es ih
    subst es
    refine br_f (nI_ge hp (by omega)) ⟨lr_v4 (by omega) (by omega), ?_⟩
    have h1 : a_recNotice (nI r * 4 + nI p).toNatClampNeg = o p := by rw [lr_c4 (by omega), ho p hp]
    by_cases z : o p = 0
    · exact br_t (by rw [h1]; exact z) (nm_r (nI_1 p) (ih _ (lr_qp_z (by omega) z)))
    · refine br_f (by rw [h1]; exact z) ⟨lr_v4 (by omega) (by omega), lr_v4 (by omega) (by omega), nm_e (nm_r (nI_1 p) (ih _ ?_))⟩
      rw [lr_c4 (by omega), lr_qp_s (by omega) z]
theorem yy_learn179 {post : SY → Prop} {J : Int32 → (Nat → Int32) → (Nat → Int32) → (Nat → Int32) → (Nat → Int32) → (Nat → Int32) → (Nat → Int32) → (Nat → Int32) → (Nat → Int32) → (Nat → Int32) → (Nat → Int32) → (Nat → Int32) → (Nat → Int32) → (Nat → Int32) → (Nat → Int32) → (Nat → Int32) → (Nat → Int32) → (Nat → Int32) → (Nat → Int32) → Prop} {n r rd : Nat} {o d : Nat → Int32} (hn : n < 4) (hr : r < 32) (hP : P ≤ 4) (hPB : P * B ≤ 32) (ho : ∀ p, p < P → a_recNotice (r * 4 + p) = o p) (hd : ∀ a, a < P * B → a_recDiff (r * 32 + a) = d a)
    (K : J (nI (rd + 1)) (lr_lc (P * B) n d a_copies) a_twin a_opened (lr_qp P n o a_queued) a_clocks a_fetchCount a_mode a_holders a_lockClocks a_queueNode a_queueLock a_recNode a_recNum a_recStamp a_recNotice a_recDiff a_v a_taken) :
    ∃ n179 : Nat, wY_learn_179 post J (nI n) (nI rd) (nI r) (nI N) (nI P) (nI B) (nI R) f_queueLen f_episodeCount f_recCount n179 0 a_copies a_twin a_opened a_queued a_clocks a_fetchCount a_mode a_holders a_lockClocks a_queueNode a_queueLock a_recNode a_recNum a_recStamp a_recNotice a_recDiff a_v a_taken := by
  refine loop_0 (fun f a s => wY_learn_179 post J (nI n) (nI rd) (nI r) (nI N) (nI P) (nI B) (nI R) f_queueLen f_episodeCount f_recCount f (nI a) s a_twin a_opened a_queued a_clocks a_fetchCount a_mode a_holders a_lockClocks a_queueNode a_queueLock a_recNode a_recNum a_recStamp a_recNotice a_recDiff a_v a_taken) (fun a s => s = lr_lc a n d a_copies) (P * B) a_copies lr_lc_0 ?_ ?_
  · intro f s es
    subst es
    exact br_t (by rw [pk_mul]; exact nI_le (Nat.le_refl _) (by omega)) (yy_learn241 hn hr hP ho K)
  · intro f a s ha es ih
    subst es
    refine br_f (by rw [pk_mul]; exact nI_ge ha (by omega)) ⟨lr_v32 (by omega) (by omega), ?_⟩
    have h1 : a_recDiff (nI r * 32 + nI a).toNatClampNeg = d a := by rw [lr_c32 (by omega), hd a ha]
    by_cases z : d a < 0
    · exact br_t (by rw [h1]; exact z) (nm_r (nI_1 a) (ih _ (lr_lc_z z)))
    · refine br_f (by rw [h1]; exact z) ⟨lr_v32 (by omega) (by omega), lr_v32 (by omega) (by omega), nm_e (nm_r (nI_1 a) (ih _ ?_))⟩
      rw [h1, lr_c32 (by omega), lr_lc_s (by omega) z]
theorem yy_srch {post : SY → Prop} {J : Int32 → (Nat → Int32) → (Nat → Int32) → (Nat → Int32) → (Nat → Int32) → (Nat → Int32) → (Nat → Int32) → (Nat → Int32) → (Nat → Int32) → (Nat → Int32) → (Nat → Int32) → (Nat → Int32) → (Nat → Int32) → (Nat → Int32) → (Nat → Int32) → (Nat → Int32) → (Nat → Int32) → (Nat → Int32) → (Nat → Int32) → Prop} {n rd : Nat} (hN : N ≤ 4) (hL : L.length ≤ 32) (hr : f_recCount = nI L.length) (hnd : ∀ i q, L[i]? = some q → a_recNode i = nI (lr_n q) ∧ lr_n q < 4) (hst : ∀ i q, L[i]? = some q → (∀ j, j < N → a_recStamp (i * 4 + j) = nI (lr_s q j)) ∧ lr_sum (lr_s q) N < 1000000)
    (H0 : (∀ r q, L[r]? = some q → ¬ a_taken r = 0) → J (nI (rd + 1)) a_copies a_twin a_opened a_queued a_clocks a_fetchCount a_mode a_holders a_lockClocks a_queueNode a_queueLock a_recNode a_recNum a_recStamp a_recNotice a_recDiff a_v a_taken)
    (H1 : ∀ r q, L[r]? = some q → a_taken r = 0 → (∀ r' q', L[r']? = some q' → a_taken r' = 0 → lr_bet N q q') → ∃ n179 : Nat, wY_learn_179 post J (nI n) (nI rd) (nI r) (nI N) (nI P) (nI B) (nI R) f_queueLen f_episodeCount f_recCount n179 0 a_copies a_twin a_opened a_queued a_clocks a_fetchCount a_mode a_holders a_lockClocks a_queueNode a_queueLock a_recNode a_recNum a_recStamp a_recNotice a_recDiff a_v (upd a_taken r 1)) :
    ∃ n91 : Nat, wY_learn_91 post J (nI n) (nI rd) (nI N) (nI P) (nI B) (nI R) f_queueLen f_episodeCount f_recCount a_copies a_twin a_opened a_queued a_clocks a_fetchCount a_mode a_holders a_lockClocks a_queueNode a_queueLock a_recNode a_recNum a_recStamp a_recNotice a_recDiff a_v a_taken n91 (-1) 0 0 := by
  subst hr
  have key : ∀ d i x y, i + d = L.length → lr_bsy N L a_taken i x y → wY_learn_91 post J (nI n) (nI rd) (nI N) (nI P) (nI B) (nI R) f_queueLen f_episodeCount (nI L.length) a_copies a_twin a_opened a_queued a_clocks a_fetchCount a_mode a_holders a_lockClocks a_queueNode a_queueLock a_recNode a_recNum a_recStamp a_recNotice a_recDiff a_v a_taken (d + 1) x y (nI i) := by
    intro d
    induction d with
    | zero =>
      intro i x y hi hb
      refine br_t (nI_le (by omega) (by omega)) ?_
      rcases hb with ⟨h1, h2⟩ | ⟨b, q, h1, h2, h3, h4, h5, h6⟩
      · refine br_t (by rw [h1]; exact lr_neg1) (nm_r (nI_1 rd) (H0 ?_))
        intro r q hq
        exact h2 r q (by have := lr_at_lt hq; omega) hq
      · subst h4
        refine br_f (nI_pos (by omega)) ⟨lr_v1 (by omega) (by omega), nm_r (e' := upd a_taken b 1) (by rw [lr_c1 (by omega), lr_nb1]) (H1 b q h2 h3 ?_)⟩
        intro r' q' hq' hz
        exact h6 r' q' (by have := lr_at_lt hq'; omega) hq' hz
    | succ d ih =>
      intro i x y hi hb
      have hg : L[i]? = some L[i] := List.getElem?_eq_getElem (by omega)
      obtain ⟨s1, s2⟩ := hst i _ hg
      obtain ⟨n1, n2⟩ := hnd i _ hg
      have hci : (nI i).toNatClampNeg = i := lr_c1 (by omega)
      refine br_f (nI_ge (by omega) (by omega)) (yy_stampSum (s := lr_s L[i]) (by omega) hN s1 ⟨lr_v1 (by omega) (by omega), ?_⟩)
      by_cases ht : a_taken i = 0
      · refine br_t (by rw [hci]; exact ht) ?_
        have hb' := hb
        rcases hb with ⟨h1, h2⟩ | ⟨b, q, h1, h2, h3, h4, h5, h6⟩
        · refine br_t (by rw [h1]; exact lr_neg1) (nm_r (nI_1 i) (ih (i + 1) _ _ (by omega) (lr_bsy_new hb' hg ht ?_)))
          intro b q hb hbm _ _
          rw [h1] at hb
          exact absurd lr_neg1 (by rw [hb]; exact nI_pos (by omega))
        · subst h4 h5
          refine br_f (nI_pos (by omega)) ?_
          obtain ⟨_, y2⟩ := hst b q h2
          obtain ⟨m1, m2⟩ := hnd b q h2
          by_cases hq : lr_sum (lr_s L[i]) N < lr_sum (lr_s q) N
          · refine br_t (nI_lt hq (by omega)) (nm_r (nI_1 i) (ih (i + 1) _ _ (by omega) (lr_bsy_new hb' hg ht ?_)))
            intro b' q' hb' hbm hq' _
            have : b = b' := (nI_eq (by omega) (by omega)).mp hb'
            subst this
            rw [h2] at hq'
            cases hq'
            exact Or.inl hq
          · refine br_f (nI_nlt (by omega) (by omega)) ?_
            by_cases hq2 : lr_sum (lr_s L[i]) N = lr_sum (lr_s q) N
            · have hcb : (nI b).toNatClampNeg = b := lr_c1 (by omega)
              refine br_t (by rw [hq2]) ⟨lr_v1 (by omega) (by omega), lr_v1 (by omega) (by omega), ?_⟩
              have hcmp : a_recNode (nI b).toNatClampNeg ≤ a_recNode (nI i).toNatClampNeg ↔ lr_n q ≤ lr_n L[i] := by rw [hcb, hci]; exact lr_Ile m1 n1 (by omega) (by omega)
              by_cases hq3 : lr_n q ≤ lr_n L[i]
              · exact br_t (hcmp.mpr hq3) (nm_r (nI_1 i) (ih (i + 1) _ _ (by omega) (lr_bsy_keep h1 h2 h3 h6 hg (Or.inr ⟨hq2.symm, hq3⟩))))
              · refine br_f (fun z => hq3 (hcmp.mp z)) (nm_r (nI_1 i) (ih (i + 1) _ _ (by omega) (lr_bsy_new hb' hg ht ?_)))
                intro b' q' hb' hbm hq' _
                have : b = b' := (nI_eq (by omega) (by omega)).mp hb'
                subst this
                rw [h2] at hq'
                cases hq'
                exact Or.inr ⟨hq2, by omega⟩
            · exact br_f (fun z => hq2 ((nI_eq (by omega) (by omega)).mp z)) (nm_r (nI_1 i) (ih (i + 1) _ _ (by omega) (lr_bsy_keep h1 h2 h3 h6 hg (Or.inl (by omega)))))
      · exact br_f (by rw [hci]; exact ht) (nm_r (nI_1 i) (ih (i + 1) x y (by omega) (lr_bsy_skip hb ht)))
  exact ⟨_, key L.length 0 (-1) 0 (by omega) (Or.inl ⟨rfl, fun r q h => by omega⟩)⟩
end
end
section
/-! Y: learning, whole -/
section
variable {N P B R : Nat} {f_episodeCount f_queueLen f_recCount : Int32} {a_copies a_opened a_clocks a_holders a_queueNode a_queueLock a_recNode a_recNum a_recStamp a_recNotice a_recDiff a_v a_taken a_twin a_queued a_fetchCount a_mode a_lockClocks : Nat → Int32}
variable {k : Nat} {C LC : Nat → Nat → Nat} {D : Nat → Nat} {L : List lr_R} {Q : Nat → Nat → List lr_R} {WQ : List (Nat × Nat)}
theorem yy_lrnR {post : SY → Prop} {n : Nat} {T : Nat → Nat} (Z : lr_Sz N P B R) (hn : n < N) (hL : L.length ≤ 32) (Y : lr_YR N P B L f_recCount a_recNode a_recNum a_recStamp a_recNotice a_recDiff) (l1 : lr_L1 N C D L) (l2 : lr_L2 N C L) (hsum : ∀ q, q ∈ L → lr_sum (lr_s q) N < 1000000) :
    ∀ (m rd : Nat), rd + m = L.length → ∀ (S : List lr_R) (cur : Nat → Nat) (cps pd tk : Nat → Int32), lr_os N L n T S cur → S.length ≤ m → (∀ r q, L[r]? = some q → (tk r = 0 ↔ lr_rem n T cur q)) →
    (∀ tk' : Nat → Int32, ∃ n293 : Nat, wY_learn_293 post (nI n) (nI N) (nI P) (nI B) (nI R) f_queueLen f_episodeCount f_recCount n293 0 (lr_lcL (P * B) n cps S) a_twin a_opened (lr_qpL P n pd S) a_clocks a_fetchCount a_mode a_holders a_lockClocks a_queueNode a_queueLock a_recNode a_recNum a_recStamp a_recNotice a_recDiff a_v tk') →
    wY_learn_75 post (nI n) (nI N) (nI P) (nI B) (nI R) f_queueLen f_episodeCount f_recCount (m + 1) (nI rd) cps a_twin a_opened pd a_clocks a_fetchCount a_mode a_holders a_lockClocks a_queueNode a_queueLock a_recNode a_recNum a_recStamp a_recNotice a_recDiff a_v tk := by
  have hPB := lr_PB Z
  obtain ⟨z1, z2, z3, z4, z5, z6, z7, z8⟩ := Z
  obtain ⟨y0, yr⟩ := Y
  subst y0
  intro m
  induction m with
  | zero =>
    intro rd hrd S cur cps pd tk hos hS htk H
    have e : S = [] := List.length_eq_zero_iff.mp (by omega)
    subst e
    exact br_t (nI_le (by omega) (by omega)) (H tk)
  | succ m ih =>
    intro rd hrd S cur cps pd tk hos hS htk H
    refine br_f (nI_ge (by omega) (by omega)) (yy_srch (L := L) z2 hL rfl (fun i q hi => ⟨(yr i q hi).1.1, by have := (l1.1 q (lr_at_mem hi)).1; omega⟩) (fun i q hi => ⟨(yr i q hi).2.1, hsum q (lr_at_mem hi)⟩) ?_ ?_)
    · intro hno
      refine ih (rd + 1) (by omega) S cur cps pd tk hos ?_ htk H
      cases S with
      | nil => exact Nat.zero_le _
      | cons q S =>
        obtain ⟨⟨h1, h2, h3⟩, _⟩ := hos
        obtain ⟨i, hi⟩ := lr_mem_at h1
        exact absurd ((htk i q hi).mpr h2) (hno i q hi)
    · intro r q hq hz hmin
      have hrq := (htk r q hq).mp hz
      have hrl := lr_at_lt hq
      cases S with
      | nil => exact absurd hrq (hos q (lr_at_mem hq))
      | cons q0 S =>
        obtain ⟨⟨h1, h2, h3⟩, h4, h5⟩ := hos
        have eq0 : q0 = q := by
          obtain ⟨i, hi⟩ := lr_mem_at h1
          have g1 := hmin i q0 hi ((htk i q0 hi).mpr h2)
          have g2 := h4 q (lr_at_mem hq) hrq
          unfold lr_bet at g1
          have e1 : lr_n q0 = lr_n q := by omega
          have e2 : lr_k q0 = lr_k q := by
            rcases Nat.lt_trichotomy (lr_k q0) (lr_k q) with z | z | z
            · have := l2.2 q0 q h1 (lr_at_mem hq) e1 z; omega
            · exact z
            · have := l2.2 q q0 (lr_at_mem hq) h1 e1.symm z; omega
          exact lr_inj l1.2.2 h1 (lr_at_mem hq) (by show (lr_n q0, lr_k q0) = (lr_n q, lr_k q); rw [e1, e2])
        subst eq0
        obtain ⟨⟨_, _⟩, y1, y2, y3⟩ := yr r q0 hq
        refine yy_learn179 (by omega) (by omega) z4 hPB y2 y3 ?_
        refine ih (rd + 1) (by omega) S (lr_up1 cur (lr_n q0)) _ _ _ h5 (by rw [List.length_cons] at hS; omega) ?_ H
        intro r' q' hq'
        rw [lr_rem_up h3]
        by_cases e : r' = r
        · subst e
          rw [hq] at hq'
          cases hq'
          rw [pk_us]
          constructor
          · intro z; exact absurd z (by decide)
          · intro z; exact absurd ⟨rfl, rfl⟩ z.2
        · rw [pk_un e, htk r' q' hq']
          constructor
          · intro z
            refine ⟨z, fun y => ?_⟩
            have e2 : q' = q0 := lr_inj l1.2.2 (lr_at_mem hq') (lr_at_mem hq) (by show (lr_n q', lr_k q') = (lr_n q0, lr_k q0); rw [y.1, y.2])
            subst e2
            have hnd : L.Nodup := by
              have h := l1.2.2
              rw [List.nodup_iff_pairwise_ne, List.pairwise_map] at h
              rw [List.nodup_iff_pairwise_ne]
              exact h.imp (fun hne e => hne (by rw [e]))
            exact e ((List.getElem?_inj (lr_at_lt hq') hnd).mp (hq'.trans hq.symm))
          · intro z; exact z.1
theorem yy_learn293 {post : SY → Prop} {n : Nat} {T : Nat → Nat} (hN : N ≤ 4) (hn : n < N) (hc : ∀ m, m < N → a_clocks (n * 4 + m) = nI (C n m) ∧ C n m < 90000) (hT : ∀ m, m < N → a_v m = nI (T m) ∧ T m < 90000)
    (K : post (nI N, nI P, nI B, nI R, f_queueLen, f_episodeCount, f_recCount, a_copies, a_twin, a_opened, a_queued, lr_ck n N (C n) T a_clocks, a_fetchCount, a_mode, a_holders, a_lockClocks, a_queueNode, a_queueLock, a_recNode, a_recNum, a_recStamp, a_recNotice, a_recDiff, a_v, a_taken)) : ∃ n293 : Nat, wY_learn_293 post (nI n) (nI N) (nI P) (nI B) (nI R) f_queueLen f_episodeCount f_recCount n293 0 a_copies a_twin a_opened a_queued a_clocks a_fetchCount a_mode a_holders a_lockClocks a_queueNode a_queueLock a_recNode a_recNum a_recStamp a_recNotice a_recDiff a_v a_taken := by
  refine loop_0 (fun f m s => wY_learn_293 post (nI n) (nI N) (nI P) (nI B) (nI R) f_queueLen f_episodeCount f_recCount f (nI m) a_copies a_twin a_opened a_queued s a_fetchCount a_mode a_holders a_lockClocks a_queueNode a_queueLock a_recNode a_recNum a_recStamp a_recNotice a_recDiff a_v a_taken) (fun m s => s = lr_ck n m (C n) T a_clocks) N a_clocks lr_ck_0 ?_ ?_
  · intro f s es
    subst es
    exact br_t (nI_le (Nat.le_refl _) (by omega)) K
  · intro f m s hm es ih
    subst es
    obtain ⟨c1, c2⟩ := hc m hm
    obtain ⟨t1, t2⟩ := hT m hm
    have h1 : (nI m).toNatClampNeg = m := lr_c1 (by omega)
    have h2 : (nI n * 4 + nI m).toNatClampNeg = n * 4 + m := lr_c4 (by omega)
    have h3 : lr_ck n m (C n) T a_clocks (nI n * 4 + nI m).toNatClampNeg = nI (C n m) := by rw [h2, lr_ck_hi (by omega) (Nat.le_refl _), c1]
    refine br_f (nI_ge hm (by omega)) ⟨lr_v1 (by omega) (by omega), lr_v4 (by omega) (by omega), ?_⟩
    by_cases z : T m ≤ C n m
    · refine br_t (by rw [h1, t1, h3]; exact nI_le z (by omega)) (nm_r (nI_1 m) (ih _ ?_))
      exact lr_ck_z (by omega) c1 z
    · refine br_f (by rw [h1, t1, h3]; exact nI_ge (by omega) (by omega)) ⟨lr_v1 (by omega) (by omega), lr_v4 (by omega) (by omega), nm_e (nm_r (nI_1 m) (ih _ ?_))⟩
      rw [h1, h2, t1, ← lr_ck_s (by omega), lr_mx_r (by omega)]
theorem yy_learn {post : SY → Prop} {n : Nat} {T : Nat → Nat} {S : List lr_R} (Z : lr_Sz N P B R) (hn : n < N) (hc : ∀ m, m < N → a_clocks (n * 4 + m) = nI (C n m) ∧ C n m < 90000 ∧ D m ≤ C n m) (hT : ∀ m, m < N → a_v m = nI (T m) ∧ T m < 90000 ∧ T m ≤ C m m) (l1 : lr_L1 N C D L) (l2 : lr_L2 N C L) (hk : ∀ q, q ∈ L → lr_k q < 90000)
    (Y : lr_YR N P B L f_recCount a_recNode a_recNum a_recStamp a_recNotice a_recDiff) (hL : L.length ≤ 32) (hsum : ∀ q, q ∈ L → lr_sum (lr_s q) N < 1000000) (hos : lr_os N L n T S (fun m => C n m + 1))
    (K : ∀ tk' : Nat → Int32, post (nI N, nI P, nI B, nI R, f_queueLen, f_episodeCount, f_recCount, lr_lcL (P * B) n a_copies S, a_twin, a_opened, lr_qpL P n a_queued S, lr_ck n N (C n) T a_clocks, a_fetchCount, a_mode, a_holders, a_lockClocks, a_queueNode, a_queueLock, a_recNode, a_recNum, a_recStamp, a_recNotice, a_recDiff, a_v, tk')) :
    wpY_learn post (nI N, nI P, nI B, nI R, f_queueLen, f_episodeCount, f_recCount, a_copies, a_twin, a_opened, a_queued, a_clocks, a_fetchCount, a_mode, a_holders, a_lockClocks, a_queueNode, a_queueLock, a_recNode, a_recNum, a_recStamp, a_recNotice, a_recDiff, a_v, a_taken) (nI n) := by
  have Z' := Z
  have Y' := Y
  obtain ⟨z1, z2, z3, z4, z5, z6, z7, z8⟩ := Z
  obtain ⟨y0, yr⟩ := Y
  subst y0
  have hmu : lr_mu N n T (fun m => C n m + 1) ≤ L.length := by
    rw [lr_len l1]
    unfold lr_mu
    refine lr_sum_le ?_
    intro m hm
    by_cases e : m = n
    · rw [if_pos e]; omega
    · rw [if_neg e]
      have h1 := (hT m hm).2.2
      have h2 := (hc m hm).2.2
      show T m + 1 - (C n m + 1) ≤ C m m - D m
      omega
  have hSl := lr_os_len (fun q hq => (l1.1 q hq).1) hos
  refine loop_0 (fun f i s => wY_learn_2 post (nI n) (nI N) (nI P) (nI B) (nI R) f_queueLen f_episodeCount (nI L.length) f (nI i) a_copies a_twin a_opened a_queued a_clocks a_fetchCount a_mode a_holders a_lockClocks a_queueNode a_queueLock a_recNode a_recNum a_recStamp a_recNotice a_recDiff a_v s) (fun i s => ∀ r q, r < i → L[r]? = some q → (s r = 0 ↔ lr_rem n T (fun m => C n m + 1) q)) L.length a_taken (fun r q h => by omega) ?_ ?_
  · intro f s es
    refine br_t (nI_le (Nat.le_refl _) (by omega)) ⟨_, yy_lrnR Z' hn hL Y' l1 l2 hsum L.length 0 (by omega) S _ _ _ _ hos (by omega) (fun r q hq => es r q (lr_at_lt hq) hq) ?_⟩
    intro tk'
    exact yy_learn293 z2 hn (fun m hm => ⟨(hc m hm).1, (hc m hm).2.1⟩) (fun m hm => ⟨(hT m hm).1, (hT m hm).2.1⟩) (K tk')
  · intro f i s hi es ih
    have hg : L[i]? = some L[i] := List.getElem?_eq_getElem hi
    obtain ⟨⟨e1, e2⟩, _⟩ := yr i _ hg
    have hq1 := l1.1 _ (lr_at_mem hg)
    have hk1 := hk _ (lr_at_mem hg)
    obtain ⟨c1, c2, c3⟩ := hc (lr_n L[i]) hq1.1
    obtain ⟨t1, t2, t3⟩ := hT (lr_n L[i]) hq1.1
    have hci : (nI i).toNatClampNeg = i := lr_c1 (by omega)
    have vi : vp_in (nI i) 32 := lr_v1 (by omega) (by omega)
    have fin : ∀ x : Int32, (x = 0 ↔ lr_rem n T (fun m => C n m + 1) L[i]) → ∀ s' : Nat → Int32, s' = upd s i x → ∀ y : Int32, y = nI i + 1 → wY_learn_2 post (nI n) (nI N) (nI P) (nI B) (nI R) f_queueLen f_episodeCount (nI L.length) f y a_copies a_twin a_opened a_queued a_clocks a_fetchCount a_mode a_holders a_lockClocks a_queueNode a_queueLock a_recNode a_recNum a_recStamp a_recNotice a_recDiff a_v s' := by
      intro x hx s' hs' y hy
      subst hs' hy
      rw [nI_1]
      refine ih _ ?_
      intro r q hr hq
      by_cases e : r = i
      · subst e
        rw [hg] at hq
        cases hq
        rw [pk_us]; exact hx
      · rw [pk_un e]; exact es r q (by omega) hq
    refine br_f (nI_ge hi (by omega)) ⟨vi, nm_r (e' := nI (lr_n L[i])) (by rw [hci, e1]) ?_⟩
    by_cases h1 : lr_n L[i] = n
    · refine br_t (by rw [h1]) ⟨vi, ?_⟩
      rw [hci, lr_nb1]
      exact fin 1 ⟨fun z => absurd z (by decide), fun z => absurd h1 z.1⟩
    · refine br_f (fun z => h1 ((nI_eq (by omega) (by omega)).mp z)) ⟨vi, lr_v4 (by omega) (by omega), ?_⟩
      by_cases h2 : lr_k L[i] ≤ C n (lr_n L[i])
      · refine br_t (by rw [hci, e2, lr_c4 (by omega), c1]; exact nI_le h2 (by omega)) ⟨vi, ?_⟩
        rw [hci, lr_nb1]
        exact fin 1 ⟨fun z => absurd z (by decide), fun z => by have := z.2.1; have h3 : C n (lr_n L[i]) + 1 ≤ lr_k L[i] := this; omega⟩
      · refine br_f (by rw [hci, e2, lr_c4 (by omega), c1]; exact nI_ge (by omega) (by omega)) ⟨vi, lr_v1 (by omega) (by omega), ?_⟩
        by_cases h3 : lr_k L[i] ≤ T (lr_n L[i])
        · refine br_t (by rw [hci, e2, lr_c1 (by omega), t1]; exact nI_le h3 (by omega)) ⟨vi, ?_⟩
          rw [hci, lr_nb0]
          exact fin 0 ⟨fun _ => ⟨h1, by show C n (lr_n L[i]) + 1 ≤ lr_k L[i]; omega, h3⟩, fun _ => rfl⟩
        · refine br_f (by rw [hci, e2, lr_c1 (by omega), t1]; exact nI_ge (by omega) (by omega)) ⟨vi, ?_⟩
          rw [hci, lr_nb1]
          exact fin 1 ⟨fun z => absurd z (by decide), fun z => absurd z.2.2 h3⟩
end
end
section
/-! Y: the end of an interval -/
def lr_dY (B n : Nat) (o cps tw : Nat → Int32) : Nat → Int32 := fun a => if o (n * 4 + a / B) = 0 then -1 else if cps (n * 32 + a) = tw (n * 32 + a) then -1 else cps (n * 32 + a)
def lr_df (r : Nat) (d : Nat → Int32) (m : Nat) (f : Nat → Int32) : Nat → Int32 := fun i => if i / 32 = r ∧ i % 32 < m then d (i % 32) else f i
theorem lr_df_0 {r : Nat} {d f : Nat → Int32} : f = lr_df r d 0 f := by
  funext i
  show _ = (if i / 32 = r ∧ i % 32 < 0 then d (i % 32) else f i)
  rw [if_neg (fun h => by omega)]
theorem lr_df_at {r m j : Nat} {d f : Nat → Int32} (hm : m ≤ 32) (hj : j < m) : lr_df r d m f (r * 32 + j) = d j := by
  show (if (r * 32 + j) / 32 = r ∧ (r * 32 + j) % 32 < m then d ((r * 32 + j) % 32) else _) = _
  rw [if_pos (by omega), show (r * 32 + j) % 32 = j by omega]
theorem lr_df_ne {r m i : Nat} {d f : Nat → Int32} (h : i / 32 ≠ r) : lr_df r d m f i = f i := by
  show (if _ then _ else _) = _
  rw [if_neg (fun k => h k.1)]
theorem lr_df_s {r m : Nat} {d f g : Nat → Int32} (hm : m < 32) (h : ∀ i, i ≠ r * 32 + m → g i = lr_df r d m f i) (h1 : g (r * 32 + m) = d m) : g = lr_df r d (m + 1) f := by
  funext i
  by_cases e : i = r * 32 + m
  · subst e
    rw [h1, lr_df_at (by omega) (by omega)]
  · rw [h i e]
    show (if i / 32 = r ∧ i % 32 < m then d (i % 32) else f i) = (if i / 32 = r ∧ i % 32 < m + 1 then d (i % 32) else f i)
    by_cases h2 : i / 32 = r ∧ i % 32 < m
    · rw [if_pos h2, if_pos (by omega)]
    · rw [if_neg h2, if_neg (by omega)]
section
variable {N P B R : Nat} {f_episodeCount f_queueLen f_recCount : Int32} {a_copies a_opened a_clocks a_holders a_queueNode a_queueLock a_recNode a_recNum a_recStamp a_recNotice a_recDiff a_v a_taken a_twin a_queued a_fetchCount a_mode a_lockClocks : Nat → Int32}
variable {k : Nat} {C LC : Nat → Nat → Nat} {D : Nat → Nat} {L : List lr_R} {Q : Nat → Nat → List lr_R} {WQ : List (Nat × Nat)}
theorem yy_end237 {post : SY → Prop} {n : Nat} (hn : n < 4) (hP : P ≤ 4) (K : post (nI N, nI P, nI B, nI R, f_queueLen, f_episodeCount, f_recCount, a_copies, a_twin, lr_cl n P a_opened, a_queued, a_clocks, a_fetchCount, a_mode, a_holders, a_lockClocks, a_queueNode, a_queueLock, a_recNode, a_recNum, a_recStamp, a_recNotice, a_recDiff, a_v, a_taken)) : ∃ n237 : Nat, wY_end_237 post (nI n) (nI N) (nI P) (nI B) (nI R) f_queueLen f_episodeCount f_recCount n237 0 a_copies a_twin a_opened a_queued a_clocks a_fetchCount a_mode a_holders a_lockClocks a_queueNode a_queueLock a_recNode a_recNum a_recStamp a_recNotice a_recDiff a_v a_taken := by
  refine loop_0 (fun f p s => wY_end_237 post (nI n) (nI N) (nI P) (nI B) (nI R) f_queueLen f_episodeCount f_recCount f (nI p) a_copies a_twin s a_queued a_clocks a_fetchCount a_mode a_holders a_lockClocks a_queueNode a_queueLock a_recNode a_recNum a_recStamp a_recNotice a_recDiff a_v a_taken) (fun p s => s = lr_cl n p a_opened) P a_opened lr_cl_0 ?_ ?_
  · intro f s es
    subst es
    exact br_t (nI_le (Nat.le_refl _) (by omega)) K
  · intro f p s hp es ih
    subst es
    refine br_f (nI_ge hp (by omega)) ⟨lr_v4 (by omega) (by omega), nm_e (nm_r (nI_1 p) (ih _ ?_))⟩
    rw [lr_c4 (by omega), lr_nb0, lr_cl_s (by omega)]
theorem yy_end135 {post : SY → Prop} {n r : Nat} (hn : n < 4) (hr : r < 32) (hP : P ≤ 4) (hB : 1 ≤ B) (hPB : P * B ≤ 32) (K : post (nI N, nI P, nI B, nI R, f_queueLen, f_episodeCount, f_recCount, a_copies, a_twin, lr_cl n P a_opened, a_queued, a_clocks, a_fetchCount, a_mode, a_holders, a_lockClocks, a_queueNode, a_queueLock, a_recNode, a_recNum, a_recStamp, a_recNotice, lr_df r (lr_dY B n a_opened a_copies a_twin) (P * B) a_recDiff, a_v, a_taken)) : ∃ n135 : Nat, wY_end_135 post (nI n) (nI r) (nI N) (nI P) (nI B) (nI R) f_queueLen f_episodeCount f_recCount n135 0 a_copies a_twin a_opened a_queued a_clocks a_fetchCount a_mode a_holders a_lockClocks a_queueNode a_queueLock a_recNode a_recNum a_recStamp a_recNotice a_recDiff a_v a_taken := by
  refine loop_0 (fun f a s => wY_end_135 post (nI n) (nI r) (nI N) (nI P) (nI B) (nI R) f_queueLen f_episodeCount f_recCount f (nI a) a_copies a_twin a_opened a_queued a_clocks a_fetchCount a_mode a_holders a_lockClocks a_queueNode a_queueLock a_recNode a_recNum a_recStamp a_recNotice s a_v a_taken) (fun a s => s = lr_df r (lr_dY B n a_opened a_copies a_twin) a a_recDiff) (P * B) a_recDiff lr_df_0 ?_ ?_
  · intro f s es
    subst es
    exact br_t (by rw [pk_mul]; exact nI_le (Nat.le_refl _) (by omega)) (yy_end237 hn hP K)
  · intro f a s ha es ih
    subst es
    obtain ⟨g1, g2, g3⟩ := lr_pgof hB ha
    have hB32 : B ≤ P * B := Nat.le_mul_of_pos_left B (Nat.lt_of_le_of_lt (Nat.zero_le _) g1)
    have h2 : (nI r * 32 + nI a).toNatClampNeg = r * 32 + a := lr_c32 (by omega)
    have h3 : (nI n * 32 + nI a).toNatClampNeg = n * 32 + a := lr_c32 (by omega)
    have h4 : (nI n * 4 + nI (a / B)).toNatClampNeg = n * 4 + a / B := lr_c4 (by omega)
    have vr : vp_in (nI r * 32 + nI a) 1024 := lr_v32 (by omega) (by omega)
    have vn : vp_in (nI n * 32 + nI a) 128 := lr_v32 (by omega) (by omega)
    have ud : ∀ x : Int32, x = lr_dY B n a_opened a_copies a_twin a → ∀ g : Nat → Int32, (∀ i, i ≠ r * 32 + a → g i = lr_df r (lr_dY B n a_opened a_copies a_twin) a a_recDiff i) → upd g (r * 32 + a) x = lr_df r (lr_dY B n a_opened a_copies a_twin) (a + 1) a_recDiff := by
      intro x hx g hg
      refine lr_df_s (by omega) ?_ ?_
      · intro i hi; rw [pk_un hi]; exact hg i hi
      · rw [pk_us, hx]
    refine br_f (by rw [pk_mul]; exact nI_ge ha (by omega)) ⟨nI_ne0 (by omega) (by omega), nm_r (pk_div (by omega) (by omega) (by omega)) ⟨vr, nm_r (e' := upd (lr_df r (lr_dY B n a_opened a_copies a_twin) a a_recDiff) (r * 32 + a) (-1)) (by rw [h2]) ⟨lr_v4 (by omega) (by omega), ?_⟩⟩⟩
    by_cases z : a_opened (n * 4 + a / B) = 0
    · refine br_t (by rw [h4]; exact z) (nm_r (nI_1 a) (ih _ (ud (-1) ?_ _ (fun i _ => rfl))))
      unfold lr_dY; rw [if_pos z]
    · refine br_f (by rw [h4]; exact z) ⟨vn, vn, ?_⟩
      by_cases y : a_copies (n * 32 + a) = a_twin (n * 32 + a)
      · refine br_t (by rw [h3]; exact y) (nm_r (nI_1 a) (ih _ (ud (-1) ?_ _ (fun i _ => rfl))))
        unfold lr_dY; rw [if_neg z, if_pos y]
      · refine br_f (by rw [h3]; exact y) ⟨vn, vr, nm_e (nm_r (nI_1 a) (ih _ ?_))⟩
        rw [h2, h3]
        refine ud _ ?_ _ (fun i hi => pk_un hi)
        unfold lr_dY; rw [if_neg z, if_neg y]
theorem yy_end99 {post : SY → Prop} {n r : Nat} (hn : n < 4) (hr : r < 32) (hP : P ≤ 4) (hB : 1 ≤ B) (hPB : P * B ≤ 32) (hop : ∀ p, p < P → a_opened (n * 4 + p) = 0 ∨ a_opened (n * 4 + p) = 1)
    (K : post (nI N, nI P, nI B, nI R, f_queueLen, f_episodeCount, f_recCount, a_copies, a_twin, lr_cl n P a_opened, a_queued, a_clocks, a_fetchCount, a_mode, a_holders, a_lockClocks, a_queueNode, a_queueLock, a_recNode, a_recNum, a_recStamp, lr_nt r n P a_opened a_recNotice, lr_df r (lr_dY B n a_opened a_copies a_twin) (P * B) a_recDiff, a_v, a_taken)) : ∃ n99 : Nat, wY_end_99 post (nI n) (nI r) (nI N) (nI P) (nI B) (nI R) f_queueLen f_episodeCount f_recCount n99 0 a_copies a_twin a_opened a_queued a_clocks a_fetchCount a_mode a_holders a_lockClocks a_queueNode a_queueLock a_recNode a_recNum a_recStamp a_recNotice a_recDiff a_v a_taken := by
  refine loop_0 (fun f p s => wY_end_99 post (nI n) (nI r) (nI N) (nI P) (nI B) (nI R) f_queueLen f_episodeCount f_recCount f (nI p) a_copies a_twin a_opened a_queued a_clocks a_fetchCount a_mode a_holders a_lockClocks a_queueNode a_queueLock a_recNode a_recNum a_recStamp s a_recDiff a_v a_taken) (fun p s => s = lr_nt r n p a_opened a_recNotice) P a_recNotice lr_nt_0 ?_ ?_
  · intro f s es
    subst es
    exact br_t (nI_le (Nat.le_refl _) (by omega)) (yy_end135 hn hr hP hB hPB K)
  · intro f p s hp es ih
    subst es
    refine br_f (nI_ge hp (by omega)) ⟨lr_v4 (by omega) (by omega), lr_v4 (by omega) (by omega), nm_e (nm_r (nI_1 p) (ih _ ?_))⟩
    rw [lr_c4 (by omega), lr_c4 (by omega), lr_nb (hop p hp), lr_nt_s (by omega)]
theorem yy_end63 {post : SY → Prop} {n r : Nat} {c : Nat → Nat} (hn : n < 4) (hr : r < 32) (hN : N ≤ 4) (hP : P ≤ 4) (hB : 1 ≤ B) (hPB : P * B ≤ 32) (hop : ∀ p, p < P → a_opened (n * 4 + p) = 0 ∨ a_opened (n * 4 + p) = 1) (hc : ∀ j, j < N → a_clocks (n * 4 + j) = nI (c j))
    (K : post (nI N, nI P, nI B, nI R, f_queueLen, f_episodeCount, f_recCount, a_copies, a_twin, lr_cl n P a_opened, a_queued, a_clocks, a_fetchCount, a_mode, a_holders, a_lockClocks, a_queueNode, a_queueLock, a_recNode, a_recNum, lr_st r c N a_recStamp, lr_nt r n P a_opened a_recNotice, lr_df r (lr_dY B n a_opened a_copies a_twin) (P * B) a_recDiff, a_v, a_taken)) : ∃ n63 : Nat, wY_end_63 post (nI n) (nI r) (nI N) (nI P) (nI B) (nI R) f_queueLen f_episodeCount f_recCount n63 0 a_copies a_twin a_opened a_queued a_clocks a_fetchCount a_mode a_holders a_lockClocks a_queueNode a_queueLock a_recNode a_recNum a_recStamp a_recNotice a_recDiff a_v a_taken := by
  refine loop_0 (fun f j s => wY_end_63 post (nI n) (nI r) (nI N) (nI P) (nI B) (nI R) f_queueLen f_episodeCount f_recCount f (nI j) a_copies a_twin a_opened a_queued a_clocks a_fetchCount a_mode a_holders a_lockClocks a_queueNode a_queueLock a_recNode a_recNum s a_recNotice a_recDiff a_v a_taken) (fun j s => s = lr_st r c j a_recStamp) N a_recStamp lr_st_0 ?_ ?_
  · intro f s es
    subst es
    exact br_t (nI_le (Nat.le_refl _) (by omega)) (yy_end99 hn hr hP hB hPB hop K)
  · intro f j s hj es ih
    subst es
    refine br_f (nI_ge hj (by omega)) ⟨lr_v4 (by omega) (by omega), lr_v4 (by omega) (by omega), nm_e (nm_r (nI_1 j) (ih _ ?_))⟩
    rw [lr_c4 (by omega), lr_c4 (by omega), hc j hj, lr_st_s (by omega)]
theorem yy_end0 {post : SY → Prop} {n : Nat} (hn : n < 4) (hP : P ≤ 4) (hon : lr_on a_opened P n = 0) (K : post (nI N, nI P, nI B, nI R, f_queueLen, f_episodeCount, f_recCount, a_copies, a_twin, a_opened, a_queued, a_clocks, a_fetchCount, a_mode, a_holders, a_lockClocks, a_queueNode, a_queueLock, a_recNode, a_recNum, a_recStamp, a_recNotice, a_recDiff, a_v, a_taken)) : wpY_end post (nI N, nI P, nI B, nI R, f_queueLen, f_episodeCount, f_recCount, a_copies, a_twin, a_opened, a_queued, a_clocks, a_fetchCount, a_mode, a_holders, a_lockClocks, a_queueNode, a_queueLock, a_recNode, a_recNum, a_recStamp, a_recNotice, a_recDiff, a_v, a_taken) (nI n) := by
  unfold wpY_end; dsimp only
  exact yy_anyOpen hn hP (fun _ => br_t rfl K) (fun h => absurd hon h)
theorem yy_end {post : SY → Prop} {n s : Nat} {c : Nat → Nat} (Z : lr_Sz N P B R) (hn : n < N) (hcl : a_clocks (n * 4 + n) = nI (C n n)) (hc : ∀ j, j < N → j ≠ n → a_clocks (n * 4 + j) = nI (c j)) (hcn : c n = C n n + 1)
    (hon : ¬ lr_on a_opened P n = 0) (hop : ∀ p, p < P → a_opened (n * 4 + p) = 0 ∨ a_opened (n * 4 + p) = 1) (Y : lr_YR N P B L f_recCount a_recNode a_recNum a_recStamp a_recNotice a_recDiff) (hL : L.length < 32)
    (H : ∀ (rc' : Int32) (rnd' rnm' rs' rno' rdf' : Nat → Int32), lr_YR N P B (L ++ [(n, C n n + 1, s, c, fun p => a_opened (n * 4 + p), lr_dY B n a_opened a_copies a_twin)]) rc' rnd' rnm' rs' rno' rdf' →
      post (nI N, nI P, nI B, nI R, f_queueLen, f_episodeCount, rc', a_copies, a_twin, lr_cl n P a_opened, a_queued, upd a_clocks (n * 4 + n) (nI (C n n + 1)), a_fetchCount, a_mode, a_holders, a_lockClocks, a_queueNode, a_queueLock, rnd', rnm', rs', rno', rdf', a_v, a_taken)) : wpY_end post (nI N, nI P, nI B, nI R, f_queueLen, f_episodeCount, f_recCount, a_copies, a_twin, a_opened, a_queued, a_clocks, a_fetchCount, a_mode, a_holders, a_lockClocks, a_queueNode, a_queueLock, a_recNode, a_recNum, a_recStamp, a_recNotice, a_recDiff, a_v, a_taken) (nI n) := by
  have hPB := lr_PB Z
  obtain ⟨z1, z2, z3, z4, z5, z6, z7, z8⟩ := Z
  obtain ⟨y0, yr⟩ := Y
  subst y0
  unfold wpY_end; dsimp only
  refine yy_anyOpen (by omega) z4 (fun h => absurd h hon) (fun _ => br_f (by decide) ?_)
  have h44 : (nI n * 4 + nI n).toNatClampNeg = n * 4 + n := lr_c4 (by omega)
  have v44 : vp_in (nI n * 4 + nI n) 16 := lr_v4 (by omega) (by omega)
  have hcr : (nI L.length).toNatClampNeg = L.length := lr_c1 (by omega)
  have vr : vp_in (nI L.length) 32 := lr_v1 hL (by omega)
  refine ⟨v44, v44, nm_r (e' := upd a_clocks (n * 4 + n) (nI (C n n + 1))) (by rw [h44, hcl, nI_1]) (nm_r (nI_1 _) ⟨vr, nm_r (e' := upd a_recNode L.length (nI n)) (by rw [hcr]) ⟨v44, vr, nm_r (e' := upd a_recNum L.length (nI (C n n + 1))) (by rw [hcr, h44, pk_us]) ?_⟩⟩)⟩
  refine yy_end63 (c := c) (by omega) hL z2 z4 z5 hPB hop ?_ (H _ _ _ _ _ _ ⟨?_, ?_⟩)
  · intro j hj
    by_cases e : j = n
    · subst e; rw [pk_us, hcn]
    · rw [pk_un (by omega)]; exact hc j hj e
  · rw [List.length_append, List.length_singleton]
  · intro i q hq
    by_cases e : i < L.length
    · rw [List.getElem?_append_left e] at hq
      obtain ⟨⟨a1, a2⟩, a3, a4, a5⟩ := yr i q hq
      have e2 : i ≠ L.length := by omega
      refine ⟨⟨by rw [pk_un e2]; exact a1, by rw [pk_un e2]; exact a2⟩, ?_, ?_, ?_⟩
      · intro j hj; rw [lr_st_ne (by omega)]; exact a3 j hj
      · intro p hp; rw [lr_nt_ne (by omega)]; exact a4 p hp
      · intro a ha; rw [lr_df_ne (by omega)]; exact a5 a ha
    · have h5 := lr_at_lt hq
      rw [List.length_append, List.length_singleton] at h5
      have e2 : i = L.length := by omega
      subst e2
      rw [List.getElem?_concat_length] at hq
      cases hq
      refine ⟨⟨pk_us, pk_us⟩, ?_, ?_, ?_⟩
      · intro j hj; exact lr_st_at (by omega) hj
      · intro p hp; exact lr_nt_at (by omega) hp
      · intro a ha; exact lr_df_at (by omega) ha
end
end
section
/-! the relation without Y's record store; how accesses and openings keep it -/
def zz_J (k : Nat) (N : Nat) (P : Nat) (B : Nat) (R : Nat) (C : Nat → Nat → Nat) (D : Nat → Nat) (LC : Nat → Nat → Nat) (L : List lr_R) (Q : Nat → Nat → List lr_R) (WQ : List (Nat × Nat)) (f_openPages : Int32) (f_openNodes : Int32) (f_freeSlotCount : Int32) (f_retained : Int32) (f_freeEntry : Int32) (f_entriesUsed : Int32) (a_copy : Nat → Int32) (a_opened : Nat → Int32) (a_openCount : Nat → Int32) (a_queue : Nat → Int32) (a_queued : Nat → Int32) (a_clocks : Nat → Int32) (a_dropped : Nat → Int32) (a_slots : Nat → Int32) (a_freeSlots : Nat → Int32) (a_stamps : Nat → Int32) (a_sums : Nat → Int32) (a_notices : Nat → Int32) (a_chain : Nat → Int32) (a_entryAddr : Nat → Int32) (a_entryValue : Nat → Int32) (a_entryNext : Nat → Int32) (a_mode : Nat → Int32) (a_line : Nat → Int32) (a_lineLength : Nat → Int32) (a_lockClocks : Nat → Int32) (f_queueLen : Int32) (a_copies : Nat → Int32) (a_queueNode : Nat → Int32) (a_queueLock : Nat → Int32) : Prop :=
  lr_Sz N P B R ∧ lr_CK k N C D LC a_clocks a_dropped a_lockClocks ∧ lr_OP N P a_opened a_openCount f_openPages f_openNodes ∧
  lr_XR N P B L f_freeSlotCount f_retained f_freeEntry f_entriesUsed a_slots a_freeSlots a_stamps a_sums a_notices a_chain a_entryAddr a_entryValue a_entryNext ∧
  (lr_L1 N C D L ∧ lr_L2 N C L ∧ lr_L3 P B L ∧ lr_L4 N P B R L a_opened) ∧
  (lr_M1 N P C L Q a_queued a_opened ∧ lr_M2 N P Q a_queue ∧ lr_M3 N P B Q a_copy a_copies) ∧
  lr_WT N WQ a_mode a_line a_lineLength a_queueNode a_queueLock f_queueLen ∧ lr_MO N P a_mode a_opened
section
variable {N P B R : Nat} {f_openPages f_openNodes f_freeSlotCount f_retained f_freeEntry f_entriesUsed f_episodeCount : Int32} {a_copy a_twin a_opened a_openCount a_queue a_queued a_fetchCount a_clocks a_dropped a_slots a_freeSlots a_stamps a_sums a_notices a_chain a_entryAddr a_entryValue a_entryNext a_mode a_holders a_line a_lineLength a_lockClocks a_target a_cursor a_floor : Nat → Int32}
variable {k : Nat} {C LC : Nat → Nat → Nat} {D : Nat → Nat} {L : List lr_R} {Q : Nat → Nat → List lr_R} {WQ : List (Nat × Nat)}
variable {f_queueLen f_recCount : Int32} {a_copies a_queueNode a_queueLock a_recNode a_recNum a_recStamp a_recNotice a_recDiff a_v a_taken : Nat → Int32}
theorem zz_IJ (h : zz_I k N P B R C D LC L Q WQ f_openPages f_openNodes f_freeSlotCount f_retained f_freeEntry f_entriesUsed a_copy a_opened a_openCount a_queue a_queued a_clocks a_dropped a_slots a_freeSlots a_stamps a_sums a_notices a_chain a_entryAddr a_entryValue a_entryNext a_mode a_line a_lineLength a_lockClocks f_queueLen f_recCount a_copies a_queueNode a_queueLock a_recNode a_recNum a_recStamp a_recNotice a_recDiff) : zz_J k N P B R C D LC L Q WQ f_openPages f_openNodes f_freeSlotCount f_retained f_freeEntry f_entriesUsed a_copy a_opened a_openCount a_queue a_queued a_clocks a_dropped a_slots a_freeSlots a_stamps a_sums a_notices a_chain a_entryAddr a_entryValue a_entryNext a_mode a_line a_lineLength a_lockClocks f_queueLen a_copies a_queueNode a_queueLock ∧ lr_YR N P B L f_recCount a_recNode a_recNum a_recStamp a_recNotice a_recDiff :=
  ⟨⟨h.1, h.2.1, h.2.2.1, h.2.2.2.1, h.2.2.2.2.2⟩, h.2.2.2.2.1⟩
theorem zz_JI (h : zz_J k N P B R C D LC L Q WQ f_openPages f_openNodes f_freeSlotCount f_retained f_freeEntry f_entriesUsed a_copy a_opened a_openCount a_queue a_queued a_clocks a_dropped a_slots a_freeSlots a_stamps a_sums a_notices a_chain a_entryAddr a_entryValue a_entryNext a_mode a_line a_lineLength a_lockClocks f_queueLen a_copies a_queueNode a_queueLock) (y : lr_YR N P B L f_recCount a_recNode a_recNum a_recStamp a_recNotice a_recDiff) : zz_I k N P B R C D LC L Q WQ f_openPages f_openNodes f_freeSlotCount f_retained f_freeEntry f_entriesUsed a_copy a_opened a_openCount a_queue a_queued a_clocks a_dropped a_slots a_freeSlots a_stamps a_sums a_notices a_chain a_entryAddr a_entryValue a_entryNext a_mode a_line a_lineLength a_lockClocks f_queueLen f_recCount a_copies a_queueNode a_queueLock a_recNode a_recNum a_recStamp a_recNotice a_recDiff :=
  ⟨h.1, h.2.1, h.2.2.1, h.2.2.2.1, y, h.2.2.2.2⟩
theorem zz_Jup {k' : Nat} (h : zz_J k N P B R C D LC L Q WQ f_openPages f_openNodes f_freeSlotCount f_retained f_freeEntry f_entriesUsed a_copy a_opened a_openCount a_queue a_queued a_clocks a_dropped a_slots a_freeSlots a_stamps a_sums a_notices a_chain a_entryAddr a_entryValue a_entryNext a_mode a_line a_lineLength a_lockClocks f_queueLen a_copies a_queueNode a_queueLock) (hk : k ≤ k') : zz_J k' N P B R C D LC L Q WQ f_openPages f_openNodes f_freeSlotCount f_retained f_freeEntry f_entriesUsed a_copy a_opened a_openCount a_queue a_queued a_clocks a_dropped a_slots a_freeSlots a_stamps a_sums a_notices a_chain a_entryAddr a_entryValue a_entryNext a_mode a_line a_lineLength a_lockClocks f_queueLen a_copies a_queueNode a_queueLock := ⟨h.1, zz_CK_up h.2.1 hk, h.2.2⟩
end
def lr_Qu (Q : Nat → Nat → List lr_R) (n p : Nat) (x : List lr_R) : Nat → Nat → List lr_R := fun n' p' => if n' = n ∧ p' = p then x else Q n' p'
theorem lr_Qu_s {Q : Nat → Nat → List lr_R} {n p : Nat} {x : List lr_R} : lr_Qu Q n p x n p = x := if_pos ⟨rfl, rfl⟩
theorem lr_Qu_n {Q : Nat → Nat → List lr_R} {n p n' p' : Nat} {x : List lr_R} (h : ¬ (n' = n ∧ p' = p)) : lr_Qu Q n p x n' p' = Q n' p' := if_neg h
theorem lr_dis {p p' B w : Nat} (hw : w < B) (h : p' ≠ p) : ¬ (p * B ≤ p' * B + w ∧ p' * B + w < p * B + B) := by
  intro z
  rcases Nat.lt_or_ge p' p with g | g
  · have := lr_pB (B := B) g; omega
  · have := lr_pB (B := B) (show p < p' by omega); omega
theorem lr_acc_in {n p w B : Nat} {l : List lr_R} {c : Nat → Int32} (hb : p * B + B ≤ 32) (hw : w < B) : lr_acc n (p * B) B l c (n * 32 + (p * B + w)) = lr_ov l (p * B + w) (c (n * 32 + (p * B + w))) := by
  have e : (n * 32 + (p * B + w)) % 32 = p * B + w := by omega
  show (if (n * 32 + (p * B + w)) / 32 = n ∧ p * B ≤ (n * 32 + (p * B + w)) % 32 ∧ (n * 32 + (p * B + w)) % 32 < p * B + B then lr_ov l ((n * 32 + (p * B + w)) % 32) _ else _) = _
  rw [e, if_pos ⟨by omega, by omega, by omega⟩]
theorem lr_acc_out {n p n' p' w B : Nat} {l : List lr_R} {c : Nat → Int32} (hb : p' * B + B ≤ 32) (hw : w < B) (h : ¬ (n' = n ∧ p' = p)) : lr_acc n (p * B) B l c (n' * 32 + (p' * B + w)) = c (n' * 32 + (p' * B + w)) := by
  have e : (n' * 32 + (p' * B + w)) % 32 = p' * B + w := by omega
  have e2 : (n' * 32 + (p' * B + w)) / 32 = n' := by omega
  show (if (n' * 32 + (p' * B + w)) / 32 = n ∧ p * B ≤ (n' * 32 + (p' * B + w)) % 32 ∧ (n' * 32 + (p' * B + w)) % 32 < p * B + B then _ else _) = _
  rw [e, e2, if_neg]
  intro z
  by_cases g : p' = p
  · exact h ⟨z.1, g⟩
  · exact lr_dis hw g z.2
theorem lr_M1_acc {N P n p : Nat} {bd : Nat → Nat → Nat} {L : List lr_R} {Q : Nat → Nat → List lr_R} {qd o : Nat → Int32} (hP : P ≤ 4) (hp : p < P) (h : lr_M1 N P bd L Q qd o) : lr_M1 N P bd L (lr_Qu Q n p []) (upd qd (n * 4 + p) 0) o := by
  intro n' p' hn' hp'
  by_cases e : n' = n ∧ p' = p
  · obtain ⟨rfl, rfl⟩ := e
    rw [lr_Qu_s, pk_us]
    exact ⟨rfl, (fun q hq => by cases hq), List.nodup_nil, fun _ => rfl⟩
  · rw [lr_Qu_n e, pk_un (by omega)]
    exact h n' p' hn' hp'
theorem lr_M2_acc {N P n p : Nat} {Q : Nat → Nat → List lr_R} {qu : Nat → Int32} (h : lr_M2 N P Q qu) : lr_M2 N P (lr_Qu Q n p []) qu := by
  intro n' p' i q hn' hp' hi
  by_cases e : n' = n ∧ p' = p
  · obtain ⟨rfl, rfl⟩ := e
    rw [lr_Qu_s] at hi
    simp at hi
  · rw [lr_Qu_n e] at hi
    exact h n' p' i q hn' hp' hi
theorem lr_M3_acc {N P B n p : Nat} {Q : Nat → Nat → List lr_R} {cp cps : Nat → Int32} (hPB : P * B ≤ 32) (h : lr_M3 N P B Q cp cps) : lr_M3 N P B (lr_Qu Q n p []) (lr_acc n (p * B) B (Q n p) cp) cps := by
  intro n' p' w hn' hp' hw
  obtain ⟨h1, h2⟩ := h n' p' w hn' hp' hw
  have hb := lr_pB (B := B) hp'
  refine ⟨?_, h2⟩
  by_cases e : n' = n ∧ p' = p
  · obtain ⟨rfl, rfl⟩ := e
    rw [lr_Qu_s, lr_acc_in (by omega) hw, h1]; rfl
  · rw [lr_Qu_n e, lr_acc_out (by omega) hw e]
    exact h1
/-! opening -/
theorem lr_on_up {o : Nat → Int32} {P n p : Nat} (hP : P ≤ 4) (hp : p < P) (h : o (n * 4 + p) = 0) : lr_on (upd o (n * 4 + p) 1) P n = lr_on o P n + 1 := by
  unfold lr_on
  refine lr_sum_up hp ?_ ?_
  · intro i hi hne; rw [pk_un (by omega)]
  · rw [pk_us, h]; rfl
theorem lr_on_ne {o : Nat → Int32} {P n m p : Nat} {x : Int32} (hP : P ≤ 4) (hp : p < 4) (h : m ≠ n) : lr_on (upd o (n * 4 + p) x) P m = lr_on o P m := by
  unfold lr_on
  refine lr_sum_cg ?_
  intro i hi; rw [pk_un (by omega)]
theorem lr_OP_open {N P n p : Nat} {o oc : Nat → Int32} {fp fn : Int32} (hN : N ≤ 4) (hP : P ≤ 4) (hn : n < N) (hp : p < P) (h : lr_OP N P o oc fp fn) (hz : o (n * 4 + p) = 0) :
    lr_OP N P (upd o (n * 4 + p) 1) (upd oc n (oc n + 1)) (fp + 1) (if oc n = 0 then fn + 1 else fn) ∧ lr_sum (lr_on (upd o (n * 4 + p) 1) P) N = lr_sum (lr_on o P) N + 1 ∧
    lr_sum (fun n' => lr_b1 (lr_on (upd o (n * 4 + p) 1) P n')) N = lr_sum (fun n' => lr_b1 (lr_on o P n')) N + (if lr_on o P n = 0 then 1 else 0) := by
  obtain ⟨h1, h2, h3, h4⟩ := h
  have s1 : lr_sum (lr_on (upd o (n * 4 + p) 1) P) N = lr_sum (lr_on o P) N + 1 := by
    refine lr_sum_up hn ?_ (lr_on_up hP hp hz)
    intro i hi hne; exact lr_on_ne hP (by omega) hne
  have s2 : lr_sum (fun n' => lr_b1 (lr_on (upd o (n * 4 + p) 1) P n')) N = lr_sum (fun n' => lr_b1 (lr_on o P n')) N + (if lr_on o P n = 0 then 1 else 0) := by
    by_cases z : lr_on o P n = 0
    · rw [if_pos z]
      refine lr_sum_up hn ?_ ?_
      · intro i hi hne; show lr_b1 _ = lr_b1 _; rw [lr_on_ne hP (by omega) hne]
      · show lr_b1 _ = lr_b1 _ + 1
        rw [lr_on_up hP hp hz, z]; rfl
    · rw [if_neg z]
      refine lr_sum_cg ?_
      intro i hi
      show lr_b1 _ = lr_b1 _
      by_cases e : i = n
      · subst e
        rw [lr_on_up hP hp hz, lr_b11 z, lr_b11 (by omega)]
      · rw [lr_on_ne hP (by omega) e]
  have hol := lr_on_le o P n
  refine ⟨⟨?_, ?_, ?_, ?_⟩, s1, s2⟩
  · intro n' p' hn' hp'
    by_cases e : n' * 4 + p' = n * 4 + p
    · rw [e, pk_us]; exact Or.inr rfl
    · rw [pk_un e]; exact h1 n' p' hn' hp'
  · intro n' hn'
    by_cases e : n' = n
    · subst e; rw [pk_us, lr_on_up hP hp hz, h2 n' hn', nI_1]
    · rw [pk_un e, lr_on_ne hP (by omega) e]; exact h2 n' hn'
  · rw [s1, h3, nI_1]
  · rw [s2, h4, h2 n hn]
    by_cases z : lr_on o P n = 0
    · rw [if_pos z, if_pos (by rw [z]; rfl), nI_1]
    · rw [if_neg z, if_neg (nI_ne0 (by omega) (by omega))]; rfl
end
section
/-! the end of an interval keeps the relation -/
theorem lr_sum_ch {f g : Nat → Nat} {m : Nat} : ∀ {n : Nat}, m < n → (∀ i, i < n → i ≠ m → g i = f i) → lr_sum g n + f m = lr_sum f n + g m := by
  intro n
  induction n with
  | zero => intro h; omega
  | succ n ih =>
    intro h hi
    show lr_sum g n + g n + f m = lr_sum f n + f n + g m
    by_cases e : m = n
    · subst e
      rw [lr_sum_cg (f := g) (g := f) (fun i hi' => hi i (by omega) (by omega))]; omega
    · have := ih (by omega) (fun i hi' => hi i (by omega))
      rw [hi n (by omega) (fun z => e z.symm)]; omega
theorem lr_divB {p B w : Nat} (hw : w < B) : (p * B + w) / B = p := by
  rw [Nat.mul_comm, Nat.mul_add_div (by omega), Nat.div_eq_of_lt hw, Nat.add_zero]
def lr_C1 (C : Nat → Nat → Nat) (n : Nat) : Nat → Nat → Nat := fun a b => if a = n ∧ b = n then C a b + 1 else C a b
theorem lr_C1_s {C : Nat → Nat → Nat} {n : Nat} : lr_C1 C n n n = C n n + 1 := if_pos ⟨rfl, rfl⟩
theorem lr_C1_n {C : Nat → Nat → Nat} {n a b : Nat} (h : ¬ (a = n ∧ b = n)) : lr_C1 C n a b = C a b := if_neg h
theorem lr_C1_le {C : Nat → Nat → Nat} {n a b : Nat} : C a b ≤ lr_C1 C n a b := by
  by_cases e : a = n ∧ b = n
  · obtain ⟨rfl, rfl⟩ := e; rw [lr_C1_s]; omega
  · rw [lr_C1_n e]; exact Nat.le_refl _
theorem lr_CK_end {k N n : Nat} {C LC : Nat → Nat → Nat} {D : Nat → Nat} {cl dr lc : Nat → Int32} (hN : N ≤ 4) (hn : n < N) (h : lr_CK k N C D LC cl dr lc) : lr_CK (k + 1) N (lr_C1 C n) D LC (upd cl (n * 4 + n) (nI (C n n + 1))) dr lc := by
  refine ⟨?_, h.2.1, ?_⟩
  · intro a b ha hb
    obtain ⟨h1, h2, h3, h4⟩ := h.1 a b ha hb
    by_cases e : a = n ∧ b = n
    · obtain ⟨rfl, rfl⟩ := e
      rw [lr_C1_s, pk_us]
      exact ⟨rfl, Nat.le_refl _, by omega, by omega⟩
    · rw [lr_C1_n e, pk_un (by omega)]
      exact ⟨h1, Nat.le_trans h2 lr_C1_le, h3, by omega⟩
  · intro l m hl hm
    obtain ⟨h1, h2⟩ := h.2.2 l m hl hm
    exact ⟨h1, Nat.le_trans h2 lr_C1_le⟩
theorem lr_on_cl {o : Nat → Int32} {P n : Nat} (hP : P ≤ 4) : lr_on (lr_cl n P o) P n = 0 := by
  unfold lr_on
  refine lr_sum_z ?_
  intro i hi
  refine lr_bit0 ?_
  show (if (n * 4 + i) / 4 = n ∧ (n * 4 + i) % 4 < P then 0 else _) = _
  rw [if_pos (by omega)]
theorem lr_cl_ne {n m i : Nat} {o : Nat → Int32} (h : i / 4 ≠ n) : lr_cl n m o i = o i := by
  show (if _ then _ else _) = _
  rw [if_neg (fun z => h z.1)]
theorem lr_cl_in {n P p : Nat} {o : Nat → Int32} (hP : P ≤ 4) (hp : p < P) : lr_cl n P o (n * 4 + p) = 0 := by
  show (if _ then _ else _) = _
  rw [if_pos (by omega)]
theorem lr_on_cln {o : Nat → Int32} {P n m : Nat} (hP : P ≤ 4) (h : m ≠ n) : lr_on (lr_cl n P o) P m = lr_on o P m := by
  unfold lr_on
  refine lr_sum_cg ?_
  intro i hi; rw [lr_cl_ne (by omega)]
theorem lr_OP_end {N P n : Nat} {o oc : Nat → Int32} {fp fn : Int32} (hN : N ≤ 4) (hP : P ≤ 4) (hn : n < N) (h : lr_OP N P o oc fp fn) (hon : ¬ lr_on o P n = 0) :
    lr_OP N P (lr_cl n P o) (upd oc n 0) (fp - oc n) (fn - 1) ∧ lr_sum (lr_on (lr_cl n P o) P) N + lr_on o P n = lr_sum (lr_on o P) N ∧
    lr_sum (fun n' => lr_b1 (lr_on (lr_cl n P o) P n')) N + 1 = lr_sum (fun n' => lr_b1 (lr_on o P n')) N := by
  obtain ⟨h1, h2, h3, h4⟩ := h
  have s1 : lr_sum (lr_on (lr_cl n P o) P) N + lr_on o P n = lr_sum (lr_on o P) N := by
    have := lr_sum_ch (f := lr_on o P) (g := lr_on (lr_cl n P o) P) hn (fun i _ hne => lr_on_cln hP hne)
    rw [lr_on_cl hP] at this; exact this
  have s2 : lr_sum (fun n' => lr_b1 (lr_on (lr_cl n P o) P n')) N + 1 = lr_sum (fun n' => lr_b1 (lr_on o P n')) N := by
    have := lr_sum_ch (f := fun n' => lr_b1 (lr_on o P n')) (g := fun n' => lr_b1 (lr_on (lr_cl n P o) P n')) hn (fun i _ hne => by show lr_b1 _ = lr_b1 _; rw [lr_on_cln hP hne])
    have e1 : lr_b1 (lr_on o P n) = 1 := lr_b11 hon
    have e2 : lr_b1 (lr_on (lr_cl n P o) P n) = 0 := lr_b10 (lr_on_cl hP)
    have t : lr_sum (fun n' => lr_b1 (lr_on (lr_cl n P o) P n')) N + lr_b1 (lr_on o P n) = lr_sum (fun n' => lr_b1 (lr_on o P n')) N + lr_b1 (lr_on (lr_cl n P o) P n) := this
    omega
  refine ⟨⟨?_, ?_, ?_, ?_⟩, s1, s2⟩
  · intro n' p' hn' hp'
    by_cases e : n' = n
    · subst e; rw [lr_cl_in hP hp']; exact Or.inl rfl
    · rw [lr_cl_ne (by omega)]; exact h1 n' p' hn' hp'
  · intro n' hn'
    by_cases e : n' = n
    · subst e; rw [pk_us, lr_on_cl hP]; rfl
    · rw [pk_un e, lr_on_cln hP e]; exact h2 n' hn'
  · rw [h3, h2 n hn, pk_sub (by omega)]
    exact congrArg nI (by omega)
  · rw [h4, ← s2, nI_pred]
theorem lr_L1_end {N n : Nat} {C : Nat → Nat → Nat} {D : Nat → Nat} {L : List lr_R} {q : lr_R} (hn : n < N) (hD : D n ≤ C n n) (h : lr_L1 N C D L) (h1 : lr_n q = n) (h2 : lr_k q = C n n + 1) : lr_L1 N (lr_C1 C n) D (L ++ [q]) := by
  refine ⟨?_, ?_, ?_⟩
  · intro q' hq'
    rcases List.mem_append.mp hq' with z | z
    · obtain ⟨a, b, c⟩ := h.1 q' z
      exact ⟨a, b, Nat.le_trans c lr_C1_le⟩
    · rw [List.mem_singleton] at z
      rw [z, h1, h2, lr_C1_s]
      exact ⟨hn, by omega, Nat.le_refl _⟩
  · intro m k hm hk hk2
    by_cases e : m = n
    · subst e
      rw [lr_C1_s] at hk2
      by_cases e2 : k = C m m + 1
      · exact ⟨q, by simp, h1, by rw [h2, e2]⟩
      · obtain ⟨q', a, b⟩ := h.2.1 m k hm hk (by omega)
        exact ⟨q', List.mem_append_left _ a, b⟩
    · rw [lr_C1_n (fun z => e z.1)] at hk2
      obtain ⟨q', a, b⟩ := h.2.1 m k hm hk hk2
      exact ⟨q', List.mem_append_left _ a, b⟩
  · rw [List.map_append, List.nodup_append]
    refine ⟨h.2.2, by simp, ?_⟩
    intro a ha b hb e
    obtain ⟨q', hq', rfl⟩ := List.mem_map.mp ha
    rw [List.map_singleton, List.mem_singleton] at hb
    rw [hb] at e
    have e1 : lr_n q' = lr_n q := congrArg (fun x : Nat × Nat => x.1) e
    have e2 : lr_k q' = lr_k q := congrArg (fun x : Nat × Nat => x.2) e
    have := (h.1 q' hq').2.2
    rw [e1, h1] at this
    omega
theorem lr_L2_end {N n : Nat} {C : Nat → Nat → Nat} {D : Nat → Nat} {L : List lr_R} {q : lr_R} (hn : n < N) (l1 : lr_L1 N C D L) (h : lr_L2 N C L) (h1 : lr_n q = n) (h2 : lr_k q = C n n + 1) (h3 : ∀ j, j < N → lr_s q j = lr_C1 C n n j) : lr_L2 N (lr_C1 C n) (L ++ [q]) := by
  have hq : lr_sum (lr_s q) N = lr_sum (lr_C1 C n n) N := lr_sum_cg h3
  have hs : lr_sum (lr_C1 C n n) N = lr_sum (C n) N + 1 := lr_sum_up hn (fun i _ hne => lr_C1_n (fun z => hne z.2)) lr_C1_s
  refine ⟨?_, ?_⟩
  · intro q' hq'
    rcases List.mem_append.mp hq' with z | z
    · exact Nat.le_trans (h.1 q' z) (lr_sum_le (fun i _ => lr_C1_le))
    · rw [List.mem_singleton] at z
      rw [z, h1, hq]; exact Nat.le_refl _
  · intro a b ha hb e1 e2
    rcases List.mem_append.mp ha with za | za
    · rcases List.mem_append.mp hb with zb | zb
      · exact h.2 a b za zb e1 e2
      · rw [List.mem_singleton] at zb
        subst zb
        have := h.1 a za
        rw [e1, h1] at this
        omega
    · rw [List.mem_singleton] at za
      subst za
      rcases List.mem_append.mp hb with zb | zb
      · have := (l1.1 b zb).2.2
        rw [← e1, h1] at this
        omega
      · rw [List.mem_singleton] at zb
        subst zb
        omega
section
variable {N P B R : Nat} {f_openPages f_openNodes f_freeSlotCount f_retained f_freeEntry f_entriesUsed f_episodeCount : Int32} {a_copy a_twin a_opened a_openCount a_queue a_queued a_fetchCount a_clocks a_dropped a_slots a_freeSlots a_stamps a_sums a_notices a_chain a_entryAddr a_entryValue a_entryNext a_mode a_holders a_line a_lineLength a_lockClocks a_target a_cursor a_floor : Nat → Int32}
variable {k : Nat} {C LC : Nat → Nat → Nat} {D : Nat → Nat} {L : List lr_R} {Q : Nat → Nat → List lr_R} {WQ : List (Nat × Nat)}
variable {f_queueLen f_recCount : Int32} {a_copies a_queueNode a_queueLock a_recNode a_recNum a_recStamp a_recNotice a_recDiff a_v a_taken : Nat → Int32}
theorem lr_dd_end {n : Nat} (Z : lr_Sz N P B R) (hn : n < N) (m1 : lr_M1 N P C L Q a_queued a_opened) (m3 : lr_M3 N P B Q a_copy a_copies) : lr_dd P B n a_opened a_copy a_twin (lr_dY B n a_opened a_copies a_twin) := by
  intro p w hp hw
  obtain ⟨h1, h2⟩ := m3 n p w hn hp hw
  unfold lr_dY
  rw [lr_divB hw]
  refine ⟨fun z => by rw [if_pos z]; exact lr_neg1, fun z => ?_⟩
  have hQ := (m1 n p hn hp).2.2.2 z
  rw [hQ] at h1
  have h3 : a_copies (n * 32 + (p * B + w)) = a_copy (n * 32 + (p * B + w)) := h1
  rw [if_neg z, h3]
  exact ⟨by rw [← h3]; exact h2, rfl⟩
theorem zz_J_end {n s : Nat} {fsc' ret' fe' eu' : Int32} {sl' st' sm' no' ch' ea' ev' nx' : Nat → Int32} (J : zz_J k N P B R C D LC L Q WQ f_openPages f_openNodes f_freeSlotCount f_retained f_freeEntry f_entriesUsed a_copy a_opened a_openCount a_queue a_queued a_clocks a_dropped a_slots a_freeSlots a_stamps a_sums a_notices a_chain a_entryAddr a_entryValue a_entryNext a_mode a_line a_lineLength a_lockClocks f_queueLen a_copies a_queueNode a_queueLock) (hn : n < N) (hon : ¬ lr_on a_opened P n = 0)
    (X : lr_XR N P B (L ++ [(n, C n n + 1, s, lr_C1 C n n, fun p => a_opened (n * 4 + p), lr_dY B n a_opened a_copies a_twin)]) fsc' ret' fe' eu' sl' a_freeSlots st' sm' no' ch' ea' ev' nx') :
    zz_J (k + 1) N P B R (lr_C1 C n) D LC (L ++ [(n, C n n + 1, s, lr_C1 C n n, fun p => a_opened (n * 4 + p), lr_dY B n a_opened a_copies a_twin)]) Q WQ (f_openPages - a_openCount n) (f_openNodes - 1) fsc' ret' fe' eu' a_copy (lr_cl n P a_opened) (upd a_openCount n 0) a_queue a_queued (upd a_clocks (n * 4 + n) (nI (C n n + 1))) a_dropped sl' a_freeSlots st' sm' no' ch' ea' ev' nx' a_mode a_line a_lineLength a_lockClocks f_queueLen a_copies a_queueNode a_queueLock := by
  obtain ⟨Z, hCK, hOP, hXR, ⟨l1, l2, l3, l4⟩, ⟨m1, m2, m3⟩, hWT, hMO⟩ := J
  have hdd := lr_dd_end (a_twin := a_twin) Z hn m1 m3
  have Z' := Z
  obtain ⟨z1, z2, z3, z4, z5, z6, z7, z8⟩ := Z
  obtain ⟨o1, o2, o3⟩ := lr_OP_end z2 z4 hn hOP hon
  obtain ⟨c1, c2, c3, c4⟩ := hCK.1 n n hn hn
  have hbd := lr_cn_bd hdd P (Nat.le_refl _)
  have hon2 : lr_sum (fun p => lr_bit (a_opened (n * 4 + p))) P = lr_on a_opened P n := rfl
  rw [hon2] at hbd
  refine ⟨Z', lr_CK_end z2 hn hCK, o1, X, ⟨lr_L1_end hn c3 l1 rfl rfl, lr_L2_end hn l1 l2 rfl rfl (fun j _ => rfl), ?_, ?_, ?_⟩, ⟨?_, m2, m3⟩, hWT, ?_⟩
  · intro q p hq hp
    rcases List.mem_append.mp hq with z | z
    · exact l3 q p z hp
    · rw [List.mem_singleton] at z
      subst z
      refine ⟨hOP.1 n p hn hp, ?_⟩
      intro hz w hw
      exact (hdd p w hp hw).1 hz
  · rw [List.length_append, List.length_singleton]
    have := l4.1
    omega
  · rw [lr_us_snoc]
    have h5 := l4.2
    rw [← o2, Nat.mul_add] at h5
    show lr_us (P * B) L + lr_cn (lr_dY B n a_opened a_copies a_twin) (P * B) + B * lr_sum (lr_on (lr_cl n P a_opened) P) N ≤ 64
    omega
  · intro n' p' hn' hp'
    obtain ⟨a1, a2, a3, a4⟩ := m1 n' p' hn' hp'
    refine ⟨a1, fun q hq => ⟨List.mem_append_left _ (a2 q hq).1, Nat.le_trans (a2 q hq).2 lr_C1_le⟩, a3, ?_⟩
    intro hz
    by_cases e : n' = n
    · subst e; exact absurd (lr_cl_in z4 hp') hz
    · rw [lr_cl_ne (by omega)] at hz; exact a4 hz
  · intro n' p' hn' hp' hmd
    by_cases e : n' = n
    · subst e; exact lr_cl_in z4 hp'
    · rw [lr_cl_ne (by omega)]; exact hMO n' p' hn' hp' hmd
theorem zz_end {post : SX → Prop} {n : Nat} (J : zz_J k N P B R C D LC L Q WQ f_openPages f_openNodes f_freeSlotCount f_retained f_freeEntry f_entriesUsed a_copy a_opened a_openCount a_queue a_queued a_clocks a_dropped a_slots a_freeSlots a_stamps a_sums a_notices a_chain a_entryAddr a_entryValue a_entryNext a_mode a_line a_lineLength a_lockClocks f_queueLen a_copies a_queueNode a_queueLock) (Y : lr_YR N P B L f_recCount a_recNode a_recNum a_recStamp a_recNotice a_recDiff) (hn : n < N) (hk : k + 4 ≤ 2052)
    (H : ∀ (C' : Nat → Nat → Nat) (L' : List lr_R) (fop' fon' fsc' ret' fe' eu' : Int32) (op' oc' cl' sl' st' sm' no' ch' ea' ev' nx' : Nat → Int32), zz_J (k + 1) N P B R C' D LC L' Q WQ fop' fon' fsc' ret' fe' eu' a_copy op' oc' a_queue a_queued cl' a_dropped sl' a_freeSlots st' sm' no' ch' ea' ev' nx' a_mode a_line a_lineLength a_lockClocks f_queueLen a_copies a_queueNode a_queueLock → lr_on op' P n = 0 →
      (∀ postY : SY → Prop, (∀ (rc' : Int32) (rnd' rnm' rs' rno' rdf' : Nat → Int32), lr_YR N P B L' rc' rnd' rnm' rs' rno' rdf' → postY (nI N, nI P, nI B, nI R, f_queueLen, f_episodeCount, rc', a_copies, a_twin, op', a_queued, cl', a_fetchCount, a_mode, a_holders, a_lockClocks, a_queueNode, a_queueLock, rnd', rnm', rs', rno', rdf', a_v, a_taken)) → wpY_end postY (nI N, nI P, nI B, nI R, f_queueLen, f_episodeCount, f_recCount, a_copies, a_twin, a_opened, a_queued, a_clocks, a_fetchCount, a_mode, a_holders, a_lockClocks, a_queueNode, a_queueLock, a_recNode, a_recNum, a_recStamp, a_recNotice, a_recDiff, a_v, a_taken) (nI n)) →
      post (nI N, nI P, nI B, nI R, nI (P * B), fop', fon', fsc', ret', fe', eu', f_episodeCount, a_copy, a_twin, op', oc', a_queue, a_queued, a_fetchCount, cl', a_dropped, sl', a_freeSlots, st', sm', no', ch', ea', ev', nx', a_mode, a_holders, a_line, a_lineLength, a_lockClocks, a_target, a_cursor, a_floor)) :
    wpX_endInterval post (nI N, nI P, nI B, nI R, nI (P * B), f_openPages, f_openNodes, f_freeSlotCount, f_retained, f_freeEntry, f_entriesUsed, f_episodeCount, a_copy, a_twin, a_opened, a_openCount, a_queue, a_queued, a_fetchCount, a_clocks, a_dropped, a_slots, a_freeSlots, a_stamps, a_sums, a_notices, a_chain, a_entryAddr, a_entryValue, a_entryNext, a_mode, a_holders, a_line, a_lineLength, a_lockClocks, a_target, a_cursor, a_floor) (nI n) := by
  have J' := J
  obtain ⟨Z, hCK, hOP, hXR, ⟨l1, l2, l3, l4⟩, ⟨m1, m2, m3⟩, hWT, hMO⟩ := J
  have Z' := Z
  obtain ⟨z1, z2, z3, z4, z5, z6, z7, z8⟩ := Z
  have hc1 : (nI n).toNatClampNeg = n := lr_c1 (by omega)
  by_cases hon : lr_on a_opened P n = 0
  · refine ⟨lr_v1 (by omega) (by omega), br_t (by rw [hc1, hOP.2.1 n hn, hon]; rfl) (H C L _ _ _ _ _ _ _ _ _ _ _ _ _ _ _ _ _ (zz_Jup J' (by omega)) hon ?_)⟩
    intro postY hp
    exact yy_end0 (by omega) z4 hon (hp _ _ _ _ _ _ Y)
  · obtain ⟨c1, c2, c3, c4⟩ := hCK.1 n n hn hn
    have hb1 := lr_sum_ge (f := fun n' => lr_b1 (lr_on a_opened P n')) hn
    have hb2 : lr_b1 (lr_on a_opened P n) ≤ lr_sum (fun n' => lr_b1 (lr_on a_opened P n')) N := hb1
    rw [lr_b11 hon] at hb2
    have hL4 := l4.1
    have hlen := lr_len l1
    have hge := lr_sum_ge (f := fun m => C m m - D m) hn
    have hge2 : C n n - D n ≤ lr_sum (fun m => C m m - D m) N := hge
    have hsg := lr_sum_ge (f := lr_on a_opened P) hn
    have hU : lr_us (P * B) L + B * lr_on a_opened P n ≤ 64 := by
      have := l4.2
      have := Nat.mul_le_mul_left B hsg
      omega
    have hcj : ∀ j, j < N → j ≠ n → a_clocks (n * 4 + j) = nI (lr_C1 C n n j) := by
      intro j hj hne
      rw [lr_C1_n (fun z => hne z.2)]; exact (hCK.1 n j hn hj).1
    refine xx_end (C := C) (c := lr_C1 C n n) (d := lr_dY B n a_opened a_copies a_twin) (L := L) Z' hn c1 hcj lr_C1_s (by omega) (hOP.2.1 n hn) hon (fun p hp => hOP.1 n p hn hp) hXR (by omega) hU ?_ (lr_dd_end (a_twin := a_twin) Z' hn m1 m3) ?_
    · intro q hq hqn
      have h5 := l1.1 q hq
      rw [hqn] at h5
      omega
    · intro s fsc' ret' fe' eu' sl' st' sm' no' ch' ea' ev' nx' hX
      refine H _ _ _ _ _ _ _ _ _ _ _ _ _ _ _ _ _ _ _ (zz_J_end J' hn hon hX) (lr_on_cl z4) ?_
      intro postY hp
      exact yy_end (C := C) (c := lr_C1 C n n) (s := s) (L := L) Z' hn c1 hcj lr_C1_s hon (fun p hp => hOP.1 n p hn hp) Y (by omega) hp
end
end
section
/-! learning keeps the relation -/
def lr_CT (C : Nat → Nat → Nat) (n : Nat) (T : Nat → Nat) : Nat → Nat → Nat := fun a m => if a = n then lr_mx (C n m) (T m) else C a m
theorem lr_CT_s {C : Nat → Nat → Nat} {n m : Nat} {T : Nat → Nat} : lr_CT C n T n m = lr_mx (C n m) (T m) := if_pos rfl
theorem lr_CT_n {C : Nat → Nat → Nat} {n a m : Nat} {T : Nat → Nat} (h : a ≠ n) : lr_CT C n T a m = C a m := if_neg h
theorem lr_CT_le {C : Nat → Nat → Nat} {n a m : Nat} {T : Nat → Nat} : C a m ≤ lr_CT C n T a m := by
  by_cases e : a = n
  · subst e; rw [lr_CT_s]; exact (lr_mx_s _ _).1
  · rw [lr_CT_n e]; exact Nat.le_refl _
theorem lr_CT_d {C : Nat → Nat → Nat} {n m : Nat} {T : Nat → Nat} (h : T m ≤ C m m) : lr_CT C n T m m = C m m := by
  by_cases e : m = n
  · subst e; rw [lr_CT_s, lr_mx_l h]
  · rw [lr_CT_n e]
def lr_Qn (Q : Nat → Nat → List lr_R) (n : Nat) (x : Nat → List lr_R) : Nat → Nat → List lr_R := fun n' => if n' = n then x else Q n'
theorem lr_Qn_s {Q : Nat → Nat → List lr_R} {n : Nat} {x : Nat → List lr_R} : lr_Qn Q n x n = x := if_pos rfl
theorem lr_Qn_n {Q : Nat → Nat → List lr_R} {n n' : Nat} {x : Nat → List lr_R} (h : n' ≠ n) : lr_Qn Q n x n' = Q n' := if_neg h
theorem lr_Qn_Qn {Q : Nat → Nat → List lr_R} {n : Nat} {x y : Nat → List lr_R} : lr_Qn (lr_Qn Q n x) n y = lr_Qn Q n y := by
  funext n'
  by_cases e : n' = n
  · subst e; rw [lr_Qn_s, lr_Qn_s]
  · rw [lr_Qn_n e, lr_Qn_n e, lr_Qn_n e]
theorem lr_Qn_self {Q : Nat → Nat → List lr_R} {n : Nat} : lr_Qn Q n (Q n) = Q := by
  funext n'
  by_cases e : n' = n
  · subst e; rw [lr_Qn_s]
  · rw [lr_Qn_n e]
theorem lr_M3_lrn {N P B n : Nat} {L : List lr_R} {cp : Nat → Int32} (hPB : P * B ≤ 32) (l3 : lr_L3 P B L) : ∀ (S : List lr_R) (Q : Nat → Nat → List lr_R) (cps : Nat → Int32), (∀ q, q ∈ S → q ∈ L) → lr_M3 N P B Q cp cps → lr_M3 N P B (lr_Qn Q n (lr_qa (Q n) S)) cp (lr_lcL (P * B) n cps S) := by
  intro S
  induction S with
  | nil =>
    intro Q cps _ h
    rw [lr_qa_0, lr_Qn_self]; exact h
  | cons q S ih =>
    intro Q cps hS h
    have h1 := ih (lr_Qn Q n (lr_qa (Q n) [q])) (lr_lc (P * B) n (lr_d q) cps) (fun q' hq' => hS q' (List.mem_cons_of_mem _ hq')) ?_
    · rw [lr_Qn_Qn, lr_Qn_s, lr_qa_c] at h1
      exact h1
    · intro n' p w hn' hp hw
      obtain ⟨a1, a2⟩ := h n' p w hn' hp hw
      have hb := lr_pB (B := B) hp
      by_cases e : n' = n
      · subst e
        rw [lr_Qn_s]
        by_cases hd : lr_d q (p * B + w) < 0
        · rw [lr_lc_at0 (by omega) (Or.inr hd)]
          refine ⟨?_, a2⟩
          by_cases ho : lr_o q p = 0
          · rw [lr_qa_2 ho]; exact a1
          · rw [lr_qa_1 ho, lr_ov_snoc, if_pos hd]; exact a1
        · rw [lr_lc_at (by omega) hPB hd]
          refine ⟨?_, hd⟩
          have ho : ¬ lr_o q p = 0 := fun z => hd ((l3 q p (hS q List.mem_cons_self) hp).2 z w hw)
          rw [lr_qa_1 ho, lr_ov_snoc, if_neg hd]
      · rw [lr_Qn_n e, lr_lc_ne (by omega)]
        exact ⟨a1, a2⟩
section
variable {N P B R : Nat} {f_openPages f_openNodes f_freeSlotCount f_retained f_freeEntry f_entriesUsed f_episodeCount : Int32} {a_copy a_twin a_opened a_openCount a_queue a_queued a_fetchCount a_clocks a_dropped a_slots a_freeSlots a_stamps a_sums a_notices a_chain a_entryAddr a_entryValue a_entryNext a_mode a_holders a_line a_lineLength a_lockClocks a_target a_cursor a_floor : Nat → Int32}
variable {k : Nat} {C LC : Nat → Nat → Nat} {D : Nat → Nat} {L : List lr_R} {Q : Nat → Nat → List lr_R} {WQ : List (Nat × Nat)}
variable {f_queueLen f_recCount : Int32} {a_copies a_queueNode a_queueLock a_recNode a_recNum a_recStamp a_recNotice a_recDiff a_v a_taken : Nat → Int32}
theorem zz_J_learn {n : Nat} {T cur' : Nat → Nat} {S : List lr_R} {qu' : Nat → Int32} (J : zz_J k N P B R C D LC L Q WQ f_openPages f_openNodes f_freeSlotCount f_retained f_freeEntry f_entriesUsed a_copy a_opened a_openCount a_queue a_queued a_clocks a_dropped a_slots a_freeSlots a_stamps a_sums a_notices a_chain a_entryAddr a_entryValue a_entryNext a_mode a_line a_lineLength a_lockClocks f_queueLen a_copies a_queueNode a_queueLock) (hn : n < N) (hon : lr_on a_opened P n = 0) (hT : ∀ m, m < N → T m ≤ C m m) (hos : lr_os N L n T S (fun m => C n m + 1)) (hqr : lr_qr P n L cur' (lr_qa (Q n) S) qu' (lr_qpL P n a_queued S)) (hqu : ∀ j, j / 128 ≠ n → qu' j = a_queue j) :
    zz_J k N P B R (lr_CT C n T) D LC L (lr_Qn Q n (lr_qa (Q n) S)) WQ f_openPages f_openNodes f_freeSlotCount f_retained f_freeEntry f_entriesUsed a_copy a_opened a_openCount qu' (lr_qpL P n a_queued S) (lr_ck n N (C n) T a_clocks) a_dropped a_slots a_freeSlots a_stamps a_sums a_notices a_chain a_entryAddr a_entryValue a_entryNext a_mode a_line a_lineLength a_lockClocks f_queueLen (lr_lcL (P * B) n a_copies S) a_queueNode a_queueLock := by
  obtain ⟨Z, hCK, hOP, hXR, ⟨l1, l2, l3, l4⟩, ⟨m1, m2, m3⟩, hWT, hMO⟩ := J
  have hPB := lr_PB Z
  have hL := lr_L4_32 Z l4
  have Z' := Z
  obtain ⟨z1, z2, z3, z4, z5, z6, z7, z8⟩ := Z
  have hmem := lr_os_mem hos
  refine ⟨Z', ⟨?_, hCK.2.1, ?_⟩, hOP, hXR, ⟨⟨?_, ?_, l1.2.2⟩, ⟨?_, l2.2⟩, l3, l4⟩, ⟨?_, ?_, lr_M3_lrn hPB l3 S Q a_copies (fun q hq => (hmem q hq).1) m3⟩, hWT, hMO⟩
  · intro a m ha hm
    obtain ⟨h1, h2, h3, h4⟩ := hCK.1 a m ha hm
    obtain ⟨g1, g2, g3, g4⟩ := hCK.1 m m hm hm
    have ht := hT m hm
    rw [lr_CT_d ht]
    by_cases e : a = n
    · subst e
      rw [lr_CT_s, lr_ck_at (by omega) hm]
      have hx := lr_mx_s (C a m) (T m)
      exact ⟨rfl, by omega, by omega, by omega⟩
    · rw [lr_CT_n e, lr_ck_ne (by omega)]
      exact ⟨h1, h2, h3, h4⟩
  · intro l m hl hm
    rw [lr_CT_d (hT m hm)]
    exact hCK.2.2 l m hl hm
  · intro q hq
    have h1 := l1.1 q hq
    rw [lr_CT_d (hT _ h1.1)]; exact h1
  · intro m k hm h1 h2
    rw [lr_CT_d (hT m hm)] at h2
    exact l1.2.1 m k hm h1 h2
  · intro q hq
    exact Nat.le_trans (l2.1 q hq) (lr_sum_le (fun i _ => lr_CT_le))
  · intro n' p hn' hp
    by_cases e : n' = n
    · subst e
      rw [lr_Qn_s]
      obtain ⟨h1, h2, h3, h4⟩ := hqr p hp
      refine ⟨h1, ?_, h3, fun z => absurd (lr_on0 hon hp) z⟩
      intro q hq
      rw [lr_CT_s]
      have hx := lr_mx_s (C n' (lr_n q)) (T (lr_n q))
      refine ⟨(h2 q hq).1, ?_⟩
      rcases List.mem_append.mp hq with z | z
      · have := ((m1 n' p hn' hp).2.1 q z).2; omega
      · have := (hmem q (List.mem_filter.mp z).1).2.2; omega
    · rw [lr_Qn_n e, lr_qpL_ne (by omega)]
      obtain ⟨h1, h2, h3, h4⟩ := m1 n' p hn' hp
      refine ⟨h1, ?_, h3, h4⟩
      intro q hq
      rw [lr_CT_n e]; exact h2 q hq
  · intro n' p i q hn' hp hi
    by_cases e : n' = n
    · subst e
      rw [lr_Qn_s] at hi
      exact (hqr p hp).2.2.2 i q hi
    · rw [lr_Qn_n e] at hi
      have h1 := lr_at_lt hi
      have h2 := lr_Qlen m1 hn' hp
      rw [hqu _ (by omega)]
      exact m2 n' p i q hn' hp hi
theorem zz_learn {post : SX → Prop} {n : Nat} {T : Nat → Nat} (J : zz_J k N P B R C D LC L Q WQ f_openPages f_openNodes f_freeSlotCount f_retained f_freeEntry f_entriesUsed a_copy a_opened a_openCount a_queue a_queued a_clocks a_dropped a_slots a_freeSlots a_stamps a_sums a_notices a_chain a_entryAddr a_entryValue a_entryNext a_mode a_line a_lineLength a_lockClocks f_queueLen a_copies a_queueNode a_queueLock) (hn : n < N) (hk : k ≤ 3000) (hon : lr_on a_opened P n = 0) (hT : ∀ m, m < N → a_target m = nI (T m) ∧ T m ≤ C m m)
    (H : ∀ (C' : Nat → Nat → Nat) (Q' : Nat → Nat → List lr_R) (cps' qu' qd' cl' cu' : Nat → Int32), zz_J k N P B R C' D LC L Q' WQ f_openPages f_openNodes f_freeSlotCount f_retained f_freeEntry f_entriesUsed a_copy a_opened a_openCount qu' qd' cl' a_dropped a_slots a_freeSlots a_stamps a_sums a_notices a_chain a_entryAddr a_entryValue a_entryNext a_mode a_line a_lineLength a_lockClocks f_queueLen cps' a_queueNode a_queueLock → (∀ m, m < N → C' m m = C m m) →
      (∀ (postY : SY → Prop) (y1 y2 y3 : Int32) (b1 b2 b3 b4 b5 b6 b7 b8 b9 b10 b11 b12 b13 b14 b15 : Nat → Int32), lr_YR N P B L y2 b9 b10 b11 b12 b13 → (∀ m, m < N → b14 m = nI (T m)) →
        (∀ tk' : Nat → Int32, postY (nI N, nI P, nI B, nI R, y1, y3, y2, cps', b1, b2, qd', cl', b3, b4, b5, b6, b7, b8, b9, b10, b11, b12, b13, b14, tk')) →
        wpY_learn postY (nI N, nI P, nI B, nI R, y1, y3, y2, a_copies, b1, b2, a_queued, a_clocks, b3, b4, b5, b6, b7, b8, b9, b10, b11, b12, b13, b14, b15) (nI n)) →
      post (nI N, nI P, nI B, nI R, nI (P * B), f_openPages, f_openNodes, f_freeSlotCount, f_retained, f_freeEntry, f_entriesUsed, f_episodeCount, a_copy, a_twin, a_opened, a_openCount, qu', qd', a_fetchCount, cl', a_dropped, a_slots, a_freeSlots, a_stamps, a_sums, a_notices, a_chain, a_entryAddr, a_entryValue, a_entryNext, a_mode, a_holders, a_line, a_lineLength, a_lockClocks, a_target, cu', a_floor)) : wpX_learn post (nI N, nI P, nI B, nI R, nI (P * B), f_openPages, f_openNodes, f_freeSlotCount, f_retained, f_freeEntry, f_entriesUsed, f_episodeCount, a_copy, a_twin, a_opened, a_openCount, a_queue, a_queued, a_fetchCount, a_clocks, a_dropped, a_slots, a_freeSlots, a_stamps, a_sums, a_notices, a_chain, a_entryAddr, a_entryValue, a_entryNext, a_mode, a_holders, a_line, a_lineLength, a_lockClocks, a_target, a_cursor, a_floor) (nI n) := by
  have J' := J
  obtain ⟨Z, hCK, hOP, hXR, ⟨l1, l2, l3, l4⟩, ⟨m1, m2, m3⟩, hWT, hMO⟩ := J
  have hL := lr_L4_32 Z l4
  have Z' := Z
  obtain ⟨z1, z2, z3, z4, z5, z6, z7, z8⟩ := Z
  have hCb : ∀ a m, a < N → m < N → C a m ≤ 3000 := fun a m ha hm => by have := (hCK.1 a m ha hm).2.2.2; omega
  have hc : ∀ m, m < N → a_clocks (n * 4 + m) = nI (C n m) ∧ C n m < 90000 ∧ D m ≤ C n m := by
    intro m hm
    obtain ⟨h1, h2, h3, h4⟩ := hCK.1 n m hn hm
    exact ⟨h1, by omega, h3⟩
  have hTb : ∀ m, m < N → T m < 90000 ∧ T m ≤ C m m := by
    intro m hm
    have h1 := (hT m hm).2
    have h2 := hCb m m hm hm
    exact ⟨by omega, h1⟩
  have hsum : ∀ q, q ∈ L → lr_sum (lr_s q) N < 1000000 := by
    intro q hq
    have h1 := l2.1 q hq
    have h2 := (l1.1 q hq).1
    have h3 := lr_sum_bd (f := C (lr_n q)) (k := 3000) (n := N) (fun i hi => hCb _ _ h2 hi)
    have h4 : N * 3000 ≤ 4 * 3000 := Nat.mul_le_mul_right _ z2
    omega
  have hkq : ∀ q, q ∈ L → lr_k q < 90000 := by
    intro q hq
    have h1 := l1.1 q hq
    have h2 := hCb _ _ h1.1 h1.1
    omega
  have hqr : lr_qr P n L (fun m => C n m + 1) (Q n) a_queue a_queued := by
    intro p hp
    obtain ⟨h1, h2, h3, h4⟩ := m1 n p hn hp
    exact ⟨h1, fun q hq => ⟨(h2 q hq).1, by have := (h2 q hq).2; show lr_k q < C n (lr_n q) + 1; omega⟩, h3, fun i q hi => m2 n p i q hn hp hi⟩
  refine xx_learn (T := T) Z' hn hc (fun m hm => ⟨(hT m hm).1, (hTb m hm).1, (hTb m hm).2⟩) l1 l2 hXR (by have := l4.1; omega) hsum hqr ?_
  intro S qu' cu' hos ⟨cur', hqr'⟩ hqu
  refine H _ _ _ qu' _ _ cu' (zz_J_learn J' hn hon (fun m hm => (hT m hm).2) hos hqr' hqu) (fun m hm => lr_CT_d (hT m hm).2) ?_
  intro postY y1 y2 y3 b1 b2 b3 b4 b5 b6 b7 b8 b9 b10 b11 b12 b13 b14 b15 hY hv hp
  exact yy_learn (T := T) (S := S) Z' hn hc (fun m hm => ⟨hv m hm, (hTb m hm).1, (hTb m hm).2⟩) l1 l2 hkq hY hL hsum hos hp
theorem zz_grant {post : SX → Prop} {l n : Nat} (J : zz_J k N P B R C D LC L Q WQ f_openPages f_openNodes f_freeSlotCount f_retained f_freeEntry f_entriesUsed a_copy a_opened a_openCount a_queue a_queued a_clocks a_dropped a_slots a_freeSlots a_stamps a_sums a_notices a_chain a_entryAddr a_entryValue a_entryNext (upd a_mode n 0) a_line a_lineLength a_lockClocks f_queueLen a_copies a_queueNode a_queueLock) (hl : l < 4) (hn : n < N) (hk : k ≤ 3000) (hon : lr_on a_opened P n = 0)
    (H : ∀ (C' : Nat → Nat → Nat) (Q' : Nat → Nat → List lr_R) (cps' qu' qd' cl' cu' tg' : Nat → Int32), zz_J k N P B R C' D LC L Q' WQ f_openPages f_openNodes f_freeSlotCount f_retained f_freeEntry f_entriesUsed a_copy a_opened a_openCount qu' qd' cl' a_dropped a_slots a_freeSlots a_stamps a_sums a_notices a_chain a_entryAddr a_entryValue a_entryNext (upd a_mode n 0) a_line a_lineLength a_lockClocks f_queueLen cps' a_queueNode a_queueLock →
      (∀ (postY : SY → Prop) (y1 y2 y3 : Int32) (b1 b2 b3 b5 b7 b8 b9 b10 b11 b12 b13 b14 b15 : Nat → Int32), lr_YR N P B L y2 b9 b10 b11 b12 b13 →
        (∀ v' tk' : Nat → Int32, postY (nI N, nI P, nI B, nI R, y1, y3, y2, cps', b1, b2, qd', cl', b3, upd a_mode n 0, upd b5 l (nI n), a_lockClocks, b7, b8, b9, b10, b11, b12, b13, v', tk')) →
        wpY_grant postY (nI N, nI P, nI B, nI R, y1, y3, y2, a_copies, b1, b2, a_queued, a_clocks, b3, a_mode, b5, a_lockClocks, b7, b8, b9, b10, b11, b12, b13, b14, b15) (nI l) (nI n)) →
      post (nI N, nI P, nI B, nI R, nI (P * B), f_openPages, f_openNodes, f_freeSlotCount, f_retained, f_freeEntry, f_entriesUsed, f_episodeCount, a_copy, a_twin, a_opened, a_openCount, qu', qd', a_fetchCount, cl', a_dropped, a_slots, a_freeSlots, a_stamps, a_sums, a_notices, a_chain, a_entryAddr, a_entryValue, a_entryNext, upd a_mode n 0, upd a_holders l (nI n), a_line, a_lineLength, a_lockClocks, tg', cu', a_floor)) : wpX_grant post (nI N, nI P, nI B, nI R, nI (P * B), f_openPages, f_openNodes, f_freeSlotCount, f_retained, f_freeEntry, f_entriesUsed, f_episodeCount, a_copy, a_twin, a_opened, a_openCount, a_queue, a_queued, a_fetchCount, a_clocks, a_dropped, a_slots, a_freeSlots, a_stamps, a_sums, a_notices, a_chain, a_entryAddr, a_entryValue, a_entryNext, a_mode, a_holders, a_line, a_lineLength, a_lockClocks, a_target, a_cursor, a_floor) (nI l) (nI n) := by
  have hCK := J.2.1
  have z2 := J.1.2.1
  have h1 : (nI l).toNatClampNeg = l := lr_c1 (by omega)
  have h2 : (nI n).toNatClampNeg = n := lr_c1 (by omega)
  refine ⟨lr_v1 hl (by omega), nm_r (e' := upd a_holders l (nI n)) (by rw [h1]) ⟨lr_v1 (by omega) (by omega), nm_r (e' := upd a_mode n 0) (by rw [h2]) ?_⟩⟩
  refine loop_0 (fun f m s => wX_grant_16 post (nI l) (nI n) (nI N) (nI P) (nI B) (nI R) (nI (P * B)) f_openPages f_openNodes f_freeSlotCount f_retained f_freeEntry f_entriesUsed f_episodeCount f (nI m) a_copy a_twin a_opened a_openCount a_queue a_queued a_fetchCount a_clocks a_dropped a_slots a_freeSlots a_stamps a_sums a_notices a_chain a_entryAddr a_entryValue a_entryNext (upd a_mode n 0) (upd a_holders l (nI n)) a_line a_lineLength a_lockClocks s a_cursor a_floor) (fun m s => ∀ j, j < m → s j = nI (LC l j)) N a_target (fun j hj => by omega) ?_ ?_
  · intro f s es
    refine br_t (nI_le (Nat.le_refl _) (by omega)) (zz_learn (T := LC l) J hn hk hon (fun m hm => ⟨es m hm, (hCK.2.2 l m hl hm).2⟩) ?_)
    intro C' Q' cps' qu' qd' cl' cu' J2 hd hY
    refine H C' Q' cps' qu' qd' cl' cu' s J2 ?_
    intro postY y1 y2 y3 b1 b2 b3 b5 b7 b8 b9 b10 b11 b12 b13 b14 b15 hYR hp
    refine ⟨lr_v1 hl (by omega), nm_r (e' := upd b5 l (nI n)) (by rw [h1]) ⟨lr_v1 (by omega) (by omega), nm_r (e' := upd a_mode n 0) (by rw [h2]) ?_⟩⟩
    refine loop_0 (fun f m s => wY_grant_16 postY (nI l) (nI n) (nI N) (nI P) (nI B) (nI R) y1 y3 y2 f (nI m) a_copies b1 b2 a_queued a_clocks b3 (upd a_mode n 0) (upd b5 l (nI n)) a_lockClocks b7 b8 b9 b10 b11 b12 b13 s b15) (fun m s => ∀ j, j < m → s j = nI (LC l j)) N b14 (fun j hj => by omega) ?_ ?_
    · intro f s es
      exact br_t (nI_le (Nat.le_refl _) (by omega)) (hY _ _ _ _ _ _ _ _ _ _ _ _ _ _ _ _ _ _ _ hYR es (fun tk' => hp s tk'))
    · intro f m s hm es ih
      refine br_f (nI_ge hm (by omega)) ⟨lr_v4 (by omega) (by omega), lr_v1 (by omega) (by omega), nm_r (e' := upd s m (nI (LC l m))) (by rw [lr_c1 (by omega), lr_c4 (by omega), (hCK.2.2 l m hl hm).1]) (nm_r (nI_1 m) (ih _ ?_))⟩
      intro j hj
      by_cases e : j = m
      · subst e; rw [pk_us]
      · rw [pk_un e]; exact es j (by omega)
  · intro f m s hm es ih
    refine br_f (nI_ge hm (by omega)) ⟨lr_v4 (by omega) (by omega), lr_v1 (by omega) (by omega), nm_r (e' := upd s m (nI (LC l m))) (by rw [lr_c1 (by omega), lr_c4 (by omega), (hCK.2.2 l m hl hm).1]) (nm_r (nI_1 m) (ih _ ?_))⟩
    intro j hj
    by_cases e : j = m
    · subst e; rw [pk_us]
    · rw [pk_un e]; exact es j (by omega)
end
end
section
/-! lines and the queue of waiting nodes -/
theorem lr_spl {α : Type} {l : List α} {i : Nat} {x : α} (h : l[i]? = some x) : ∃ a b, l = a ++ x :: b ∧ a.length = i := by
  have hi := lr_at_lt h
  have hx : l[i] = x := by
    have := List.getElem?_eq_getElem hi
    rw [this] at h; exact Option.some.inj h
  refine ⟨l.take i, l.drop (i + 1), ?_, by rw [List.length_take]; omega⟩
  rw [← hx, List.getElem_cons_drop, List.take_append_drop]
theorem lr_spl_at {α : Type} {a b : List α} {x : α} : (a ++ x :: b)[a.length]? = some x := by simp
theorem lr_shift {α : Type} {a b : List α} {x y : α} {j : Nat} (h : (a ++ b)[j]? = some y) : (j < a.length ∧ (a ++ x :: b)[j]? = some y) ∨ (a.length ≤ j ∧ j < a.length + b.length ∧ (a ++ x :: b)[j + 1]? = some y) := by
  by_cases e : j < a.length
  · rw [List.getElem?_append_left e] at h
    exact Or.inl ⟨e, by rw [List.getElem?_append_left e]; exact h⟩
  · have h2 := lr_at_lt h
    rw [List.length_append] at h2
    rw [List.getElem?_append_right (by omega)] at h
    refine Or.inr ⟨by omega, h2, ?_⟩
    rw [List.getElem?_append_right (by omega), show j + 1 - a.length = (j - a.length) + 1 by omega, List.getElem?_cons_succ]
    exact h
theorem lr_LL_app (a b : List (Nat × Nat)) (l : Nat) : lr_LL (a ++ b) l = lr_LL a l ++ lr_LL b l := by
  unfold lr_LL
  rw [List.filter_append, List.map_append]
theorem lr_LL_c1 {z : Nat × Nat} {b : List (Nat × Nat)} {l : Nat} (h : z.2 = l) : lr_LL (z :: b) l = z.1 :: lr_LL b l := by
  unfold lr_LL
  rw [List.filter_cons_of_pos (by simp [h]), List.map_cons]
theorem lr_LL_c0 {z : Nat × Nat} {b : List (Nat × Nat)} {l : Nat} (h : z.2 ≠ l) : lr_LL (z :: b) l = lr_LL b l := by
  unfold lr_LL
  rw [List.filter_cons_of_neg (by simp [h])]
theorem lr_LL_len (W : List (Nat × Nat)) (l : Nat) : (lr_LL W l).length ≤ W.length := by
  unfold lr_LL
  rw [List.length_map]
  exact List.length_filter_le _ _
theorem lr_LL_split {n l : Nat} : ∀ {W : List (Nat × Nat)} {pl : Nat}, (lr_LL W l)[pl]? = some n → ∃ a b, W = a ++ (n, l) :: b ∧ (lr_LL a l).length = pl := by
  intro W
  induction W with
  | nil => intro pl h; simp [lr_LL] at h
  | cons z W ih =>
    intro pl h
    by_cases e : z.2 = l
    · rw [lr_LL_c1 e] at h
      cases pl with
      | zero =>
        rw [List.getElem?_cons_zero] at h
        have h2 : z.1 = n := Option.some.inj h
        refine ⟨[], W, ?_, rfl⟩
        rw [List.nil_append, ← h2, ← e]
      | succ pl =>
        rw [List.getElem?_cons_succ] at h
        obtain ⟨a, b, h1, h2⟩ := ih h
        refine ⟨z :: a, b, by rw [h1]; rfl, ?_⟩
        rw [lr_LL_c1 e, List.length_cons, h2]
    · rw [lr_LL_c0 e] at h
      obtain ⟨a, b, h1, h2⟩ := ih h
      refine ⟨z :: a, b, by rw [h1]; rfl, ?_⟩
      rw [lr_LL_c0 e, h2]
theorem lr_LL_mem {n l : Nat} {W : List (Nat × Nat)} (h : (n, l) ∈ W) : n ∈ lr_LL W l := by
  unfold lr_LL
  exact List.mem_map.mpr ⟨(n, l), List.mem_filter.mpr ⟨h, by simp⟩, rfl⟩
theorem lr_nd_len {m : Nat} {l : List Nat} (h : l.Nodup) (hb : ∀ x, x ∈ l → x < m) : l.length ≤ m := by
  have := List.Nodup.length_le_of_subset (l₂ := List.range m) h (fun x hx => List.mem_range.mpr (hb x hx))
  rw [List.length_range] at this
  exact this
theorem lr_WT_len {N : Nat} {WQ : List (Nat × Nat)} {md ln ll qn ql : Nat → Int32} {qlen : Int32} (hN : N ≤ 4) (h : lr_WT N WQ md ln ll qn ql qlen) : WQ.length ≤ 4 := by
  have := lr_nd_len (m := N) h.2.1 (by
    intro x hx
    obtain ⟨z, hz, rfl⟩ := List.mem_map.mp hx
    exact (h.2.2.1 z hz).1)
  rw [List.length_map] at this
  omega
theorem lr_WT_len3 {N n : Nat} {WQ : List (Nat × Nat)} {md ln ll qn ql : Nat → Int32} {qlen : Int32} (hN : N ≤ 4) (hn : n < N) (hm : md n = 0) (h : lr_WT N WQ md ln ll qn ql qlen) : WQ.length ≤ 3 := by
  have := lr_nd_len (m := N) (l := n :: WQ.map Prod.fst) (List.nodup_cons.mpr ⟨by
    intro hx
    obtain ⟨z, hz, e⟩ := List.mem_map.mp hx
    have h1 := (h.2.2.1 z hz).2.2
    rw [e, hm] at h1
    exact absurd h1 (by decide), h.2.1⟩) (by
    intro x hx
    rcases List.mem_cons.mp hx with e | hx
    · rw [e]; exact hn
    · obtain ⟨z, hz, rfl⟩ := List.mem_map.mp hx
      exact (h.2.2.1 z hz).1)
  rw [List.length_cons, List.length_map] at this
  omega
def lr_sh (l pl i : Nat) (f : Nat → Int32) : Nat → Int32 := fun j => if j / 4 = l ∧ pl ≤ j % 4 ∧ j % 4 < i then f (j + 1) else f j
theorem lr_sh_0 {l pl : Nat} {f : Nat → Int32} : f = lr_sh l pl pl f := by
  funext j
  show _ = (if _ then _ else _)
  rw [if_neg (fun h => by omega)]
theorem lr_sh_hi {l pl i j : Nat} {f : Nat → Int32} (hj : j < 4) (h : i ≤ j) : lr_sh l pl i f (l * 4 + j) = f (l * 4 + j) := by
  show (if _ then _ else _) = _
  rw [if_neg (fun h => by omega)]
theorem lr_sh_lo {l pl i j : Nat} {f : Nat → Int32} (hj : j < 4) (h : j < pl) : lr_sh l pl i f (l * 4 + j) = f (l * 4 + j) := by
  show (if _ then _ else _) = _
  rw [if_neg (fun h => by omega)]
theorem lr_sh_at {l pl i j : Nat} {f : Nat → Int32} (hj : j < 4) (h1 : pl ≤ j) (h2 : j < i) : lr_sh l pl i f (l * 4 + j) = f (l * 4 + (j + 1)) := by
  show (if _ then f (l * 4 + j + 1) else _) = _
  rw [if_pos (by omega)]; rfl
theorem lr_sh_ne {l pl i j : Nat} {f : Nat → Int32} (h : j / 4 ≠ l) : lr_sh l pl i f j = f j := by
  show (if _ then _ else _) = _
  rw [if_neg (fun k => h k.1)]
theorem lr_sh_s {l pl i : Nat} {f : Nat → Int32} (hp : pl ≤ i) (hi : i < 3) : upd (lr_sh l pl i f) (l * 4 + i) (f (l * 4 + i + 1)) = lr_sh l pl (i + 1) f := by
  funext j
  by_cases e : j = l * 4 + i
  · rw [e, pk_us, lr_sh_at (by omega) hp (by omega)]; rfl
  · rw [pk_un e]
    show (if _ then _ else _) = (if _ then _ else _)
    by_cases h2 : j / 4 = l ∧ pl ≤ j % 4 ∧ j % 4 < i
    · rw [if_pos h2, if_pos (by omega)]
    · rw [if_neg h2, if_neg (by omega)]
def lr_sq (pl i : Nat) (f : Nat → Int32) : Nat → Int32 := fun j => if pl ≤ j ∧ j < i then f (j + 1) else f j
theorem lr_sq_0 {pl : Nat} {f : Nat → Int32} : f = lr_sq pl pl f := by
  funext j
  show _ = (if _ then _ else _)
  rw [if_neg (fun h => by omega)]
theorem lr_sq_hi {pl i j : Nat} {f : Nat → Int32} (h : i ≤ j) : lr_sq pl i f j = f j := by
  show (if _ then _ else _) = _
  rw [if_neg (fun h => by omega)]
theorem lr_sq_lo {pl i j : Nat} {f : Nat → Int32} (h : j < pl) : lr_sq pl i f j = f j := by
  show (if _ then _ else _) = _
  rw [if_neg (fun h => by omega)]
theorem lr_sq_at {pl i j : Nat} {f : Nat → Int32} (h1 : pl ≤ j) (h2 : j < i) : lr_sq pl i f j = f (j + 1) := by
  show (if _ then _ else _) = _
  rw [if_pos (by omega)]
theorem lr_sq_s {pl i : Nat} {f : Nat → Int32} (hp : pl ≤ i) : upd (lr_sq pl i f) i (f (i + 1)) = lr_sq pl (i + 1) f := by
  funext j
  by_cases e : j = i
  · rw [e, pk_us, lr_sq_at hp (by omega)]
  · rw [pk_un e]
    show (if _ then _ else _) = (if _ then _ else _)
    by_cases h2 : pl ≤ j ∧ j < i
    · rw [if_pos h2, if_pos (by omega)]
    · rw [if_neg h2, if_neg (by omega)]
section
variable {N P B R : Nat} {f_openPages f_openNodes f_freeSlotCount f_retained f_freeEntry f_entriesUsed f_episodeCount : Int32} {a_copy a_twin a_opened a_openCount a_queue a_queued a_fetchCount a_clocks a_dropped a_slots a_freeSlots a_stamps a_sums a_notices a_chain a_entryAddr a_entryValue a_entryNext a_mode a_holders a_line a_lineLength a_lockClocks a_target a_cursor a_floor : Nat → Int32}
theorem xx_leaveLine {post : SX → Prop} {l pl last : Nat} (hl : l < 4) (hpl : pl ≤ last) (hla : last < 4) (hlen : a_lineLength l = nI (last + 1)) (K : post (nI N, nI P, nI B, nI R, nI (P * B), f_openPages, f_openNodes, f_freeSlotCount, f_retained, f_freeEntry, f_entriesUsed, f_episodeCount, a_copy, a_twin, a_opened, a_openCount, a_queue, a_queued, a_fetchCount, a_clocks, a_dropped, a_slots, a_freeSlots, a_stamps, a_sums, a_notices, a_chain, a_entryAddr, a_entryValue, a_entryNext, a_mode, a_holders, lr_sh l pl last a_line, upd a_lineLength l (nI last), a_lockClocks, a_target, a_cursor, a_floor)) : wpX_leaveLine post (nI N, nI P, nI B, nI R, nI (P * B), f_openPages, f_openNodes, f_freeSlotCount, f_retained, f_freeEntry, f_entriesUsed, f_episodeCount, a_copy, a_twin, a_opened, a_openCount, a_queue, a_queued, a_fetchCount, a_clocks, a_dropped, a_slots, a_freeSlots, a_stamps, a_sums, a_notices, a_chain, a_entryAddr, a_entryValue, a_entryNext, a_mode, a_holders, a_line, a_lineLength, a_lockClocks, a_target, a_cursor, a_floor) (nI l) (nI pl) := by
  have h1 : (nI l).toNatClampNeg = l := lr_c1 (by omega)
  refine ⟨lr_v1 hl (by omega), nm_r (e' := nI last) (by rw [h1, hlen, nI_pred]) ⟨last - pl + 1, ?_⟩⟩
  refine loop_i (fun f i s => wX_leaveLine_12 post (nI l) (nI last) (nI N) (nI P) (nI B) (nI R) (nI (P * B)) f_openPages f_openNodes f_freeSlotCount f_retained f_freeEntry f_entriesUsed f_episodeCount f (nI i) a_copy a_twin a_opened a_openCount a_queue a_queued a_fetchCount a_clocks a_dropped a_slots a_freeSlots a_stamps a_sums a_notices a_chain a_entryAddr a_entryValue a_entryNext a_mode a_holders s a_lineLength a_lockClocks a_target a_cursor a_floor) (fun i s => pl ≤ i ∧ s = lr_sh l pl i a_line) last ?_ ?_ _ pl a_line hpl (by omega) ⟨Nat.le_refl _, lr_sh_0⟩
  · intro f s ⟨_, es⟩
    subst es
    exact br_t (nI_le (Nat.le_refl _) (by omega)) ⟨lr_v1 hl (by omega), nm_r (e' := upd a_lineLength l (nI last)) (by rw [h1]) K⟩
  · intro f i s hi ⟨hpi, es⟩ ih
    subst es
    refine br_f (nI_ge hi (by omega)) ⟨?_, lr_v4 (by omega) (by omega), nm_e (nm_r (nI_1 i) (ih _ ⟨by omega, ?_⟩))⟩
    · rw [lr_i4, nI_1]; exact lr_v1 (by omega) (by omega)
    · rw [lr_c4 (by omega), lr_i4, nI_1, lr_c1 (by omega), show l * 4 + i + 1 = l * 4 + (i + 1) by omega, lr_sh_hi (by omega) (by omega)]
      exact lr_sh_s hpi (by omega)
theorem xx_withdrawL {post : Int32 → SX → Prop} {n l0 : Nat} {WQ : List (Nat × Nat)} (hn : n < 4) (h4 : WQ.length ≤ 4) (hW : ∀ z, z ∈ WQ → z.1 < 4) (hl0 : l0 < 4) (hm : (n, l0) ∈ WQ) (hL : ∀ l, l < 4 → a_lineLength l = nI (lr_LL WQ l).length ∧ ∀ i m, (lr_LL WQ l)[i]? = some m → a_line (l * 4 + i) = nI m)
    (H : ∀ l pl, l < 4 → (lr_LL WQ l)[pl]? = some n → post 0 (nI N, nI P, nI B, nI R, nI (P * B), f_openPages, f_openNodes, f_freeSlotCount, f_retained, f_freeEntry, f_entriesUsed, f_episodeCount, a_copy, a_twin, a_opened, a_openCount, a_queue, a_queued, a_fetchCount, a_clocks, a_dropped, a_slots, a_freeSlots, a_stamps, a_sums, a_notices, a_chain, a_entryAddr, a_entryValue, a_entryNext, upd a_mode n 0, a_holders, lr_sh l pl ((lr_LL WQ l).length - 1) a_line, upd a_lineLength l (nI ((lr_LL WQ l).length - 1)), a_lockClocks, a_target, a_cursor, a_floor)) : ∃ n25 : Nat, wX_withdraw_25 post (nI n) (nI N) (nI P) (nI B) (nI R) (nI (P * B)) f_openPages f_openNodes f_freeSlotCount f_retained f_freeEntry f_entriesUsed f_episodeCount a_copy a_twin a_opened a_openCount a_queue a_queued a_fetchCount a_clocks a_dropped a_slots a_freeSlots a_stamps a_sums a_notices a_chain a_entryAddr a_entryValue a_entryNext a_mode a_holders a_line a_lineLength a_lockClocks a_target a_cursor a_floor n25 0 := by
  have hin : ∀ l m, m ∈ lr_LL WQ l → m < 4 := by
    intro l m h
    unfold lr_LL at h
    obtain ⟨z, hz, rfl⟩ := List.mem_map.mp h
    exact hW z (List.mem_filter.mp hz).1
  have key : ∀ d l, l + d = 4 → l ≤ l0 → wX_withdraw_25 post (nI n) (nI N) (nI P) (nI B) (nI R) (nI (P * B)) f_openPages f_openNodes f_freeSlotCount f_retained f_freeEntry f_entriesUsed f_episodeCount a_copy a_twin a_opened a_openCount a_queue a_queued a_fetchCount a_clocks a_dropped a_slots a_freeSlots a_stamps a_sums a_notices a_chain a_entryAddr a_entryValue a_entryNext a_mode a_holders a_line a_lineLength a_lockClocks a_target a_cursor a_floor (d + 1) (nI l) := by
    intro d
    induction d with
    | zero => intro l h1 h2; omega
    | succ d ih =>
      intro l h1 h2
      obtain ⟨g1, g2⟩ := hL l (by omega)
      have glen := lr_LL_len WQ l
      refine br_f (nI_ge (b := 4) (by omega) (by omega)) ⟨lr_v1 (by omega) (by omega), nm_r (e' := nI (lr_LL WQ l).length) (by rw [lr_c1 (by omega), g1]) ⟨(lr_LL WQ l).length + 1, ?_⟩⟩
      have inner : ∀ e pl, pl + e = (lr_LL WQ l).length → (∀ j, j < pl → (lr_LL WQ l)[j]? ≠ some n) → wX_withdraw_40 post (wX_withdraw_25 post (nI n) (nI N) (nI P) (nI B) (nI R) (nI (P * B)) f_openPages f_openNodes f_freeSlotCount f_retained f_freeEntry f_entriesUsed f_episodeCount a_copy a_twin a_opened a_openCount a_queue a_queued a_fetchCount a_clocks a_dropped a_slots a_freeSlots a_stamps a_sums a_notices a_chain a_entryAddr a_entryValue a_entryNext a_mode a_holders a_line a_lineLength a_lockClocks a_target a_cursor a_floor (d + 1)) (nI n) (nI l) (nI (lr_LL WQ l).length) (nI N) (nI P) (nI B) (nI R) (nI (P * B)) f_openPages f_openNodes f_freeSlotCount f_retained f_freeEntry f_entriesUsed f_episodeCount a_copy a_twin a_opened a_openCount a_queue a_queued a_fetchCount a_clocks a_dropped a_slots a_freeSlots a_stamps a_sums a_notices a_chain a_entryAddr a_entryValue a_entryNext a_mode a_holders a_line a_lineLength a_lockClocks a_target a_cursor a_floor (e + 1) (nI pl) := by
        intro e
        induction e with
        | zero =>
          intro pl hp hno
          refine br_t (nI_le (by omega) (by omega)) (nm_r (nI_1 l) (ih (l + 1) (by omega) ?_))
          rcases Nat.lt_or_ge l l0 with g | g
          · omega
          · exfalso
            have e2 : l = l0 := by omega
            subst e2
            obtain ⟨j, hj⟩ := lr_mem_at (lr_LL_mem hm)
            exact hno j (by have := lr_at_lt hj; omega) hj
        | succ e ihe =>
          intro pl hp hno
          have hg : (lr_LL WQ l)[pl]? = some (lr_LL WQ l)[pl] := List.getElem?_eq_getElem (by omega)
          have hv := g2 pl _ hg
          have hb := hin l _ (lr_at_mem hg)
          refine br_f (nI_ge (by omega) (by omega)) ⟨lr_v4 (by omega) (by omega), ?_⟩
          by_cases c : (lr_LL WQ l)[pl] = n
          · refine br_t (by rw [lr_c4 (by omega), hv, c]) (xx_leaveLine (last := (lr_LL WQ l).length - 1) (by omega) (by omega) (by omega) (by rw [g1]; exact congrArg nI (by omega)) ⟨lr_v1 hn (by omega), nm_r (e' := upd a_mode n 0) (by rw [lr_c1 (by omega)]) ?_⟩)
            exact H l pl (by omega) (by rw [hg, c])
          · refine br_f (by rw [lr_c4 (by omega), hv]; exact fun z => c ((nI_eq (by omega) (by omega)).mp z)) (nm_r (nI_1 pl) (ihe (pl + 1) (by omega) ?_))
            intro j hj
            by_cases e2 : j = pl
            · subst e2; rw [hg]; exact fun z => c (Option.some.inj z)
            · exact hno j (by omega)
      exact inner (lr_LL WQ l).length 0 (by omega) (fun j hj => by omega)
  exact ⟨_, key 4 0 (by omega) (by omega)⟩
end
section
variable {N P B R : Nat} {f_episodeCount f_queueLen f_recCount : Int32} {a_copies a_opened a_clocks a_holders a_queueNode a_queueLock a_recNode a_recNum a_recStamp a_recNotice a_recDiff a_v a_taken a_twin a_queued a_fetchCount a_mode a_lockClocks : Nat → Int32}
variable {k : Nat} {C LC : Nat → Nat → Nat} {D : Nat → Nat} {L : List lr_R} {Q : Nat → Nat → List lr_R} {WQ : List (Nat × Nat)}
theorem yy_unqueue {post : SY → Prop} {i m : Nat} (hi : i ≤ m) (hm : m < 4) (hq : f_queueLen = nI (m + 1)) (K : post (nI N, nI P, nI B, nI R, nI m, f_episodeCount, f_recCount, a_copies, a_twin, a_opened, a_queued, a_clocks, a_fetchCount, a_mode, a_holders, a_lockClocks, lr_sq i m a_queueNode, lr_sq i m a_queueLock, a_recNode, a_recNum, a_recStamp, a_recNotice, a_recDiff, a_v, a_taken)) : wpY_unqueue post (nI N, nI P, nI B, nI R, f_queueLen, f_episodeCount, f_recCount, a_copies, a_twin, a_opened, a_queued, a_clocks, a_fetchCount, a_mode, a_holders, a_lockClocks, a_queueNode, a_queueLock, a_recNode, a_recNum, a_recStamp, a_recNotice, a_recDiff, a_v, a_taken) (nI i) := by
  subst hq
  refine ⟨m - i + 1, ?_⟩
  refine loop_i (fun f j s => wY_unqueue_2 post (nI N) (nI P) (nI B) (nI R) (nI (m + 1)) f_episodeCount f_recCount f (nI j) a_copies a_twin a_opened a_queued a_clocks a_fetchCount a_mode a_holders a_lockClocks s.1 s.2 a_recNode a_recNum a_recStamp a_recNotice a_recDiff a_v a_taken) (fun j s => i ≤ j ∧ s = (lr_sq i j a_queueNode, lr_sq i j a_queueLock)) m ?_ ?_ (m - i + 1) i (a_queueNode, a_queueLock) hi (by omega) ⟨Nat.le_refl _, by rw [← lr_sq_0, ← lr_sq_0]⟩
  · intro f s ⟨_, es⟩
    subst es
    exact br_t (by rw [nI_1]; exact nI_le (Nat.le_refl _) (by omega)) (nm_r (nI_pred m) K)
  · intro f j s hj ⟨hij, es⟩ ih
    subst es
    have v1 : vp_in (nI j + 1) 4 := by rw [nI_1]; exact lr_v1 (by omega) (by omega)
    have v0 : vp_in (nI j) 4 := lr_v1 (by omega) (by omega)
    have c1 : (nI j + 1).toNatClampNeg = j + 1 := by rw [nI_1]; exact lr_c1 (by omega)
    have c0 : (nI j).toNatClampNeg = j := lr_c1 (by omega)
    refine br_f (by rw [nI_1]; exact nI_ge (by omega) (by omega)) ⟨v1, v0, nm_r (e' := lr_sq i (j + 1) a_queueNode) ?_ ⟨v1, v0, nm_r (e' := lr_sq i (j + 1) a_queueLock) ?_ (nm_r (nI_1 j) (ih (lr_sq i (j + 1) a_queueNode, lr_sq i (j + 1) a_queueLock) ⟨by omega, rfl⟩))⟩⟩
    · show upd (lr_sq i j a_queueNode) (nI j).toNatClampNeg (lr_sq i j a_queueNode (nI j + 1).toNatClampNeg) = _
      rw [c1, c0, lr_sq_hi (by omega), lr_sq_s hij]
    · show upd (lr_sq i j a_queueLock) (nI j).toNatClampNeg (lr_sq i j a_queueLock (nI j + 1).toNatClampNeg) = _
      rw [c1, c0, lr_sq_hi (by omega), lr_sq_s hij]
theorem yy_findWaiter {post : Int32 → Prop} {l pl : Nat} (hl : l < 4) (hpl : pl < 4) (h4 : WQ.length ≤ 4) (hq : f_queueLen = nI WQ.length) (hr : ∀ i z, WQ[i]? = some z → a_queueLock i = nI z.2) (hz : ∀ z, z ∈ WQ → z.2 < 4)
    (H1 : ∀ a z b, WQ = a ++ z :: b → z.2 = l → (lr_LL a l).length = pl → post (nI a.length)) (H0 : (lr_LL WQ l).length ≤ pl → post (-1)) : wpY_findWaiter post (nI N, nI P, nI B, nI R, f_queueLen, f_episodeCount, f_recCount, a_copies, a_twin, a_opened, a_queued, a_clocks, a_fetchCount, a_mode, a_holders, a_lockClocks, a_queueNode, a_queueLock, a_recNode, a_recNum, a_recStamp, a_recNotice, a_recDiff, a_v, a_taken) (nI l) (nI pl) := by
  subst hq
  have key : ∀ (b a : List (Nat × Nat)), WQ = a ++ b → (lr_LL a l).length ≤ pl → wY_findWaiter_5 post (nI l) (nI pl) (nI N) (nI P) (nI B) (nI R) (nI WQ.length) f_episodeCount f_recCount a_copies a_twin a_opened a_queued a_clocks a_fetchCount a_mode a_holders a_lockClocks a_queueNode a_queueLock a_recNode a_recNum a_recStamp a_recNotice a_recDiff a_v a_taken (b.length + 1) (nI (lr_LL a l).length) (nI a.length) := by
    intro b
    induction b with
    | nil =>
      intro a e hc
      rw [List.append_nil] at e
      subst e
      exact br_t (nI_le (Nat.le_refl _) (by omega)) (H0 hc)
    | cons z b ih =>
      intro a e hc
      have hat : WQ[a.length]? = some z := by rw [e]; exact lr_spl_at
      have hlt := lr_at_lt hat
      have hz2 := hz z (lr_at_mem hat)
      have hca := lr_LL_len a l
      have hcl : a_queueLock (nI a.length).toNatClampNeg = nI z.2 := by rw [lr_c1 (by omega), hr _ _ hat]
      have e2 : WQ = (a ++ [z]) ++ b := by rw [e, List.append_assoc]; rfl
      have ihz := ih (a ++ [z]) e2
      rw [List.length_append, List.length_singleton] at ihz
      refine br_f (nI_ge hlt (by omega)) ⟨lr_v1 (by omega) (by omega), ?_⟩
      by_cases c : z.2 = l
      · have hlz : (lr_LL (a ++ [z]) l).length = (lr_LL a l).length + 1 := by rw [lr_LL_app, lr_LL_c1 c, List.length_append]; rfl
        refine br_t (by rw [hcl, c]) ?_
        by_cases c2 : (lr_LL a l).length = pl
        · exact br_t (by rw [c2]) (H1 a z b e c c2)
        · rw [hlz] at ihz
          exact br_f (fun y => c2 ((nI_eq (by omega) (by omega)).mp y)) (nm_r (nI_1 _) (nm_r (nI_1 _) (ihz (by omega))))
      · have hlz : (lr_LL (a ++ [z]) l).length = (lr_LL a l).length := by
          rw [lr_LL_app, lr_LL_c0 c, List.length_append]; rfl
        rw [hlz] at ihz
        exact br_f (by rw [hcl]; exact fun y => c ((nI_eq (by omega) (by omega)).mp y)) (nm_r (nI_1 _) (ihz hc))
  exact ⟨_, key WQ [] rfl (Nat.zero_le _)⟩
theorem yy_withdrawL {post : Int32 → SY → Prop} {n : Nat} (hn : n < 4) (h4 : WQ.length ≤ 4) (hq : f_queueLen = nI WQ.length) (hr : ∀ i z, WQ[i]? = some z → a_queueNode i = nI z.1) (hz : ∀ z, z ∈ WQ → z.1 < 4) (hm : ∃ z, z ∈ WQ ∧ z.1 = n)
    (H : ∀ a z b, WQ = a ++ z :: b → z.1 = n → post 0 (nI N, nI P, nI B, nI R, nI (WQ.length - 1), f_episodeCount, f_recCount, a_copies, a_twin, a_opened, a_queued, a_clocks, a_fetchCount, upd a_mode n 0, a_holders, a_lockClocks, lr_sq a.length (WQ.length - 1) a_queueNode, lr_sq a.length (WQ.length - 1) a_queueLock, a_recNode, a_recNum, a_recStamp, a_recNotice, a_recDiff, a_v, a_taken)) : ∃ n27 : Nat, wY_withdraw_27 post (nI n) (nI N) (nI P) (nI B) (nI R) f_queueLen f_episodeCount f_recCount a_copies a_twin a_opened a_queued a_clocks a_fetchCount a_mode a_holders a_lockClocks a_queueNode a_queueLock a_recNode a_recNum a_recStamp a_recNotice a_recDiff a_v a_taken n27 (-1) 0 := by
  subst hq
  have key : ∀ (b a : List (Nat × Nat)) (x : Int32), WQ = a ++ b → ((x = -1 ∧ ∀ z, z ∈ a → z.1 ≠ n) ∨ (∃ a1 z b1, WQ = a1 ++ z :: b1 ∧ z.1 = n ∧ x = nI a1.length)) → wY_withdraw_27 post (nI n) (nI N) (nI P) (nI B) (nI R) (nI WQ.length) f_episodeCount f_recCount a_copies a_twin a_opened a_queued a_clocks a_fetchCount a_mode a_holders a_lockClocks a_queueNode a_queueLock a_recNode a_recNum a_recStamp a_recNotice a_recDiff a_v a_taken (b.length + 1) x (nI a.length) := by
    intro b
    induction b with
    | nil =>
      intro a x e hx
      rw [List.append_nil] at e
      rcases hx with ⟨_, h2⟩ | ⟨a1, z, b1, h1, h2, h3⟩
      · obtain ⟨z, hz1, hz2⟩ := hm
        rw [e] at hz1
        exact absurd hz2 (h2 z hz1)
      · have hlen : WQ.length = a1.length + (b1.length + 1) := by rw [h1, List.length_append, List.length_cons]
        subst h3
        rw [← e]
        refine br_t (nI_le (Nat.le_refl _) (by omega)) (br_f (nI_pos (by omega)) (yy_unqueue (m := WQ.length - 1) (by omega) (by omega) (congrArg nI (by omega)) ⟨lr_v1 hn (by omega), nm_r (e' := upd a_mode n 0) (by rw [lr_c1 (by omega)]) (H a1 z b1 h1 h2)⟩))
    | cons z b ih =>
      intro a x e hx
      have hat : WQ[a.length]? = some z := by rw [e]; exact lr_spl_at
      have hlt := lr_at_lt hat
      have hz1 := hz z (lr_at_mem hat)
      have hcl : a_queueNode (nI a.length).toNatClampNeg = nI z.1 := by rw [lr_c1 (by omega), hr _ _ hat]
      have e2 : WQ = (a ++ [z]) ++ b := by rw [e, List.append_assoc]; rfl
      have ihz := fun y => ih (a ++ [z]) y e2
      rw [List.length_append, List.length_singleton] at ihz
      refine br_f (nI_ge hlt (by omega)) ⟨lr_v1 (by omega) (by omega), ?_⟩
      by_cases c : z.1 = n
      · exact br_t (by rw [hcl, c]) (nm_r (nI_1 _) (ihz _ (Or.inr ⟨a, z, b, e, c, rfl⟩)))
      · refine br_f (by rw [hcl]; exact fun y => c ((nI_eq (by omega) (by omega)).mp y)) (nm_r (nI_1 _) (ihz _ ?_))
        rcases hx with ⟨h1, h2⟩ | hx
        · refine Or.inl ⟨h1, ?_⟩
          intro z' hz'
          rcases List.mem_append.mp hz' with y | y
          · exact h2 z' y
          · rw [List.mem_singleton] at y; rw [y]; exact c
        · exact Or.inr hx
  exact ⟨_, key WQ [] (-1) rfl (Or.inl ⟨rfl, fun z hz => by cases hz⟩)⟩
end
end
section
/-! the waiting nodes: leaving, coming -/
theorem lr_WT_rem {N n l : Nat} {a b : List (Nat × Nat)} {md ln ll qn ql : Nat → Int32} {qlen : Int32} (hN : N ≤ 4) (hl : l < 4) (h : lr_WT N (a ++ (n, l) :: b) md ln ll qn ql qlen) :
    lr_WT N (a ++ b) (upd md n 0) (lr_sh l (lr_LL a l).length ((lr_LL (a ++ (n, l) :: b) l).length - 1) ln) (upd ll l (nI ((lr_LL (a ++ (n, l) :: b) l).length - 1))) (lr_sq a.length ((a ++ (n, l) :: b).length - 1) qn) (lr_sq a.length ((a ++ (n, l) :: b).length - 1) ql) (nI ((a ++ (n, l) :: b).length - 1)) := by
  have h4 := lr_WT_len hN h
  obtain ⟨⟨h1, h2⟩, h3, h5, h6, h7⟩ := h
  have hlen : (a ++ (n, l) :: b).length = a.length + b.length + 1 := by rw [List.length_append, List.length_cons]; omega
  have hLL : lr_LL (a ++ (n, l) :: b) l = lr_LL a l ++ n :: lr_LL b l := by rw [lr_LL_app, lr_LL_c1 rfl]
  have hLLl : (lr_LL (a ++ (n, l) :: b) l).length = (lr_LL a l).length + (lr_LL b l).length + 1 := by rw [hLL, List.length_append, List.length_cons]; omega
  have hsub : List.Sublist (a ++ b) (a ++ (n, l) :: b) := List.Sublist.append (List.Sublist.refl a) (List.sublist_cons_self _ b)
  have hne : ∀ z, z ∈ a ++ b → z.1 ≠ n := by
    intro z hz e
    rw [List.map_append, List.map_cons, List.nodup_append] at h3
    obtain ⟨_, g2, g3⟩ := h3
    rcases List.mem_append.mp hz with y | y
    · exact g3 z.1 (List.mem_map.mpr ⟨z, y, rfl⟩) n List.mem_cons_self e
    · exact (List.nodup_cons.mp g2).1 (List.mem_map.mpr ⟨z, y, e⟩)
  have hg := lr_LL_len (a ++ (n, l) :: b) l
  refine ⟨⟨?_, ?_⟩, ?_, ?_, ?_, ?_⟩
  · rw [hlen, List.length_append]; exact congrArg nI (by omega)
  · intro i z hi
    rcases lr_shift (x := (n, l)) hi with ⟨c1, c2⟩ | ⟨c1, c2, c3⟩
    · rw [lr_sq_lo c1, lr_sq_lo c1]; exact h2 i z c2
    · rw [lr_sq_at c1 (by omega), lr_sq_at c1 (by omega)]; exact h2 (i + 1) z c3
  · exact List.Nodup.sublist (List.Sublist.map _ hsub) h3
  · intro z hz
    obtain ⟨g1, g2, g3⟩ := h5 z (hsub.mem hz)
    exact ⟨g1, g2, by rw [pk_un (hne z hz)]; exact g3⟩
  · intro n' hn' hm
    by_cases e : n' = n
    · subst e; rw [pk_us] at hm; exact absurd hm (by decide)
    · rw [pk_un e] at hm
      obtain ⟨l', hl'⟩ := h6 n' hn' hm
      refine ⟨l', ?_⟩
      rcases List.mem_append.mp hl' with y | y
      · exact List.mem_append_left _ y
      · rcases List.mem_cons.mp y with y | y
        · exact absurd (congrArg Prod.fst y) e
        · exact List.mem_append_right _ y
  · intro l' hl'
    by_cases e : l' = l
    · subst e
      rw [pk_us, lr_LL_app a b]
      refine ⟨?_, ?_⟩
      · rw [hLLl, List.length_append]; exact congrArg nI (by omega)
      · intro i m hi
        rcases lr_shift (x := n) hi with ⟨c1, c2⟩ | ⟨c1, c2, c3⟩
        · rw [lr_sh_lo (by omega) c1]; exact (h7 l' hl').2 i m (by rw [hLL]; exact c2)
        · rw [lr_sh_at (by omega) c1 (by omega)]; exact (h7 l' hl').2 (i + 1) m (by rw [hLL]; exact c3)
    · have e2 : lr_LL (a ++ b) l' = lr_LL (a ++ (n, l) :: b) l' := by rw [lr_LL_app, lr_LL_app, lr_LL_c0 (fun z => e z.symm)]
      rw [pk_un e, e2]
      refine ⟨(h7 l' hl').1, ?_⟩
      intro i m hi
      have g1 := lr_at_lt hi
      have g2 := lr_LL_len (a ++ (n, l) :: b) l'
      rw [lr_sh_ne (by omega)]
      exact (h7 l' hl').2 i m hi
theorem lr_at_snoc {α : Type} {l : List α} {x y : α} {i : Nat} (h : (l ++ [x])[i]? = some y) : (i < l.length ∧ l[i]? = some y) ∨ (i = l.length ∧ y = x) := by
  by_cases e : i < l.length
  · rw [List.getElem?_append_left e] at h
    exact Or.inl ⟨e, h⟩
  · have h5 := lr_at_lt h
    rw [List.length_append, List.length_singleton] at h5
    have e2 : i = l.length := by omega
    subst e2
    rw [List.getElem?_concat_length] at h
    exact Or.inr ⟨rfl, (Option.some.inj h).symm⟩
theorem lr_WT_add {N n l : Nat} {WQ : List (Nat × Nat)} {md ln ll qn ql : Nat → Int32} {qlen : Int32} (hN : N ≤ 4) (hn : n < N) (hl : l < 4) (hm : md n = 0) (h : lr_WT N WQ md ln ll qn ql qlen) :
    lr_WT N (WQ ++ [(n, l)]) (upd md n 1) (upd ln (l * 4 + (lr_LL WQ l).length) (nI n)) (upd ll l (nI ((lr_LL WQ l).length + 1))) (upd qn WQ.length (nI n)) (upd ql WQ.length (nI l)) (nI (WQ.length + 1)) := by
  have h4 := lr_WT_len3 hN hn hm h
  obtain ⟨⟨h1, h2⟩, h3, h5, h6, h7⟩ := h
  have hne : ∀ z, z ∈ WQ → z.1 ≠ n := by
    intro z hz e
    have := (h5 z hz).2.2
    rw [e, hm] at this
    exact absurd this (by decide)
  refine ⟨⟨?_, ?_⟩, ?_, ?_, ?_, ?_⟩
  · rw [List.length_append, List.length_singleton]
  · intro i z hi
    rcases lr_at_snoc hi with ⟨c1, c2⟩ | ⟨c1, c2⟩
    · rw [pk_un (by omega), pk_un (by omega)]; exact h2 i z c2
    · subst c1 c2; rw [pk_us, pk_us]; exact ⟨rfl, rfl⟩
  · rw [List.map_append, List.nodup_append]
    refine ⟨h3, by simp, ?_⟩
    intro x hx y hy e
    obtain ⟨z, hz, rfl⟩ := List.mem_map.mp hx
    rw [List.map_singleton, List.mem_singleton] at hy
    rw [hy] at e
    exact hne z hz e
  · intro z hz
    rcases List.mem_append.mp hz with y | y
    · obtain ⟨g1, g2, g3⟩ := h5 z y
      exact ⟨g1, g2, by rw [pk_un (hne z y)]; exact g3⟩
    · rw [List.mem_singleton] at y
      subst y
      exact ⟨hn, hl, pk_us⟩
  · intro n' hn' hm'
    by_cases e : n' = n
    · subst e; exact ⟨l, by simp⟩
    · rw [pk_un e] at hm'
      obtain ⟨l', hl'⟩ := h6 n' hn' hm'
      exact ⟨l', List.mem_append_left _ hl'⟩
  · intro l' hl'
    have g2 := lr_LL_len WQ l'
    have g3 := lr_LL_len WQ l
    by_cases e : l' = l
    · subst e
      rw [pk_us, lr_LL_app, lr_LL_c1 rfl]
      refine ⟨by rw [List.length_append]; rfl, ?_⟩
      intro i m hi
      rcases lr_at_snoc (l := lr_LL WQ l') (x := n) hi with ⟨c1, c2⟩ | ⟨c1, c2⟩
      · rw [pk_un (by omega)]; exact (h7 l' hl').2 i m c2
      · subst c1 c2; rw [pk_us]
    · rw [pk_un e, lr_LL_app, lr_LL_c0 (fun z => e z.symm)]
      have e3 : lr_LL WQ l' ++ lr_LL [] l' = lr_LL WQ l' := List.append_nil _
      rw [e3]
      refine ⟨(h7 l' hl').1, ?_⟩
      intro i m hi
      have g1 := lr_at_lt hi
      rw [pk_un (by omega)]; exact (h7 l' hl').2 i m hi
theorem lr_WT_md {N : Nat} {WQ : List (Nat × Nat)} {md md' ln ll qn ql : Nat → Int32} {qlen : Int32} (h : lr_WT N WQ md ln ll qn ql qlen) (he : ∀ n, n < N → (md' n = 1 ↔ md n = 1)) : lr_WT N WQ md' ln ll qn ql qlen := by
  obtain ⟨h1, h3, h5, h6, h7⟩ := h
  refine ⟨h1, h3, ?_, ?_, h7⟩
  · intro z hz
    obtain ⟨g1, g2, g3⟩ := h5 z hz
    exact ⟨g1, g2, (he _ g1).mpr g3⟩
  · intro n hn hm
    exact h6 n hn ((he n hn).mp hm)
/-- two ways to split the waiting list at node n are one -/
theorem lr_W1 {n l : Nat} {a b a' b' : List (Nat × Nat)} {z : Nat × Nat} (hnd : ((a ++ (n, l) :: b).map Prod.fst).Nodup) (e : a ++ (n, l) :: b = a' ++ z :: b') (hz : z.1 = n) : a' = a ∧ b' = b ∧ z = (n, l) := by
  have h1 : ((a ++ (n, l) :: b).map Prod.fst)[a.length]? = some n := by
    rw [List.getElem?_map, lr_spl_at]; rfl
  have h2 : ((a ++ (n, l) :: b).map Prod.fst)[a'.length]? = some n := by
    rw [e, List.getElem?_map, lr_spl_at, ← hz]; rfl
  have h3 : a.length = a'.length := (List.getElem?_inj (lr_at_lt h1) hnd).mp (h1.trans h2.symm)
  obtain ⟨h4, h5⟩ := List.append_inj e h3
  obtain ⟨h6, h7⟩ := List.cons.inj h5
  exact ⟨h4.symm, h7.symm, h6.symm⟩
end
section
/-! writes -/
theorem lr_M3_wr {N P B n p w : Nat} {Q : Nat → Nat → List lr_R} {cp cps : Nat → Int32} {v : Int32} (hPB : P * B ≤ 32) (hp : p < P) (hw : w < B) (hQ : Q n p = []) (hv : ¬ v < 0) (h : lr_M3 N P B Q cp cps) : lr_M3 N P B Q (upd cp (n * 32 + (p * B + w)) v) (upd cps (n * 32 + (p * B + w)) v) := by
  intro n' p' w' hn' hp' hw'
  have h1 := lr_pB (B := B) hp
  have h2 := lr_pB (B := B) hp'
  by_cases e : n' * 32 + (p' * B + w') = n * 32 + (p * B + w)
  · have e1 : n' = n := by omega
    have e2 : p' * B + w' = p * B + w := by omega
    have e3 : p' = p := by
      have h3 := lr_divB (p := p') hw'
      rw [e2, lr_divB hw] at h3
      exact h3.symm
    rw [e, pk_us, pk_us, e1, e3, hQ]
    exact ⟨rfl, hv⟩
  · rw [pk_un e, pk_un e]
    exact h n' p' w' hn' hp' hw'
theorem lr_us_take {A r : Nat} {L : List lr_R} (h : r < L.length) : lr_us A (L.take (r + 1)) = lr_us A (L.take r) + lr_cn (lr_d L[r]) A := by
  rw [← List.take_append_getElem h, lr_us_snoc]
section
variable {N P B R : Nat} {f_openPages f_openNodes f_freeSlotCount f_retained f_freeEntry f_entriesUsed f_episodeCount : Int32} {a_copy a_twin a_opened a_openCount a_queue a_queued a_fetchCount a_clocks a_dropped a_slots a_freeSlots a_stamps a_sums a_notices a_chain a_entryAddr a_entryValue a_entryNext a_mode a_holders a_line a_lineLength a_lockClocks a_target a_cursor a_floor : Nat → Int32}
variable {k : Nat} {C LC : Nat → Nat → Nat} {D : Nat → Nat} {L : List lr_R} {Q : Nat → Nat → List lr_R} {WQ : List (Nat × Nat)}
variable {f_queueLen f_recCount : Int32} {a_copies a_queueNode a_queueLock a_recNode a_recNum a_recStamp a_recNotice a_recDiff a_v a_taken : Nat → Int32}
theorem xx_pw {post : Int32 → SX → Prop} {n a : Nat} (Z : lr_Sz N P B R) (hL : L.length ≤ 32) (hOP : lr_OP N P a_opened a_openCount f_openPages f_openNodes)
    (X : lr_XR N P B L f_freeSlotCount f_retained f_freeEntry f_entriesUsed a_slots a_freeSlots a_stamps a_sums a_notices a_chain a_entryAddr a_entryValue a_entryNext) (m1 : lr_M1 N P C L Q a_queued a_opened) (m2 : lr_M2 N P Q a_queue) (hn : n < N) (ha : a < P * B)
    (Hb : ¬ a_mode n = 0 → post (-2) (nI N, nI P, nI B, nI R, nI (P * B), f_openPages, f_openNodes, f_freeSlotCount, f_retained, f_freeEntry, f_entriesUsed, f_episodeCount, a_copy, a_twin, a_opened, a_openCount, a_queue, a_queued, a_fetchCount, a_clocks, a_dropped, a_slots, a_freeSlots, a_stamps, a_sums, a_notices, a_chain, a_entryAddr, a_entryValue, a_entryNext, a_mode, a_holders, a_line, a_lineLength, a_lockClocks, a_target, a_cursor, a_floor)) (H1 : a_mode n = 0 → ¬ a_opened (n * 4 + a / B) = 0 → post 0 (nI N, nI P, nI B, nI R, nI (P * B), f_openPages, f_openNodes, f_freeSlotCount, f_retained, f_freeEntry, f_entriesUsed, f_episodeCount, a_copy, a_twin, a_opened, a_openCount, a_queue, a_queued, a_fetchCount, a_clocks, a_dropped, a_slots, a_freeSlots, a_stamps, a_sums, a_notices, a_chain, a_entryAddr, a_entryValue, a_entryNext, a_mode, a_holders, a_line, a_lineLength, a_lockClocks, a_target, a_cursor, a_floor))
    (H5 : a_mode n = 0 → a_opened (n * 4 + a / B) = 0 → (lr_on a_opened P n = 0 ∧ R ≤ L.length + lr_sum (fun n => lr_b1 (lr_on a_opened P n)) N) → post (-5) (nI N, nI P, nI B, nI R, nI (P * B), f_openPages, f_openNodes, f_freeSlotCount, f_retained, f_freeEntry, f_entriesUsed, f_episodeCount, a_copy, a_twin, a_opened, a_openCount, a_queue, a_queued, a_fetchCount, a_clocks, a_dropped, a_slots, a_freeSlots, a_stamps, a_sums, a_notices, a_chain, a_entryAddr, a_entryValue, a_entryNext, a_mode, a_holders, a_line, a_lineLength, a_lockClocks, a_target, a_cursor, a_floor))
    (H6 : a_mode n = 0 → a_opened (n * 4 + a / B) = 0 → ¬ (lr_on a_opened P n = 0 ∧ R ≤ L.length + lr_sum (fun n => lr_b1 (lr_on a_opened P n)) N) → 64 < lr_us (P * B) L + B * lr_sum (lr_on a_opened P) N + B → post (-6) (nI N, nI P, nI B, nI R, nI (P * B), f_openPages, f_openNodes, f_freeSlotCount, f_retained, f_freeEntry, f_entriesUsed, f_episodeCount, a_copy, a_twin, a_opened, a_openCount, a_queue, a_queued, a_fetchCount, a_clocks, a_dropped, a_slots, a_freeSlots, a_stamps, a_sums, a_notices, a_chain, a_entryAddr, a_entryValue, a_entryNext, a_mode, a_holders, a_line, a_lineLength, a_lockClocks, a_target, a_cursor, a_floor))
    (H0 : a_mode n = 0 → a_opened (n * 4 + a / B) = 0 → ¬ (lr_on a_opened P n = 0 ∧ R ≤ L.length + lr_sum (fun n => lr_b1 (lr_on a_opened P n)) N) → lr_us (P * B) L + B * lr_sum (lr_on a_opened P) N + B ≤ 64 →
      post 0 (nI N, nI P, nI B, nI R, nI (P * B), f_openPages + 1, if a_openCount n = 0 then f_openNodes + 1 else f_openNodes, f_freeSlotCount, f_retained, f_freeEntry, f_entriesUsed, f_episodeCount, lr_acc n (a / B * B) B (Q n (a / B)) a_copy, lr_tw n (a / B * B) B (lr_acc n (a / B * B) B (Q n (a / B)) a_copy) a_twin, upd a_opened (n * 4 + a / B) 1, upd a_openCount n (a_openCount n + 1), a_queue, upd a_queued (n * 4 + a / B) 0, upd a_fetchCount n (a_fetchCount n + a_queued (n * 4 + a / B)), a_clocks, a_dropped, a_slots, a_freeSlots, a_stamps, a_sums, a_notices, a_chain, a_entryAddr, a_entryValue, a_entryNext, a_mode, a_holders, a_line, a_lineLength, a_lockClocks, a_target, a_cursor, a_floor)) :
    wpX_prepareWrite post (nI N, nI P, nI B, nI R, nI (P * B), f_openPages, f_openNodes, f_freeSlotCount, f_retained, f_freeEntry, f_entriesUsed, f_episodeCount, a_copy, a_twin, a_opened, a_openCount, a_queue, a_queued, a_fetchCount, a_clocks, a_dropped, a_slots, a_freeSlots, a_stamps, a_sums, a_notices, a_chain, a_entryAddr, a_entryValue, a_entryNext, a_mode, a_holders, a_line, a_lineLength, a_lockClocks, a_target, a_cursor, a_floor) (nI n) (nI a) := by
  have hPB := lr_PB Z
  have Z' := Z
  obtain ⟨z1, z2, z3, z4, z5, z6, z7, z8⟩ := Z
  obtain ⟨g1, g2, g3⟩ := lr_pgof z5 ha
  have hpb := lr_pB (B := B) g1
  have hd : nI a / nI B = nI (a / B) := pk_div (by omega) (by omega) (by omega)
  have hc1 : (nI n).toNatClampNeg = n := lr_c1 (by omega)
  obtain ⟨o1, o2, o3, o4⟩ := hOP
  obtain ⟨F, K, ⟨x1, x2, x3, x4⟩, xE, xq, xF⟩ := X
  have hX : lr_XR N P B L f_freeSlotCount f_retained f_freeEntry f_entriesUsed a_slots a_freeSlots a_stamps a_sums a_notices a_chain a_entryAddr a_entryValue a_entryNext := ⟨F, K, ⟨x1, x2, x3, x4⟩, xE, xq, xF⟩
  have hol := lr_on_le a_opened P n
  have hwn : lr_sum (fun n => lr_b1 (lr_on a_opened P n)) N ≤ N * 1 := lr_sum_bd (fun i _ => lr_b1_le _)
  have hpn : lr_sum (lr_on a_opened P) N ≤ N * P := lr_sum_bd (fun i _ => lr_on_le _ _ _)
  have hNP : N * P ≤ 4 * 4 := Nat.mul_le_mul z2 z4
  have hBpn : B * lr_sum (lr_on a_opened P) N ≤ 8 * 16 := Nat.mul_le_mul z6 (by omega)
  unfold wpX_prepareWrite; dsimp only
  refine xx_bN1 z2 hn (br_t rfl (xx_bA1 hPB ha (br_t rfl ⟨lr_v1 (by omega) (by omega), ?_⟩)))
  by_cases c : a_mode n = 0
  · refine br_t (by rw [hc1]; exact c) ⟨nI_ne0 (by omega) (by omega), nm_r hd ⟨lr_v4 (by omega) (by omega), ?_⟩⟩
    by_cases co : a_opened (n * 4 + a / B) = 0
    · refine br_t (by rw [lr_c4 (by omega)]; exact co) ⟨lr_v1 (by omega) (by omega), ?_⟩
      have h80 : ¬ (lr_on a_opened P n = 0 ∧ R ≤ L.length + lr_sum (fun n => lr_b1 (lr_on a_opened P n)) N) → wX_prepareWrite_80 post (nI n) (nI (a / B)) (nI N) (nI P) (nI B) (nI R) (nI (P * B)) f_openPages f_openNodes f_freeSlotCount f_retained f_freeEntry f_entriesUsed f_episodeCount a_copy a_twin a_opened a_openCount a_queue a_queued a_fetchCount a_clocks a_dropped a_slots a_freeSlots a_stamps a_sums a_notices a_chain a_entryAddr a_entryValue a_entryNext a_mode a_holders a_line a_lineLength a_lockClocks a_target a_cursor a_floor := by
        intro h5
        have he : f_entriesUsed + nI B * f_openPages + nI B = nI (lr_us (P * B) L + B * lr_sum (lr_on a_opened P) N + B) := by rw [x3, o3, pk_mul, nI_add, nI_add]
        by_cases c6 : lr_us (P * B) L + B * lr_sum (lr_on a_opened P) N + B ≤ 64
        · refine br_t (by rw [he]; exact nI_le (b := 64) c6 (by omega)) (xx_accessR Z' hL hX m1 m2 hn g1 (xx_openPage (by omega) (by omega) z6 (by omega) (H0 c co h5 c6)))
        · exact br_f (by rw [he]; exact nI_ge (a := 64) (by omega) (by omega)) (H6 c co h5 (by omega))
      by_cases c0 : lr_on a_opened P n = 0
      · refine br_t (by rw [hc1, o2 n hn, c0]; rfl) ?_
        have he : f_retained + f_openNodes = nI (L.length + lr_sum (fun n => lr_b1 (lr_on a_opened P n)) N) := by rw [x2, o4, nI_add]
        by_cases c5 : R ≤ L.length + lr_sum (fun n => lr_b1 (lr_on a_opened P n)) N
        · exact br_f (by rw [he]; exact nI_nlt c5 (by omega)) (H5 c co ⟨c0, c5⟩)
        · exact br_t (by rw [he]; exact nI_lt (by omega) (by omega)) (h80 (fun z => c5 z.2))
      · exact br_f (by rw [hc1, o2 n hn]; exact nI_ne0 (by omega) (by omega)) (h80 (fun z => c0 z.1))
    · exact br_f (by rw [lr_c4 (by omega)]; exact co) (H1 c co)
  · exact br_f (by rw [hc1]; exact c) (Hb c)
end
section
variable {N P B R : Nat} {f_episodeCount f_queueLen f_recCount : Int32} {a_copies a_opened a_clocks a_holders a_queueNode a_queueLock a_recNode a_recNum a_recStamp a_recNotice a_recDiff a_v a_taken a_twin a_queued a_fetchCount a_mode a_lockClocks : Nat → Int32}
variable {k : Nat} {C LC : Nat → Nat → Nat} {D : Nat → Nat} {L : List lr_R} {Q : Nat → Nat → List lr_R} {WQ : List (Nat × Nat)}
theorem yy_write326 {post : Int32 → SY → Prop} {n a : Nat} {x : Int32} (hn : n < 4) (ha : a < 32) (K : post 0 (nI N, nI P, nI B, nI R, f_queueLen, f_episodeCount, f_recCount, upd a_copies (n * 32 + a) (x &&& 65535), a_twin, a_opened, a_queued, a_clocks, a_fetchCount, a_mode, a_holders, a_lockClocks, a_queueNode, a_queueLock, a_recNode, a_recNum, a_recStamp, a_recNotice, a_recDiff, a_v, a_taken)) : wY_write_326 post (nI n) (nI a) x (nI N) (nI P) (nI B) (nI R) f_queueLen f_episodeCount f_recCount a_copies a_twin a_opened a_queued a_clocks a_fetchCount a_mode a_holders a_lockClocks a_queueNode a_queueLock a_recNode a_recNum a_recStamp a_recNotice a_recDiff a_v a_taken :=
  ⟨lr_v32 (by omega) (by omega), nm_r (e' := upd a_copies (n * 32 + a) (x &&& 65535)) (by rw [lr_c32 (by omega)]) K⟩
theorem yy_write279 {post : Int32 → SY → Prop} {n a p : Nat} {x : Int32} (hn : n < 4) (ha : a < 32) (hB : B ≤ 8) (hb : p * B + B ≤ 32) (K : post 0 (nI N, nI P, nI B, nI R, f_queueLen, f_episodeCount, f_recCount, upd a_copies (n * 32 + a) (x &&& 65535), lr_tw n (p * B) B a_copies a_twin, a_opened, a_queued, a_clocks, a_fetchCount, a_mode, a_holders, a_lockClocks, a_queueNode, a_queueLock, a_recNode, a_recNum, a_recStamp, a_recNotice, a_recDiff, a_v, a_taken)) : ∃ n279 : Nat, wY_write_279 post (nI n) (nI a) x (nI p) (nI N) (nI P) (nI B) (nI R) f_queueLen f_episodeCount f_recCount n279 (nI (p * B)) a_copies a_twin a_opened a_queued a_clocks a_fetchCount a_mode a_holders a_lockClocks a_queueNode a_queueLock a_recNode a_recNum a_recStamp a_recNotice a_recDiff a_v a_taken := by
  refine loop_0 (fun f i s => wY_write_279 post (nI n) (nI a) x (nI p) (nI N) (nI P) (nI B) (nI R) f_queueLen f_episodeCount f_recCount f (nI (p * B + i)) a_copies s a_opened a_queued a_clocks a_fetchCount a_mode a_holders a_lockClocks a_queueNode a_queueLock a_recNode a_recNum a_recStamp a_recNotice a_recDiff a_v a_taken) (fun i s => s = lr_tw n (p * B) i a_copies a_twin) B a_twin lr_tw_0 ?_ ?_
  · intro f s es
    subst es
    exact br_t (by rw [pk_mul, nI_add]; exact nI_le (Nat.le_refl _) (by omega)) (yy_write326 hn ha K)
  · intro f i s hi es ih
    subst es
    refine br_f (by rw [pk_mul, nI_add]; exact nI_ge (by omega) (by omega)) ⟨lr_v32 (by omega) (by omega), lr_v32 (by omega) (by omega), nm_r (e' := lr_tw n (p * B) (i + 1) a_copies a_twin) ?_ (nm_r (nI_1 _) (ih _ rfl))⟩
    rw [lr_c32 (by omega), ← Nat.add_assoc, lr_tw_s (by omega)]
theorem yy_write237a {post : Int32 → SY → Prop} {n a p : Nat} {x : Int32} (hn : n < 4) (ha : a < 32) (hp : p < 4) (ho : ¬ a_opened (n * 4 + p) = 0) (hq : a_queued (n * 4 + p) = 0) (K : post 0 (nI N, nI P, nI B, nI R, f_queueLen, f_episodeCount, f_recCount, upd a_copies (n * 32 + a) (x &&& 65535), a_twin, a_opened, a_queued, a_clocks, a_fetchCount, a_mode, a_holders, a_lockClocks, a_queueNode, a_queueLock, a_recNode, a_recNum, a_recStamp, a_recNotice, a_recDiff, a_v, a_taken)) : wY_write_237 post (nI n) (nI a) x (nI p) (nI N) (nI P) (nI B) (nI R) f_queueLen f_episodeCount f_recCount a_copies a_twin a_opened a_queued a_clocks a_fetchCount a_mode a_holders a_lockClocks a_queueNode a_queueLock a_recNode a_recNum a_recStamp a_recNotice a_recDiff a_v a_taken := by
  unfold wY_write_237
  have e1 : upd a_fetchCount n (a_fetchCount n + a_queued (n * 4 + p)) = a_fetchCount := by
    funext i
    by_cases e : i = n
    · subst e; rw [pk_us, hq, Int32.add_zero]
    · rw [pk_un e]
  have e2 : upd a_queued (n * 4 + p) 0 = a_queued := by
    funext i
    by_cases e : i = n * 4 + p
    · subst e; rw [pk_us, hq]
    · rw [pk_un e]
  refine yy_access hn hp ?_
  rw [e1, e2]
  exact ⟨lr_v4 (by omega) (by omega), br_f (by rw [lr_c4 (by omega)]; exact ho) (yy_write326 hn ha K)⟩
theorem yy_write237b {post : Int32 → SY → Prop} {n a p : Nat} {x : Int32} (hn : n < 4) (ha : a < 32) (hp : p < 4) (hB : B ≤ 8) (hb : p * B + B ≤ 32) (ho : a_opened (n * 4 + p) = 0)
    (K : post 0 (nI N, nI P, nI B, nI R, f_queueLen, f_episodeCount, f_recCount, upd a_copies (n * 32 + a) (x &&& 65535), lr_tw n (p * B) B a_copies a_twin, upd a_opened (n * 4 + p) 1, upd a_queued (n * 4 + p) 0, a_clocks, upd a_fetchCount n (a_fetchCount n + a_queued (n * 4 + p)), a_mode, a_holders, a_lockClocks, a_queueNode, a_queueLock, a_recNode, a_recNum, a_recStamp, a_recNotice, a_recDiff, a_v, a_taken)) : wY_write_237 post (nI n) (nI a) x (nI p) (nI N) (nI P) (nI B) (nI R) f_queueLen f_episodeCount f_recCount a_copies a_twin a_opened a_queued a_clocks a_fetchCount a_mode a_holders a_lockClocks a_queueNode a_queueLock a_recNode a_recNum a_recStamp a_recNotice a_recDiff a_v a_taken := by
  unfold wY_write_237
  exact yy_access hn hp ⟨lr_v4 (by omega) (by omega), br_t (by rw [lr_c4 (by omega)]; exact ho) ⟨lr_v4 (by omega) (by omega), nm_r (e' := upd a_opened (n * 4 + p) 1) (by rw [lr_c4 (by omega), lr_nb1]) (nm_r (pk_mul p B) (yy_write279 hn ha hB hb K))⟩⟩
theorem yy_write169 {post : Int32 → SY → Prop} {J : Int32 → Int32 → Prop} {x1 x2 x3 x4 x6 : Int32} {r U : Nat} {d : Nat → Int32} (hr : r < 32) (hPB : P * B ≤ 32) (hd : ∀ a, a < P * B → a_recDiff (r * 32 + a) = d a) (K : J (nI (U + lr_cn d (P * B))) (nI (r + 1))) : ∃ n169 : Nat, wY_write_169 post J x1 x2 x3 x4 x6 (nI r) (nI N) (nI P) (nI B) (nI R) f_queueLen f_episodeCount f_recCount a_copies a_twin a_opened a_queued a_clocks a_fetchCount a_mode a_holders a_lockClocks a_queueNode a_queueLock a_recNode a_recNum a_recStamp a_recNotice a_recDiff a_v a_taken n169 (nI U) 0 := by
  refine loop_0 (fun f a s => wY_write_169 post J x1 x2 x3 x4 x6 (nI r) (nI N) (nI P) (nI B) (nI R) f_queueLen f_episodeCount f_recCount a_copies a_twin a_opened a_queued a_clocks a_fetchCount a_mode a_holders a_lockClocks a_queueNode a_queueLock a_recNode a_recNum a_recStamp a_recNotice a_recDiff a_v a_taken f s (nI a)) (fun a s => s = nI (U + lr_cn d a)) (P * B) (nI U) rfl ?_ ?_
  · intro f s es
    subst es
    exact br_t (by rw [pk_mul]; exact nI_le (Nat.le_refl _) (by omega)) (nm_r (nI_1 r) K)
  · intro f a s ha es ih
    subst es
    refine br_f (by rw [pk_mul]; exact nI_ge ha (by omega)) ⟨lr_v32 (by omega) (by omega), ?_⟩
    have h1 : a_recDiff (nI r * 32 + nI a).toNatClampNeg = d a := by rw [lr_c32 (by omega), hd a ha]
    by_cases z : d a < 0
    · refine br_t (by rw [h1]; exact z) (nm_r (nI_1 a) (ih _ ?_))
      rw [show lr_cn d (a + 1) = lr_cn d a from if_pos z]
    · refine br_f (by rw [h1]; exact z) (nm_e (nm_r (nI_1 a) (ih _ ?_)))
      rw [nI_1, show lr_cn d (a + 1) = lr_cn d a + 1 from if_neg z]; rfl
theorem yy_write157 {post : Int32 → SY → Prop} {x1 x2 x3 x4 : Int32} {pn : Nat} (hPB : P * B ≤ 32) (hB : B * pn ≤ 1000) (hB8 : B ≤ 8) (hL : L.length ≤ 32) (hU : lr_us (P * B) L ≤ 64) (Y : lr_YR N P B L f_recCount a_recNode a_recNum a_recStamp a_recNotice a_recDiff)
    (H6 : 64 < lr_us (P * B) L + B * pn + B → post (-6) (nI N, nI P, nI B, nI R, f_queueLen, f_episodeCount, f_recCount, a_copies, a_twin, a_opened, a_queued, a_clocks, a_fetchCount, a_mode, a_holders, a_lockClocks, a_queueNode, a_queueLock, a_recNode, a_recNum, a_recStamp, a_recNotice, a_recDiff, a_v, a_taken)) (H0 : lr_us (P * B) L + B * pn + B ≤ 64 → wY_write_237 post x1 x2 x3 x4 (nI N) (nI P) (nI B) (nI R) f_queueLen f_episodeCount f_recCount a_copies a_twin a_opened a_queued a_clocks a_fetchCount a_mode a_holders a_lockClocks a_queueNode a_queueLock a_recNode a_recNum a_recStamp a_recNotice a_recDiff a_v a_taken) : ∃ n157 : Nat, wY_write_157 post x1 x2 x3 x4 (nI pn) (nI N) (nI P) (nI B) (nI R) f_queueLen f_episodeCount f_recCount a_copies a_twin a_opened a_queued a_clocks a_fetchCount a_mode a_holders a_lockClocks a_queueNode a_queueLock a_recNode a_recNum a_recStamp a_recNotice a_recDiff a_v a_taken n157 0 0 := by
  obtain ⟨y0, yr⟩ := Y
  subst y0
  refine loop_0 (fun f r s => wY_write_157 post x1 x2 x3 x4 (nI pn) (nI N) (nI P) (nI B) (nI R) f_queueLen f_episodeCount (nI L.length) a_copies a_twin a_opened a_queued a_clocks a_fetchCount a_mode a_holders a_lockClocks a_queueNode a_queueLock a_recNode a_recNum a_recStamp a_recNotice a_recDiff a_v a_taken f s (nI r)) (fun r s => s = nI (lr_us (P * B) (L.take r))) L.length 0 rfl ?_ ?_
  · intro f s es
    rw [List.take_length] at es
    subst es
    have he : nI (lr_us (P * B) L) + nI B * nI pn + nI B = nI (lr_us (P * B) L + B * pn + B) := by rw [pk_mul, nI_add, nI_add]
    refine br_t (nI_le (Nat.le_refl _) (by omega)) ?_
    by_cases c : lr_us (P * B) L + B * pn + B ≤ 64
    · exact br_t (by rw [he]; exact nI_le (b := 64) c (by omega)) (H0 c)
    · exact br_f (by rw [he]; exact nI_ge (a := 64) (by omega) (by omega)) (H6 (by omega))
  · intro f r s hr es ih
    subst es
    have hg : L[r]? = some L[r] := List.getElem?_eq_getElem hr
    refine br_f (nI_ge hr (by omega)) (yy_write169 (d := lr_d L[r]) (by omega) hPB (yr r _ hg).2.2.2 (ih _ ?_))
    rw [lr_us_take hr]
theorem yy_write87 {post : Int32 → SY → Prop} {J : Int32 → Int32 → Int32 → Prop} {x1 x2 x3 x4 x5 : Int32} {m U : Nat} (hm : m < 4) (hP : P ≤ 4) (K : J x5 (nI (U + lr_on a_opened P m)) (nI (m + 1))) : ∃ n87 : Nat, wY_write_87 post J x1 x2 x3 x4 x5 (nI m) (nI N) (nI P) (nI B) (nI R) f_queueLen f_episodeCount f_recCount a_copies a_twin a_opened a_queued a_clocks a_fetchCount a_mode a_holders a_lockClocks a_queueNode a_queueLock a_recNode a_recNum a_recStamp a_recNotice a_recDiff a_v a_taken n87 (nI U) 0 := by
  refine loop_0 (fun f p s => wY_write_87 post J x1 x2 x3 x4 x5 (nI m) (nI N) (nI P) (nI B) (nI R) f_queueLen f_episodeCount f_recCount a_copies a_twin a_opened a_queued a_clocks a_fetchCount a_mode a_holders a_lockClocks a_queueNode a_queueLock a_recNode a_recNum a_recStamp a_recNotice a_recDiff a_v a_taken f s (nI p)) (fun p s => s = nI (U + lr_sum (fun p => lr_bit (a_opened (m * 4 + p))) p)) P (nI U) rfl ?_ ?_
  · intro f s es
    subst es
    exact br_t (nI_le (Nat.le_refl _) (by omega)) (nm_r (nI_1 m) K)
  · intro f p s hp es ih
    subst es
    refine br_f (nI_ge hp (by omega)) ⟨lr_v4 (by omega) (by omega), ?_⟩
    have hs : lr_sum (fun p => lr_bit (a_opened (m * 4 + p))) (p + 1) = lr_sum (fun p => lr_bit (a_opened (m * 4 + p))) p + lr_bit (a_opened (m * 4 + p)) := rfl
    by_cases z : a_opened (m * 4 + p) = 0
    · refine br_t (by rw [lr_c4 (by omega)]; exact z) (nm_r (nI_1 p) (ih _ ?_))
      rw [hs, lr_bit0 z, Nat.add_zero]
    · refine br_f (by rw [lr_c4 (by omega)]; exact z) (nm_e (nm_r (nI_1 p) (ih _ ?_)))
      rw [hs, lr_bit1 z, nI_1, Nat.add_assoc]
theorem yy_write63 {post : Int32 → SY → Prop} {n : Nat} {x2 x3 x4 : Int32} (Z : lr_Sz N P B R) (hn : n < N) (hL : L.length ≤ 32) (hU : lr_us (P * B) L ≤ 64) (Y : lr_YR N P B L f_recCount a_recNode a_recNum a_recStamp a_recNotice a_recDiff)
    (H5 : (lr_on a_opened P n = 0 ∧ R ≤ L.length + lr_sum (fun n => lr_b1 (lr_on a_opened P n)) N) → post (-5) (nI N, nI P, nI B, nI R, f_queueLen, f_episodeCount, f_recCount, a_copies, a_twin, a_opened, a_queued, a_clocks, a_fetchCount, a_mode, a_holders, a_lockClocks, a_queueNode, a_queueLock, a_recNode, a_recNum, a_recStamp, a_recNotice, a_recDiff, a_v, a_taken))
    (H6 : ¬ (lr_on a_opened P n = 0 ∧ R ≤ L.length + lr_sum (fun n => lr_b1 (lr_on a_opened P n)) N) → 64 < lr_us (P * B) L + B * lr_sum (lr_on a_opened P) N + B → post (-6) (nI N, nI P, nI B, nI R, f_queueLen, f_episodeCount, f_recCount, a_copies, a_twin, a_opened, a_queued, a_clocks, a_fetchCount, a_mode, a_holders, a_lockClocks, a_queueNode, a_queueLock, a_recNode, a_recNum, a_recStamp, a_recNotice, a_recDiff, a_v, a_taken))
    (H0 : ¬ (lr_on a_opened P n = 0 ∧ R ≤ L.length + lr_sum (fun n => lr_b1 (lr_on a_opened P n)) N) → lr_us (P * B) L + B * lr_sum (lr_on a_opened P) N + B ≤ 64 → wY_write_237 post (nI n) x2 x3 x4 (nI N) (nI P) (nI B) (nI R) f_queueLen f_episodeCount f_recCount a_copies a_twin a_opened a_queued a_clocks a_fetchCount a_mode a_holders a_lockClocks a_queueNode a_queueLock a_recNode a_recNum a_recStamp a_recNotice a_recDiff a_v a_taken) :
    ∃ n63 : Nat, wY_write_63 post (nI n) x2 x3 x4 (nI N) (nI P) (nI B) (nI R) f_queueLen f_episodeCount f_recCount a_copies a_twin a_opened a_queued a_clocks a_fetchCount a_mode a_holders a_lockClocks a_queueNode a_queueLock a_recNode a_recNum a_recStamp a_recNotice a_recDiff a_v a_taken n63 0 0 0 := by
  have hPB := lr_PB Z
  obtain ⟨z1, z2, z3, z4, z5, z6, z7, z8⟩ := Z
  have hwn : lr_sum (fun n => lr_b1 (lr_on a_opened P n)) N ≤ N * 1 := lr_sum_bd (fun i _ => lr_b1_le _)
  have hpn : lr_sum (lr_on a_opened P) N ≤ N * P := lr_sum_bd (fun i _ => lr_on_le _ _ _)
  have hNP : N * P ≤ 4 * 4 := Nat.mul_le_mul z2 z4
  have hBpn : B * lr_sum (lr_on a_opened P) N ≤ 8 * 16 := Nat.mul_le_mul z6 (by omega)
  have y0 := Y.1
  refine loop_0 (fun f m s => wY_write_63 post (nI n) x2 x3 x4 (nI N) (nI P) (nI B) (nI R) f_queueLen f_episodeCount f_recCount a_copies a_twin a_opened a_queued a_clocks a_fetchCount a_mode a_holders a_lockClocks a_queueNode a_queueLock a_recNode a_recNum a_recStamp a_recNotice a_recDiff a_v a_taken f s.1 s.2 (nI m)) (fun m s => s = (nI (lr_sum (fun n => lr_b1 (lr_on a_opened P n)) m), nI (lr_sum (lr_on a_opened P) m))) N (0, 0) rfl ?_ ?_
  · intro f s es
    subst es
    have h157 : ¬ (lr_on a_opened P n = 0 ∧ R ≤ L.length + lr_sum (fun n => lr_b1 (lr_on a_opened P n)) N) → ∃ n157 : Nat, wY_write_157 post (nI n) x2 x3 x4 (nI (lr_sum (lr_on a_opened P) N)) (nI N) (nI P) (nI B) (nI R) f_queueLen f_episodeCount f_recCount a_copies a_twin a_opened a_queued a_clocks a_fetchCount a_mode a_holders a_lockClocks a_queueNode a_queueLock a_recNode a_recNum a_recStamp a_recNotice a_recDiff a_v a_taken n157 0 0 :=
      fun h5 => yy_write157 hPB (by omega) z6 hL hU Y (H6 h5) (H0 h5)
    refine br_t (nI_le (Nat.le_refl _) (by omega)) (yy_anyOpen (by omega) z4 ?_ ?_)
    · intro c0
      refine br_t rfl ?_
      have he : f_recCount + nI (lr_sum (fun n => lr_b1 (lr_on a_opened P n)) N) = nI (L.length + lr_sum (fun n => lr_b1 (lr_on a_opened P n)) N) := by rw [y0, nI_add]
      by_cases c5 : R ≤ L.length + lr_sum (fun n => lr_b1 (lr_on a_opened P n)) N
      · exact br_f (by show ¬ f_recCount + nI (lr_sum (fun n => lr_b1 (lr_on a_opened P n)) N) < nI R; rw [he]; exact nI_nlt c5 (by omega)) (H5 ⟨c0, c5⟩)
      · exact br_t (by show f_recCount + nI (lr_sum (fun n => lr_b1 (lr_on a_opened P n)) N) < nI R; rw [he]; exact nI_lt (by omega) (by omega)) (h157 (fun z => c5 z.2))
    · intro c0
      exact br_f (by decide) (h157 (fun z => c0 z.1))
  · intro f m s hm es ih
    subst es
    have hs1 : lr_sum (fun n => lr_b1 (lr_on a_opened P n)) (m + 1) = lr_sum (fun n => lr_b1 (lr_on a_opened P n)) m + lr_b1 (lr_on a_opened P m) := rfl
    have hs2 : lr_sum (lr_on a_opened P) (m + 1) = lr_sum (lr_on a_opened P) m + lr_on a_opened P m := rfl
    refine br_f (nI_ge hm (by omega)) (yy_anyOpen (by omega) z4 ?_ ?_)
    · intro c0
      refine br_t rfl (yy_write87 (by omega) z4 (ih (nI (lr_sum (fun n => lr_b1 (lr_on a_opened P n)) m), nI (lr_sum (lr_on a_opened P) m + lr_on a_opened P m)) ?_))
      rw [hs1, hs2, lr_b10 c0, Nat.add_zero]
    · intro c0
      refine br_f (by decide) (nm_r (nI_1 _) (yy_write87 (by omega) z4 (ih (nI (lr_sum (fun n => lr_b1 (lr_on a_opened P n)) m + 1), nI (lr_sum (lr_on a_opened P) m + lr_on a_opened P m)) ?_)))
      rw [hs1, hs2, lr_b11 c0]
theorem yy_wr {post : Int32 → SY → Prop} {n a : Nat} {x : Int32} (Z : lr_Sz N P B R) (hn : n < N) (ha : a < P * B) (hL : L.length ≤ 32) (hU : lr_us (P * B) L ≤ 64) (Y : lr_YR N P B L f_recCount a_recNode a_recNum a_recStamp a_recNotice a_recDiff) (hq0 : ¬ a_opened (n * 4 + a / B) = 0 → a_queued (n * 4 + a / B) = 0)
    (Hb : ¬ a_mode n = 0 → post (-2) (nI N, nI P, nI B, nI R, f_queueLen, f_episodeCount, f_recCount, a_copies, a_twin, a_opened, a_queued, a_clocks, a_fetchCount, a_mode, a_holders, a_lockClocks, a_queueNode, a_queueLock, a_recNode, a_recNum, a_recStamp, a_recNotice, a_recDiff, a_v, a_taken)) (H1 : a_mode n = 0 → ¬ a_opened (n * 4 + a / B) = 0 → post 0 (nI N, nI P, nI B, nI R, f_queueLen, f_episodeCount, f_recCount, upd a_copies (n * 32 + a) (x &&& 65535), a_twin, a_opened, a_queued, a_clocks, a_fetchCount, a_mode, a_holders, a_lockClocks, a_queueNode, a_queueLock, a_recNode, a_recNum, a_recStamp, a_recNotice, a_recDiff, a_v, a_taken))
    (H5 : a_mode n = 0 → a_opened (n * 4 + a / B) = 0 → (lr_on a_opened P n = 0 ∧ R ≤ L.length + lr_sum (fun n => lr_b1 (lr_on a_opened P n)) N) → post (-5) (nI N, nI P, nI B, nI R, f_queueLen, f_episodeCount, f_recCount, a_copies, a_twin, a_opened, a_queued, a_clocks, a_fetchCount, a_mode, a_holders, a_lockClocks, a_queueNode, a_queueLock, a_recNode, a_recNum, a_recStamp, a_recNotice, a_recDiff, a_v, a_taken))
    (H6 : a_mode n = 0 → a_opened (n * 4 + a / B) = 0 → ¬ (lr_on a_opened P n = 0 ∧ R ≤ L.length + lr_sum (fun n => lr_b1 (lr_on a_opened P n)) N) → 64 < lr_us (P * B) L + B * lr_sum (lr_on a_opened P) N + B → post (-6) (nI N, nI P, nI B, nI R, f_queueLen, f_episodeCount, f_recCount, a_copies, a_twin, a_opened, a_queued, a_clocks, a_fetchCount, a_mode, a_holders, a_lockClocks, a_queueNode, a_queueLock, a_recNode, a_recNum, a_recStamp, a_recNotice, a_recDiff, a_v, a_taken))
    (H0 : a_mode n = 0 → a_opened (n * 4 + a / B) = 0 → ¬ (lr_on a_opened P n = 0 ∧ R ≤ L.length + lr_sum (fun n => lr_b1 (lr_on a_opened P n)) N) → lr_us (P * B) L + B * lr_sum (lr_on a_opened P) N + B ≤ 64 →
      post 0 (nI N, nI P, nI B, nI R, f_queueLen, f_episodeCount, f_recCount, upd a_copies (n * 32 + a) (x &&& 65535), lr_tw n (a / B * B) B a_copies a_twin, upd a_opened (n * 4 + a / B) 1, upd a_queued (n * 4 + a / B) 0, a_clocks, upd a_fetchCount n (a_fetchCount n + a_queued (n * 4 + a / B)), a_mode, a_holders, a_lockClocks, a_queueNode, a_queueLock, a_recNode, a_recNum, a_recStamp, a_recNotice, a_recDiff, a_v, a_taken)) :
    wpY_write post (nI N, nI P, nI B, nI R, f_queueLen, f_episodeCount, f_recCount, a_copies, a_twin, a_opened, a_queued, a_clocks, a_fetchCount, a_mode, a_holders, a_lockClocks, a_queueNode, a_queueLock, a_recNode, a_recNum, a_recStamp, a_recNotice, a_recDiff, a_v, a_taken) (nI n) (nI a) x := by
  have hPB := lr_PB Z
  have Z' := Z
  obtain ⟨z1, z2, z3, z4, z5, z6, z7, z8⟩ := Z
  obtain ⟨g1, g2, g3⟩ := lr_pgof z5 ha
  have hpb := lr_pB (B := B) g1
  have hd : nI a / nI B = nI (a / B) := pk_div (by omega) (by omega) (by omega)
  have hc1 : (nI n).toNatClampNeg = n := lr_c1 (by omega)
  unfold wpY_write; dsimp only
  refine yy_bN1 z2 hn (br_t rfl (yy_bA1 hPB ha (br_t rfl ⟨lr_v1 (by omega) (by omega), ?_⟩)))
  by_cases c : a_mode n = 0
  · refine br_t (by rw [hc1]; exact c) ⟨nI_ne0 (by omega) (by omega), nm_r hd ⟨lr_v4 (by omega) (by omega), ?_⟩⟩
    by_cases co : a_opened (n * 4 + a / B) = 0
    · refine br_t (by rw [lr_c4 (by omega)]; exact co) (yy_write63 Z' hn hL hU Y (H5 c co) (H6 c co) ?_)
      intro h5 h6
      exact yy_write237b (by omega) (by omega) (by omega) z6 (by omega) co (H0 c co h5 h6)
    · exact br_f (by rw [lr_c4 (by omega)]; exact co) (yy_write237a (by omega) (by omega) (by omega) co (hq0 co) (H1 c co))
  · exact br_f (by rw [hc1]; exact c) (Hb c)
end
end
section
/-! writes keep the relation -/
theorem lr_tw_eq {n b B : Nat} {c c' t : Nat → Int32} (h : ∀ w, w < B → c (n * 32 + (b + w)) = c' (n * 32 + (b + w))) : lr_tw n b B c t = lr_tw n b B c' t := by
  funext i
  show (if i / 32 = n ∧ b ≤ i % 32 ∧ i % 32 < b + B then c i else t i) = (if i / 32 = n ∧ b ≤ i % 32 ∧ i % 32 < b + B then c' i else t i)
  by_cases z : i / 32 = n ∧ b ≤ i % 32 ∧ i % 32 < b + B
  · rw [if_pos z, if_pos z]
    have := h (i % 32 - b) (by omega)
    rw [show n * 32 + (b + (i % 32 - b)) = i by omega] at this
    exact this
  · rw [if_neg z, if_neg z]
theorem lr_ixne {n n' p p' : Nat} (hp : p < 4) (hp' : p' < 4) (h : ¬ (n' = n ∧ p' = p)) : n' * 4 + p' ≠ n * 4 + p := by omega
section
variable {N P B R : Nat} {f_openPages f_openNodes f_freeSlotCount f_retained f_freeEntry f_entriesUsed f_episodeCount : Int32} {a_copy a_twin a_opened a_openCount a_queue a_queued a_fetchCount a_clocks a_dropped a_slots a_freeSlots a_stamps a_sums a_notices a_chain a_entryAddr a_entryValue a_entryNext a_mode a_holders a_line a_lineLength a_lockClocks a_target a_cursor a_floor : Nat → Int32}
variable {k : Nat} {C LC : Nat → Nat → Nat} {D : Nat → Nat} {L : List lr_R} {Q : Nat → Nat → List lr_R} {WQ : List (Nat × Nat)}
variable {f_queueLen f_recCount : Int32} {a_copies a_queueNode a_queueLock a_recNode a_recNum a_recStamp a_recNotice a_recDiff a_v a_taken : Nat → Int32}
theorem zz_wr1 {n a : Nat} {v : Int32} (I : zz_I k N P B R C D LC L Q WQ f_openPages f_openNodes f_freeSlotCount f_retained f_freeEntry f_entriesUsed a_copy a_opened a_openCount a_queue a_queued a_clocks a_dropped a_slots a_freeSlots a_stamps a_sums a_notices a_chain a_entryAddr a_entryValue a_entryNext a_mode a_line a_lineLength a_lockClocks f_queueLen f_recCount a_copies a_queueNode a_queueLock a_recNode a_recNum a_recStamp a_recNotice a_recDiff) (hn : n < N) (ha : a < P * B) (ho : ¬ a_opened (n * 4 + a / B) = 0) (hv : ¬ v < 0) : zz_I (k + 4) N P B R C D LC L Q WQ f_openPages f_openNodes f_freeSlotCount f_retained f_freeEntry f_entriesUsed (upd a_copy (n * 32 + a) v) a_opened a_openCount a_queue a_queued a_clocks a_dropped a_slots a_freeSlots a_stamps a_sums a_notices a_chain a_entryAddr a_entryValue a_entryNext a_mode a_line a_lineLength a_lockClocks f_queueLen f_recCount (upd a_copies (n * 32 + a) v) a_queueNode a_queueLock a_recNode a_recNum a_recStamp a_recNotice a_recDiff := by
  obtain ⟨Z, hCK, hOP, hXR, hYR, hLL, ⟨m1, m2, m3⟩, hWT, hMO⟩ := I
  have hPB := lr_PB Z
  obtain ⟨g1, g2, g3⟩ := lr_pgof Z.2.2.2.2.1 ha
  have h := lr_M3_wr (n := n) (w := a % B) hPB g1 g2 ((m1 n _ hn g1).2.2.2 ho) hv m3
  rw [g3] at h
  exact ⟨Z, zz_CK_up hCK (by omega), hOP, hXR, hYR, hLL, ⟨m1, m2, h⟩, hWT, hMO⟩
theorem zz_wr2 {n a : Nat} {v : Int32} (I : zz_I k N P B R C D LC L Q WQ f_openPages f_openNodes f_freeSlotCount f_retained f_freeEntry f_entriesUsed a_copy a_opened a_openCount a_queue a_queued a_clocks a_dropped a_slots a_freeSlots a_stamps a_sums a_notices a_chain a_entryAddr a_entryValue a_entryNext a_mode a_line a_lineLength a_lockClocks f_queueLen f_recCount a_copies a_queueNode a_queueLock a_recNode a_recNum a_recStamp a_recNotice a_recDiff) (hn : n < N) (ha : a < P * B) (hm : a_mode n = 0) (ho : a_opened (n * 4 + a / B) = 0) (hv : ¬ v < 0)
    (h5 : ¬ (lr_on a_opened P n = 0 ∧ R ≤ L.length + lr_sum (fun n => lr_b1 (lr_on a_opened P n)) N)) (h6 : lr_us (P * B) L + B * lr_sum (lr_on a_opened P) N + B ≤ 64) :
    zz_I (k + 4) N P B R C D LC L (lr_Qu Q n (a / B) []) WQ (f_openPages + 1) (if a_openCount n = 0 then f_openNodes + 1 else f_openNodes) f_freeSlotCount f_retained f_freeEntry f_entriesUsed (upd (lr_acc n (a / B * B) B (Q n (a / B)) a_copy) (n * 32 + a) v) (upd a_opened (n * 4 + a / B) 1) (upd a_openCount n (a_openCount n + 1)) a_queue (upd a_queued (n * 4 + a / B) 0) a_clocks a_dropped a_slots a_freeSlots a_stamps a_sums a_notices a_chain a_entryAddr a_entryValue a_entryNext a_mode a_line a_lineLength a_lockClocks f_queueLen f_recCount (upd a_copies (n * 32 + a) v) a_queueNode a_queueLock a_recNode a_recNum a_recStamp a_recNotice a_recDiff := by
  obtain ⟨Z, hCK, hOP, hXR, hYR, ⟨l1, l2, l3, l4⟩, ⟨m1, m2, m3⟩, hWT, hMO⟩ := I
  have hPB := lr_PB Z
  have Z' := Z
  obtain ⟨z1, z2, z3, z4, z5, z6, z7, z8⟩ := Z
  obtain ⟨g1, g2, g3⟩ := lr_pgof z5 ha
  obtain ⟨o1, o2, o3⟩ := lr_OP_open z2 z4 hn g1 hOP ho
  have h := lr_M3_wr (n := n) (w := a % B) hPB g1 g2 (lr_Qu_s (x := [])) hv (lr_M3_acc (n := n) (p := a / B) hPB m3)
  rw [g3] at h
  refine ⟨Z', zz_CK_up hCK (by omega), o1, hXR, hYR, ⟨l1, l2, l3, ?_, ?_⟩, ⟨?_, lr_M2_acc m2, h⟩, hWT, ?_⟩
  · rw [o3]
    have := l4.1
    by_cases z : lr_on a_opened P n = 0
    · rw [if_pos z]
      have : ¬ R ≤ L.length + lr_sum (fun n => lr_b1 (lr_on a_opened P n)) N := fun y => h5 ⟨z, y⟩
      omega
    · rw [if_neg z]; omega
  · rw [o2, Nat.mul_add, Nat.mul_one]; omega
  · intro n' p' hn' hp'
    obtain ⟨a1, a2, a3, a4⟩ := lr_M1_acc (n := n) z4 g1 m1 n' p' hn' hp'
    refine ⟨a1, a2, a3, ?_⟩
    intro y
    by_cases e : n' = n ∧ p' = a / B
    · obtain ⟨rfl, rfl⟩ := e; exact lr_Qu_s
    · rw [pk_un (lr_ixne (Nat.lt_of_lt_of_le g1 z4) (Nat.lt_of_lt_of_le hp' z4) e)] at y; exact a4 y
  · intro n' p' hn' hp' hmd
    by_cases e : n' = n
    · subst e; exact absurd hm hmd
    · rw [pk_un (lr_ixne (Nat.lt_of_lt_of_le g1 z4) (Nat.lt_of_lt_of_le hp' z4) (fun z => e z.1))]; exact hMO n' p' hn' hp' hmd
theorem zz_wr3 {n a : Nat} (I : zz_I k N P B R C D LC L Q WQ f_openPages f_openNodes f_freeSlotCount f_retained f_freeEntry f_entriesUsed a_copy a_opened a_openCount a_queue a_queued a_clocks a_dropped a_slots a_freeSlots a_stamps a_sums a_notices a_chain a_entryAddr a_entryValue a_entryNext a_mode a_line a_lineLength a_lockClocks f_queueLen f_recCount a_copies a_queueNode a_queueLock a_recNode a_recNum a_recStamp a_recNotice a_recDiff) (hn : n < N) (ha : a < P * B) : lr_tw n (a / B * B) B (lr_acc n (a / B * B) B (Q n (a / B)) a_copy) a_twin = lr_tw n (a / B * B) B a_copies a_twin ∧ lr_acc n (a / B * B) B (Q n (a / B)) a_copy (n * 32 + a) = a_copies (n * 32 + a) := by
  obtain ⟨Z, hCK, hOP, hXR, hYR, hLL, ⟨m1, m2, m3⟩, hWT, hMO⟩ := I
  have hPB := lr_PB Z
  obtain ⟨g1, g2, g3⟩ := lr_pgof Z.2.2.2.2.1 ha
  have hpb := lr_pB (B := B) g1
  have h : ∀ w, w < B → lr_acc n (a / B * B) B (Q n (a / B)) a_copy (n * 32 + (a / B * B + w)) = a_copies (n * 32 + (a / B * B + w)) := by
    intro w hw
    rw [lr_acc_in (by omega) hw, (m3 n _ w hn g1 hw).1]
  refine ⟨lr_tw_eq h, ?_⟩
  have := h (a % B) g2
  rw [g3] at this
  exact this
theorem zz_wr4 {n a : Nat} (I : zz_I k N P B R C D LC L Q WQ f_openPages f_openNodes f_freeSlotCount f_retained f_freeEntry f_entriesUsed a_copy a_opened a_openCount a_queue a_queued a_clocks a_dropped a_slots a_freeSlots a_stamps a_sums a_notices a_chain a_entryAddr a_entryValue a_entryNext a_mode a_line a_lineLength a_lockClocks f_queueLen f_recCount a_copies a_queueNode a_queueLock a_recNode a_recNum a_recStamp a_recNotice a_recDiff) (hn : n < N) (ha : a < P * B) (ho : ¬ a_opened (n * 4 + a / B) = 0) : a_queued (n * 4 + a / B) = 0 ∧ a_copy (n * 32 + a) = a_copies (n * 32 + a) := by
  obtain ⟨Z, hCK, hOP, hXR, hYR, hLL, ⟨m1, m2, m3⟩, hWT, hMO⟩ := I
  obtain ⟨g1, g2, g3⟩ := lr_pgof Z.2.2.2.2.1 ha
  obtain ⟨a1, a2, a3, a4⟩ := m1 n _ hn g1
  have h := (m3 n _ (a % B) hn g1 g2).1
  rw [a4 ho, g3] at h
  rw [a4 ho] at a1
  exact ⟨a1, h.symm⟩
end
end
section
/-! release: the lock's clock -/
section
variable {N P B R : Nat} {f_openPages f_openNodes f_freeSlotCount f_retained f_freeEntry f_entriesUsed f_episodeCount : Int32} {a_copy a_twin a_opened a_openCount a_queue a_queued a_fetchCount a_clocks a_dropped a_slots a_freeSlots a_stamps a_sums a_notices a_chain a_entryAddr a_entryValue a_entryNext a_mode a_holders a_line a_lineLength a_lockClocks a_target a_cursor a_floor : Nat → Int32}
theorem xx_release50 {post : Int32 → SX → Prop} {n l : Nat} (hN : N ≤ 4) (hn : n < N) (hl : l < 4) (K : ∀ f : Nat, wX_release_50 post (nI n) (nI l) (nI N) (nI P) (nI B) (nI R) (nI (P * B)) f_openPages f_openNodes f_freeSlotCount f_retained f_freeEntry f_entriesUsed f_episodeCount (f + 1) (nI N) a_copy a_twin a_opened a_openCount a_queue a_queued a_fetchCount a_clocks a_dropped a_slots a_freeSlots a_stamps a_sums a_notices a_chain a_entryAddr a_entryValue a_entryNext a_mode a_holders a_line a_lineLength (lr_nt l n N a_clocks a_lockClocks) a_target a_cursor a_floor) : ∃ n50 : Nat, wX_release_50 post (nI n) (nI l) (nI N) (nI P) (nI B) (nI R) (nI (P * B)) f_openPages f_openNodes f_freeSlotCount f_retained f_freeEntry f_entriesUsed f_episodeCount n50 0 a_copy a_twin a_opened a_openCount a_queue a_queued a_fetchCount a_clocks a_dropped a_slots a_freeSlots a_stamps a_sums a_notices a_chain a_entryAddr a_entryValue a_entryNext a_mode a_holders a_line a_lineLength a_lockClocks a_target a_cursor a_floor := by
  refine loop_0 (fun f m s => wX_release_50 post (nI n) (nI l) (nI N) (nI P) (nI B) (nI R) (nI (P * B)) f_openPages f_openNodes f_freeSlotCount f_retained f_freeEntry f_entriesUsed f_episodeCount f (nI m) a_copy a_twin a_opened a_openCount a_queue a_queued a_fetchCount a_clocks a_dropped a_slots a_freeSlots a_stamps a_sums a_notices a_chain a_entryAddr a_entryValue a_entryNext a_mode a_holders a_line a_lineLength s a_target a_cursor a_floor) (fun m s => s = lr_nt l n m a_clocks a_lockClocks) N a_lockClocks lr_nt_0 ?_ ?_
  · intro f s es
    subst es
    exact K f
  · intro f m s hm es ih
    subst es
    refine br_f (nI_ge hm (by omega)) ⟨lr_v4 (by omega) (by omega), lr_v4 (by omega) (by omega), nm_e (nm_r (nI_1 m) (ih _ ?_))⟩
    rw [lr_c4 (by omega), lr_c4 (by omega), lr_nt_s (by omega)]
end
section
variable {N P B R : Nat} {f_episodeCount f_queueLen f_recCount : Int32} {a_copies a_opened a_clocks a_holders a_queueNode a_queueLock a_recNode a_recNum a_recStamp a_recNotice a_recDiff a_v a_taken a_twin a_queued a_fetchCount a_mode a_lockClocks : Nat → Int32}
variable {k : Nat} {C LC : Nat → Nat → Nat} {D : Nat → Nat} {L : List lr_R} {Q : Nat → Nat → List lr_R} {WQ : List (Nat × Nat)}
theorem yy_release52 {post : Int32 → SY → Prop} {n l : Nat} (hN : N ≤ 4) (hn : n < N) (hl : l < 4) (K : ∀ f : Nat, wY_release_52 post (nI n) (nI l) (nI N) (nI P) (nI B) (nI R) f_queueLen f_episodeCount f_recCount (f + 1) (nI N) a_copies a_twin a_opened a_queued a_clocks a_fetchCount a_mode a_holders (lr_nt l n N a_clocks a_lockClocks) a_queueNode a_queueLock a_recNode a_recNum a_recStamp a_recNotice a_recDiff a_v a_taken) : ∃ n52 : Nat, wY_release_52 post (nI n) (nI l) (nI N) (nI P) (nI B) (nI R) f_queueLen f_episodeCount f_recCount n52 0 a_copies a_twin a_opened a_queued a_clocks a_fetchCount a_mode a_holders a_lockClocks a_queueNode a_queueLock a_recNode a_recNum a_recStamp a_recNotice a_recDiff a_v a_taken := by
  refine loop_0 (fun f m s => wY_release_52 post (nI n) (nI l) (nI N) (nI P) (nI B) (nI R) f_queueLen f_episodeCount f_recCount f (nI m) a_copies a_twin a_opened a_queued a_clocks a_fetchCount a_mode a_holders s a_queueNode a_queueLock a_recNode a_recNum a_recStamp a_recNotice a_recDiff a_v a_taken) (fun m s => s = lr_nt l n m a_clocks a_lockClocks) N a_lockClocks lr_nt_0 ?_ ?_
  · intro f s es
    subst es
    exact K f
  · intro f m s hm es ih
    subst es
    refine br_f (nI_ge hm (by omega)) ⟨lr_v4 (by omega) (by omega), lr_v4 (by omega) (by omega), nm_e (nm_r (nI_1 m) (ih _ ?_))⟩
    rw [lr_c4 (by omega), lr_c4 (by omega), lr_nt_s (by omega)]
end
end
section
/-! the barrier -/
def lr_m0 (m : Nat) (f : Nat → Int32) : Nat → Int32 := fun j => if j < m then 0 else f j
theorem lr_m0_0 {f : Nat → Int32} : f = lr_m0 0 f := by
  funext j
  show _ = (if j < 0 then 0 else f j)
  rw [if_neg (by omega)]
theorem lr_m0_s {m : Nat} {f : Nat → Int32} : upd (lr_m0 m f) m 0 = lr_m0 (m + 1) f := by
  funext j
  by_cases e : j = m
  · subst e
    rw [pk_us]
    show _ = (if j < j + 1 then 0 else f j)
    rw [if_pos (by omega)]
  · rw [pk_un e]
    show (if j < m then 0 else f j) = (if j < m + 1 then 0 else f j)
    by_cases h : j < m
    · rw [if_pos h, if_pos (by omega)]
    · rw [if_neg h, if_neg (by omega)]
theorem lr_m0_at {m j : Nat} {f : Nat → Int32} (h : j < m) : lr_m0 m f j = 0 := if_pos h
section
variable {N P B R : Nat} {f_openPages f_openNodes f_freeSlotCount f_retained f_freeEntry f_entriesUsed f_episodeCount : Int32} {a_copy a_twin a_opened a_openCount a_queue a_queued a_fetchCount a_clocks a_dropped a_slots a_freeSlots a_stamps a_sums a_notices a_chain a_entryAddr a_entryValue a_entryNext a_mode a_holders a_line a_lineLength a_lockClocks a_target a_cursor a_floor : Nat → Int32}
theorem xx_bar36 {post : Int32 → SX → Prop} (hN : N ≤ 4) (Hw : ∀ m, m < N → ¬ a_mode m = 2 → post 1 (nI N, nI P, nI B, nI R, nI (P * B), f_openPages, f_openNodes, f_freeSlotCount, f_retained, f_freeEntry, f_entriesUsed, f_episodeCount, a_copy, a_twin, a_opened, a_openCount, a_queue, a_queued, a_fetchCount, a_clocks, a_dropped, a_slots, a_freeSlots, a_stamps, a_sums, a_notices, a_chain, a_entryAddr, a_entryValue, a_entryNext, a_mode, a_holders, a_line, a_lineLength, a_lockClocks, a_target, a_cursor, a_floor)) (Hc : (∀ m, m < N → a_mode m = 2) → ∀ f : Nat, wX_barrier_36 post (nI N) (nI P) (nI B) (nI R) (nI (P * B)) f_openPages f_openNodes f_freeSlotCount f_retained f_freeEntry f_entriesUsed f_episodeCount a_copy a_twin a_opened a_openCount a_queue a_queued a_fetchCount a_clocks a_dropped a_slots a_freeSlots a_stamps a_sums a_notices a_chain a_entryAddr a_entryValue a_entryNext a_mode a_holders a_line a_lineLength a_lockClocks a_target a_cursor a_floor (f + 1) (nI N)) : ∃ n36 : Nat, wX_barrier_36 post (nI N) (nI P) (nI B) (nI R) (nI (P * B)) f_openPages f_openNodes f_freeSlotCount f_retained f_freeEntry f_entriesUsed f_episodeCount a_copy a_twin a_opened a_openCount a_queue a_queued a_fetchCount a_clocks a_dropped a_slots a_freeSlots a_stamps a_sums a_notices a_chain a_entryAddr a_entryValue a_entryNext a_mode a_holders a_line a_lineLength a_lockClocks a_target a_cursor a_floor n36 0 := by
  have key : ∀ d m, m + d = N → (∀ j, j < m → a_mode j = 2) → wX_barrier_36 post (nI N) (nI P) (nI B) (nI R) (nI (P * B)) f_openPages f_openNodes f_freeSlotCount f_retained f_freeEntry f_entriesUsed f_episodeCount a_copy a_twin a_opened a_openCount a_queue a_queued a_fetchCount a_clocks a_dropped a_slots a_freeSlots a_stamps a_sums a_notices a_chain a_entryAddr a_entryValue a_entryNext a_mode a_holders a_line a_lineLength a_lockClocks a_target a_cursor a_floor (d + 1) (nI m) := by
    intro d
    induction d with
    | zero =>
      intro m hm h
      have e : m = N := by omega
      subst e
      exact Hc h 0
    | succ d ih =>
      intro m hm h
      have hc : (nI m).toNatClampNeg = m := lr_c1 (by omega)
      refine br_f (nI_ge (by omega) (by omega)) ⟨lr_v1 (by omega) (by omega), ?_⟩
      by_cases z : a_mode m = 2
      · refine br_t (by rw [hc]; exact z) (nm_r (nI_1 m) (ih (m + 1) (by omega) ?_))
        intro j hj
        by_cases e : j = m
        · subst e; exact z
        · exact h j (by omega)
      · exact br_f (by rw [hc]; exact z) (Hw m (by omega) z)
  exact ⟨_, key N 0 (by omega) (fun j hj => by omega)⟩
theorem xx_bar55 {post : SX → Prop} (hN : N ≤ 4) (K : post (nI N, nI P, nI B, nI R, nI (P * B), f_openPages, f_openNodes, f_freeSlotCount, f_retained, f_freeEntry, f_entriesUsed, f_episodeCount + 1, a_copy, a_twin, a_opened, a_openCount, a_queue, a_queued, a_fetchCount, a_clocks, a_dropped, a_slots, a_freeSlots, a_stamps, a_sums, a_notices, a_chain, a_entryAddr, a_entryValue, a_entryNext, lr_m0 N a_mode, a_holders, a_line, a_lineLength, a_lockClocks, a_target, a_cursor, a_floor)) : ∃ n55 : Nat, wX_completeBarrier_55 post (nI N) (nI P) (nI B) (nI R) (nI (P * B)) f_openPages f_openNodes f_freeSlotCount f_retained f_freeEntry f_entriesUsed f_episodeCount n55 0 a_copy a_twin a_opened a_openCount a_queue a_queued a_fetchCount a_clocks a_dropped a_slots a_freeSlots a_stamps a_sums a_notices a_chain a_entryAddr a_entryValue a_entryNext a_mode a_holders a_line a_lineLength a_lockClocks a_target a_cursor a_floor := by
  refine loop_0 (fun f m s => wX_completeBarrier_55 post (nI N) (nI P) (nI B) (nI R) (nI (P * B)) f_openPages f_openNodes f_freeSlotCount f_retained f_freeEntry f_entriesUsed f_episodeCount f (nI m) a_copy a_twin a_opened a_openCount a_queue a_queued a_fetchCount a_clocks a_dropped a_slots a_freeSlots a_stamps a_sums a_notices a_chain a_entryAddr a_entryValue a_entryNext s a_holders a_line a_lineLength a_lockClocks a_target a_cursor a_floor) (fun m s => s = lr_m0 m a_mode) N a_mode lr_m0_0 ?_ ?_
  · intro f s es
    subst es
    exact br_t (nI_le (Nat.le_refl _) (by omega)) (nm_e K)
  · intro f m s hm es ih
    subst es
    refine br_f (nI_ge hm (by omega)) ⟨lr_v1 (by omega) (by omega), nm_e (nm_r (nI_1 m) (ih _ ?_))⟩
    rw [lr_c1 (by omega), lr_m0_s]
theorem xx_bar2 {post : SX → Prop} {T : Nat → Nat} (hN : N ≤ 4) (hT : ∀ m, m < N → a_clocks (m * 4 + m) = nI (T m)) (K : ∀ tg : Nat → Int32, (∀ m, m < N → tg m = nI (T m)) → ∃ n34 : Nat, wX_completeBarrier_34 post n34 0 (nI N) (nI P) (nI B) (nI R) (nI (P * B)) f_openPages f_openNodes f_freeSlotCount f_retained f_freeEntry f_entriesUsed f_episodeCount a_copy a_twin a_opened a_openCount a_queue a_queued a_fetchCount a_clocks a_dropped a_slots a_freeSlots a_stamps a_sums a_notices a_chain a_entryAddr a_entryValue a_entryNext a_mode a_holders a_line a_lineLength a_lockClocks tg a_cursor a_floor) : wpX_completeBarrier post (nI N, nI P, nI B, nI R, nI (P * B), f_openPages, f_openNodes, f_freeSlotCount, f_retained, f_freeEntry, f_entriesUsed, f_episodeCount, a_copy, a_twin, a_opened, a_openCount, a_queue, a_queued, a_fetchCount, a_clocks, a_dropped, a_slots, a_freeSlots, a_stamps, a_sums, a_notices, a_chain, a_entryAddr, a_entryValue, a_entryNext, a_mode, a_holders, a_line, a_lineLength, a_lockClocks, a_target, a_cursor, a_floor) := by
  refine loop_0 (fun f m s => wX_completeBarrier_2 post (nI N) (nI P) (nI B) (nI R) (nI (P * B)) f_openPages f_openNodes f_freeSlotCount f_retained f_freeEntry f_entriesUsed f_episodeCount f (nI m) a_copy a_twin a_opened a_openCount a_queue a_queued a_fetchCount a_clocks a_dropped a_slots a_freeSlots a_stamps a_sums a_notices a_chain a_entryAddr a_entryValue a_entryNext a_mode a_holders a_line a_lineLength a_lockClocks s a_cursor a_floor) (fun m s => ∀ j, j < m → s j = nI (T j)) N a_target (fun j hj => by omega) ?_ ?_
  · intro f s es
    exact br_t (nI_le (Nat.le_refl _) (by omega)) (K s es)
  · intro f m s hm es ih
    refine br_f (nI_ge hm (by omega)) ⟨lr_v4 (by omega) (by omega), lr_v1 (by omega) (by omega), nm_r (e' := upd s m (nI (T m))) (by rw [lr_c1 (by omega), lr_c4 (by omega), hT m hm]) (nm_r (nI_1 m) (ih _ ?_))⟩
    intro j hj
    by_cases e : j = m
    · subst e; rw [pk_us]
    · rw [pk_un e]; exact es j (by omega)
end
section
variable {N P B R : Nat} {f_episodeCount f_queueLen f_recCount : Int32} {a_copies a_opened a_clocks a_holders a_queueNode a_queueLock a_recNode a_recNum a_recStamp a_recNotice a_recDiff a_v a_taken a_twin a_queued a_fetchCount a_mode a_lockClocks : Nat → Int32}
variable {k : Nat} {C LC : Nat → Nat → Nat} {D : Nat → Nat} {L : List lr_R} {Q : Nat → Nat → List lr_R} {WQ : List (Nat × Nat)}
theorem yy_bar36 {post : Int32 → SY → Prop} (hN : N ≤ 4) (Hw : ∀ m, m < N → ¬ a_mode m = 2 → post 1 (nI N, nI P, nI B, nI R, f_queueLen, f_episodeCount, f_recCount, a_copies, a_twin, a_opened, a_queued, a_clocks, a_fetchCount, a_mode, a_holders, a_lockClocks, a_queueNode, a_queueLock, a_recNode, a_recNum, a_recStamp, a_recNotice, a_recDiff, a_v, a_taken)) (Hc : (∀ m, m < N → a_mode m = 2) → ∀ f : Nat, wY_barrier_36 post (nI N) (nI P) (nI B) (nI R) f_queueLen f_episodeCount f_recCount a_copies a_twin a_opened a_queued a_clocks a_fetchCount a_mode a_holders a_lockClocks a_queueNode a_queueLock a_recNode a_recNum a_recStamp a_recNotice a_recDiff a_v a_taken (f + 1) (nI N)) : ∃ n36 : Nat, wY_barrier_36 post (nI N) (nI P) (nI B) (nI R) f_queueLen f_episodeCount f_recCount a_copies a_twin a_opened a_queued a_clocks a_fetchCount a_mode a_holders a_lockClocks a_queueNode a_queueLock a_recNode a_recNum a_recStamp a_recNotice a_recDiff a_v a_taken n36 0 := by
  have key : ∀ d m, m + d = N → (∀ j, j < m → a_mode j = 2) → wY_barrier_36 post (nI N) (nI P) (nI B) (nI R) f_queueLen f_episodeCount f_recCount a_copies a_twin a_opened a_queued a_clocks a_fetchCount a_mode a_holders a_lockClocks a_queueNode a_queueLock a_recNode a_recNum a_recStamp a_recNotice a_recDiff a_v a_taken (d + 1) (nI m) := by
    intro d
    induction d with
    | zero =>
      intro m hm h
      have e : m = N := by omega
      subst e
      exact Hc h 0
    | succ d ih =>
      intro m hm h
      have hc : (nI m).toNatClampNeg = m := lr_c1 (by omega)
      refine br_f (nI_ge (by omega) (by omega)) ⟨lr_v1 (by omega) (by omega), ?_⟩
      by_cases z : a_mode m = 2
      · refine br_t (by rw [hc]; exact z) (nm_r (nI_1 m) (ih (m + 1) (by omega) ?_))
        intro j hj
        by_cases e : j = m
        · subst e; exact z
        · exact h j (by omega)
      · exact br_f (by rw [hc]; exact z) (Hw m (by omega) z)
  exact ⟨_, key N 0 (by omega) (fun j hj => by omega)⟩
theorem yy_bar117 {post : Int32 → SY → Prop} (hN : N ≤ 4) (K : post 0 (nI N, nI P, nI B, nI R, f_queueLen, f_episodeCount + 1, f_recCount, a_copies, a_twin, a_opened, a_queued, a_clocks, a_fetchCount, lr_m0 N a_mode, a_holders, a_lockClocks, a_queueNode, a_queueLock, a_recNode, a_recNum, a_recStamp, a_recNotice, a_recDiff, a_v, a_taken)) : ∃ n117 : Nat, wY_barrier_117 post (nI N) (nI P) (nI B) (nI R) f_queueLen f_episodeCount f_recCount n117 0 a_copies a_twin a_opened a_queued a_clocks a_fetchCount a_mode a_holders a_lockClocks a_queueNode a_queueLock a_recNode a_recNum a_recStamp a_recNotice a_recDiff a_v a_taken := by
  refine loop_0 (fun f m s => wY_barrier_117 post (nI N) (nI P) (nI B) (nI R) f_queueLen f_episodeCount f_recCount f (nI m) a_copies a_twin a_opened a_queued a_clocks a_fetchCount s a_holders a_lockClocks a_queueNode a_queueLock a_recNode a_recNum a_recStamp a_recNotice a_recDiff a_v a_taken) (fun m s => s = lr_m0 m a_mode) N a_mode lr_m0_0 ?_ ?_
  · intro f s es
    subst es
    exact br_t (nI_le (Nat.le_refl _) (by omega)) (nm_e K)
  · intro f m s hm es ih
    subst es
    refine br_f (nI_ge hm (by omega)) ⟨lr_v1 (by omega) (by omega), nm_e (nm_r (nI_1 m) (ih _ ?_))⟩
    rw [lr_c1 (by omega), lr_m0_s]
theorem yy_bar74 {post : Int32 → SY → Prop} {J : Int32 → Int32 → Int32 → Int32 → Int32 → Int32 → Int32 → Int32 → (Nat → Int32) → (Nat → Int32) → (Nat → Int32) → (Nat → Int32) → (Nat → Int32) → (Nat → Int32) → (Nat → Int32) → (Nat → Int32) → (Nat → Int32) → (Nat → Int32) → (Nat → Int32) → (Nat → Int32) → (Nat → Int32) → (Nat → Int32) → (Nat → Int32) → (Nat → Int32) → (Nat → Int32) → (Nat → Int32) → Prop} {i : Nat} {T : Nat → Nat} (hN : N ≤ 4) (hT : ∀ m, m < N → a_clocks (m * 4 + m) = nI (T m)) (K : ∀ (v : Nat → Int32) (f : Nat), (∀ m, m < N → v m = nI (T m)) → wY_barrier_74 post J (nI i) (nI N) (nI P) (nI B) (nI R) f_queueLen f_episodeCount f_recCount (f + 1) (nI N) a_copies a_twin a_opened a_queued a_clocks a_fetchCount a_mode a_holders a_lockClocks a_queueNode a_queueLock a_recNode a_recNum a_recStamp a_recNotice a_recDiff v a_taken) : ∃ n74 : Nat, wY_barrier_74 post J (nI i) (nI N) (nI P) (nI B) (nI R) f_queueLen f_episodeCount f_recCount n74 0 a_copies a_twin a_opened a_queued a_clocks a_fetchCount a_mode a_holders a_lockClocks a_queueNode a_queueLock a_recNode a_recNum a_recStamp a_recNotice a_recDiff a_v a_taken := by
  refine loop_0 (fun f m s => wY_barrier_74 post J (nI i) (nI N) (nI P) (nI B) (nI R) f_queueLen f_episodeCount f_recCount f (nI m) a_copies a_twin a_opened a_queued a_clocks a_fetchCount a_mode a_holders a_lockClocks a_queueNode a_queueLock a_recNode a_recNum a_recStamp a_recNotice a_recDiff s a_taken) (fun m s => ∀ j, j < m → s j = nI (T j)) N a_v (fun j hj => by omega) ?_ ?_
  · intro f s es
    exact K s f es
  · intro f m s hm es ih
    refine br_f (nI_ge hm (by omega)) ⟨lr_v4 (by omega) (by omega), lr_v1 (by omega) (by omega), nm_r (e' := upd s m (nI (T m))) (by rw [lr_c1 (by omega), lr_c4 (by omega), hT m hm]) (nm_r (nI_1 m) (ih _ ?_))⟩
    intro j hj
    by_cases e : j = m
    · subst e; rw [pk_us]
    · rw [pk_un e]; exact es j (by omega)
end
section
variable {N P B R : Nat} {f_openPages f_openNodes f_freeSlotCount f_retained f_freeEntry f_entriesUsed f_episodeCount : Int32} {a_copy a_twin a_opened a_openCount a_queue a_queued a_fetchCount a_clocks a_dropped a_slots a_freeSlots a_stamps a_sums a_notices a_chain a_entryAddr a_entryValue a_entryNext a_mode a_holders a_line a_lineLength a_lockClocks a_target a_cursor a_floor : Nat → Int32}
variable {k : Nat} {C LC : Nat → Nat → Nat} {D : Nat → Nat} {L : List lr_R} {Q : Nat → Nat → List lr_R} {WQ : List (Nat × Nat)}
variable {f_queueLen f_recCount : Int32} {a_copies a_queueNode a_queueLock a_recNode a_recNum a_recStamp a_recNotice a_recDiff a_v a_taken : Nat → Int32}
theorem zz_bar {post : SX → Prop} {T : Nat → Nat} (hk : k ≤ 3000) (hT : ∀ m, m < N → a_target m = nI (T m)) (hon : ∀ n, n < N → lr_on a_opened P n = 0) :
    ∀ (d i : Nat), i + d = N → ∀ (C : Nat → Nat → Nat) (Q : Nat → Nat → List lr_R) (cps qu qd cl cu : Nat → Int32), zz_J k N P B R C D LC L Q WQ f_openPages f_openNodes f_freeSlotCount f_retained f_freeEntry f_entriesUsed a_copy a_opened a_openCount qu qd cl a_dropped a_slots a_freeSlots a_stamps a_sums a_notices a_chain a_entryAddr a_entryValue a_entryNext a_mode a_line a_lineLength a_lockClocks f_queueLen cps a_queueNode a_queueLock → (∀ m, m < N → C m m = T m) →
    (∀ (C' : Nat → Nat → Nat) (Q' : Nat → Nat → List lr_R) (cps' qu' qd' cl' cu' : Nat → Int32), zz_J k N P B R C' D LC L Q' WQ f_openPages f_openNodes f_freeSlotCount f_retained f_freeEntry f_entriesUsed a_copy a_opened a_openCount qu' qd' cl' a_dropped a_slots a_freeSlots a_stamps a_sums a_notices a_chain a_entryAddr a_entryValue a_entryNext a_mode a_line a_lineLength a_lockClocks f_queueLen cps' a_queueNode a_queueLock → (∀ m, m < N → C' m m = T m) →
      (∀ (postY : Int32 → SY → Prop) (y2 : Int32) (b9 b10 b11 b12 b13 v tk : Nat → Int32), lr_YR N P B L y2 b9 b10 b11 b12 b13 →
        (∀ (v' tk' : Nat → Int32) (f : Nat), wY_barrier_64 postY (f + 1) (nI N) (nI N) (nI P) (nI B) (nI R) f_queueLen f_episodeCount y2 cps' a_twin a_opened qd' cl' a_fetchCount a_mode a_holders a_lockClocks a_queueNode a_queueLock b9 b10 b11 b12 b13 v' tk') →
        wY_barrier_64 postY (d + 1) (nI i) (nI N) (nI P) (nI B) (nI R) f_queueLen f_episodeCount y2 cps a_twin a_opened qd cl a_fetchCount a_mode a_holders a_lockClocks a_queueNode a_queueLock b9 b10 b11 b12 b13 v tk) →
      ∃ n55 : Nat, wX_completeBarrier_55 post (nI N) (nI P) (nI B) (nI R) (nI (P * B)) f_openPages f_openNodes f_freeSlotCount f_retained f_freeEntry f_entriesUsed f_episodeCount n55 0 a_copy a_twin a_opened a_openCount qu' qd' a_fetchCount cl' a_dropped a_slots a_freeSlots a_stamps a_sums a_notices a_chain a_entryAddr a_entryValue a_entryNext a_mode a_holders a_line a_lineLength a_lockClocks a_target cu' a_floor) →
    wX_completeBarrier_34 post (d + 1) (nI i) (nI N) (nI P) (nI B) (nI R) (nI (P * B)) f_openPages f_openNodes f_freeSlotCount f_retained f_freeEntry f_entriesUsed f_episodeCount a_copy a_twin a_opened a_openCount qu qd a_fetchCount cl a_dropped a_slots a_freeSlots a_stamps a_sums a_notices a_chain a_entryAddr a_entryValue a_entryNext a_mode a_holders a_line a_lineLength a_lockClocks a_target cu a_floor := by
  intro d
  induction d with
  | zero =>
    intro i hi C Q cps qu qd cl cu J hC H
    have z2 := J.1.2.1
    have e : i = N := by omega
    subst e
    refine br_t (nI_le (Nat.le_refl _) (by omega)) (H C Q cps qu qd cl cu J hC ?_)
    intro postY y2 b9 b10 b11 b12 b13 v tk hY hp
    exact hp v tk 0
  | succ d ih =>
    intro i hi C Q cps qu qd cl cu J hC H
    have z2 := J.1.2.1
    have hCK := J.2.1
    refine br_f (nI_ge (by omega) (by omega)) (zz_learn (T := T) J (by omega) hk (hon i (by omega)) (fun m hm => ⟨hT m hm, by rw [hC m hm]; exact Nat.le_refl _⟩) ?_)
    intro C1 Q1 cps1 qu1 qd1 cl1 cu1 J1 hd1 hY1
    refine nm_r (nI_1 i) (ih (i + 1) (by omega) C1 Q1 cps1 qu1 qd1 cl1 cu1 J1 (fun m hm => (hd1 m hm).trans (hC m hm)) ?_)
    intro C' Q' cps' qu' qd' cl' cu' J' hC' hY'
    refine H C' Q' cps' qu' qd' cl' cu' J' hC' ?_
    intro postY y2 b9 b10 b11 b12 b13 v tk hYR hp
    refine br_f (nI_ge (by omega) (by omega)) (yy_bar74 (T := T) z2 (fun m hm => by rw [(hCK.1 m m hm hm).1, hC m hm]) ?_)
    intro v1 f hv1
    refine br_t (nI_le (Nat.le_refl _) (by omega)) (hY1 _ _ _ _ _ _ _ _ _ _ _ _ _ _ _ _ _ _ _ hYR hv1 ?_)
    intro tk1
    exact nm_r (nI_1 i) (hY' postY y2 b9 b10 b11 b12 b13 v1 tk1 hYR hp)
end
end
section
/-! collect: what all nodes know; the accesses -/
def lr_ml (C : Nat → Nat → Nat) (m : Nat) : Nat → Nat
  | 0 => C m m
  | n + 1 => if lr_ml C m n ≤ C n m then lr_ml C m n else C n m
theorem lr_ml_le {C : Nat → Nat → Nat} {m : Nat} : ∀ {N : Nat}, lr_ml C m N ≤ C m m ∧ ∀ n, n < N → lr_ml C m N ≤ C n m := by
  intro N
  induction N with
  | zero => exact ⟨Nat.le_refl _, fun n h => by omega⟩
  | succ N ih =>
    show (if lr_ml C m N ≤ C N m then lr_ml C m N else C N m) ≤ C m m ∧ ∀ n, n < N + 1 → (if lr_ml C m N ≤ C N m then lr_ml C m N else C N m) ≤ C n m
    by_cases h : lr_ml C m N ≤ C N m
    · rw [if_pos h]
      refine ⟨ih.1, ?_⟩
      intro n hn
      by_cases e : n = N
      · subst e; exact h
      · exact ih.2 n (by omega)
    · rw [if_neg h]
      refine ⟨by have := ih.1; omega, ?_⟩
      intro n hn
      by_cases e : n = N
      · subst e; exact Nat.le_refl _
      · have := ih.2 n (by omega); omega
theorem lr_ml_ge {C : Nat → Nat → Nat} {m x : Nat} : ∀ {N : Nat}, x ≤ C m m → (∀ n, n < N → x ≤ C n m) → x ≤ lr_ml C m N := by
  intro N
  induction N with
  | zero => intro h _; exact h
  | succ N ih =>
    intro h1 h2
    show x ≤ (if lr_ml C m N ≤ C N m then lr_ml C m N else C N m)
    by_cases h : lr_ml C m N ≤ C N m
    · rw [if_pos h]; exact ih h1 (fun n hn => h2 n (by omega))
    · rw [if_neg h]; exact h2 N (by omega)
/-- the records above the thresholds f -/
def lr_dp (f : Nat → Nat) (L : List lr_R) : List lr_R := L.filter (fun q => decide (f (lr_n q) < lr_k q))
theorem lr_dp_mem {f : Nat → Nat} {L : List lr_R} {q : lr_R} : q ∈ lr_dp f L ↔ q ∈ L ∧ f (lr_n q) < lr_k q := by
  unfold lr_dp
  rw [List.mem_filter, decide_eq_true_iff]
theorem lr_dp_snoc1 {f : Nat → Nat} {L : List lr_R} {q : lr_R} (h : f (lr_n q) < lr_k q) : lr_dp f (L ++ [q]) = lr_dp f L ++ [q] := by
  unfold lr_dp
  rw [List.filter_append, List.filter_cons_of_pos (by simpa using h)]; rfl
theorem lr_dp_snoc0 {f : Nat → Nat} {L : List lr_R} {q : lr_R} (h : ¬ f (lr_n q) < lr_k q) : lr_dp f (L ++ [q]) = lr_dp f L := by
  unfold lr_dp
  rw [List.filter_append, List.filter_cons_of_neg (by simpa using h), List.filter_nil, List.append_nil]
theorem lr_dp_len {f : Nat → Nat} {L : List lr_R} : (lr_dp f L).length ≤ L.length := List.length_filter_le _ _
theorem lr_dp_cnt {f : Nat → Nat} (L : List lr_R) : (lr_dp f L).length + (L.filter (fun q => decide (lr_k q ≤ f (lr_n q)))).length = L.length := by
  induction L with
  | nil => rfl
  | cons q L ih =>
    unfold lr_dp at ih ⊢
    by_cases h : f (lr_n q) < lr_k q
    · rw [List.filter_cons_of_pos (by simpa using h), List.filter_cons_of_neg (by simp; omega), List.length_cons, List.length_cons]; omega
    · rw [List.filter_cons_of_neg (by simpa using h), List.filter_cons_of_pos (by simp; omega), List.length_cons, List.length_cons]; omega
section
variable {N P B R : Nat} {f_openPages f_openNodes f_freeSlotCount f_retained f_freeEntry f_entriesUsed f_episodeCount : Int32} {a_copy a_twin a_opened a_openCount a_queue a_queued a_fetchCount a_clocks a_dropped a_slots a_freeSlots a_stamps a_sums a_notices a_chain a_entryAddr a_entryValue a_entryNext a_mode a_holders a_line a_lineLength a_lockClocks a_target a_cursor a_floor : Nat → Int32}
variable {k : Nat} {C LC : Nat → Nat → Nat} {D : Nat → Nat} {L : List lr_R} {Q : Nat → Nat → List lr_R} {WQ : List (Nat × Nat)}
variable {f_queueLen f_recCount : Int32} {a_copies a_queueNode a_queueLock a_recNode a_recNum a_recStamp a_recNotice a_recDiff a_v a_taken : Nat → Int32}
theorem xx_leastKnown {post : Int32 → Prop} {m : Nat} (hN : N ≤ 4) (hm : m < N) (hC : ∀ n, n < N → a_clocks (n * 4 + m) = nI (C n m) ∧ C n m < 100000) (K : post (nI (lr_ml C m N))) : wpX_leastKnown post (nI N, nI P, nI B, nI R, nI (P * B), f_openPages, f_openNodes, f_freeSlotCount, f_retained, f_freeEntry, f_entriesUsed, f_episodeCount, a_copy, a_twin, a_opened, a_openCount, a_queue, a_queued, a_fetchCount, a_clocks, a_dropped, a_slots, a_freeSlots, a_stamps, a_sums, a_notices, a_chain, a_entryAddr, a_entryValue, a_entryNext, a_mode, a_holders, a_line, a_lineLength, a_lockClocks, a_target, a_cursor, a_floor) (nI m) := by
  refine ⟨lr_v4 (by omega) (by omega), nm_r (e' := nI (C m m)) (by rw [lr_c4 (by omega), (hC m hm).1]) ?_⟩
  refine loop_0 (fun f n x => wX_leastKnown_13 post (nI m) (nI N) (nI P) (nI B) (nI R) (nI (P * B)) f_openPages f_openNodes f_freeSlotCount f_retained f_freeEntry f_entriesUsed f_episodeCount a_copy a_twin a_opened a_openCount a_queue a_queued a_fetchCount a_clocks a_dropped a_slots a_freeSlots a_stamps a_sums a_notices a_chain a_entryAddr a_entryValue a_entryNext a_mode a_holders a_line a_lineLength a_lockClocks a_target a_cursor a_floor f x (nI n)) (fun n x => x = nI (lr_ml C m n)) N (nI (C m m)) rfl ?_ ?_
  · intro f x ex
    subst ex
    exact br_t (nI_le (Nat.le_refl _) (by omega)) K
  · intro f n x hn ex ih
    subst ex
    have h1 : a_clocks (nI n * 4 + nI m).toNatClampNeg = nI (C n m) := by rw [lr_c4 (by omega), (hC n hn).1]
    have h2 := (hC n hn).2
    have h3 := (lr_ml_le (C := C) (m := m) (N := n)).1
    have h4 := (hC m hm).2
    refine br_f (nI_ge hn (by omega)) ⟨lr_v4 (by omega) (by omega), ?_⟩
    by_cases h : lr_ml C m n ≤ C n m
    · refine br_t (by rw [h1]; exact nI_le h (by omega)) (nm_r (nI_1 n) (ih _ ?_))
      rw [show lr_ml C m (n + 1) = lr_ml C m n from if_pos h]
    · refine br_f (by rw [h1]; exact nI_ge (by omega) (by omega)) ⟨lr_v4 (by omega) (by omega), nm_r (e' := nI (C n m)) h1 (nm_r (nI_1 n) (ih _ ?_))⟩
      rw [show lr_ml C m (n + 1) = C n m from if_neg h]
theorem xx_coll4 {post : Int32 → SX → Prop} (hN : N ≤ 4) (hC : ∀ n m, n < N → m < N → a_clocks (n * 4 + m) = nI (C n m) ∧ C n m < 10000 ∧ D m ≤ C n m) (hD : ∀ m, m < N → a_dropped m = nI (D m))
    (H0 : ∀ fl : Nat → Int32, lr_sum (fun m => lr_ml C m N - D m) N = 0 → post 0 (nI N, nI P, nI B, nI R, nI (P * B), f_openPages, f_openNodes, f_freeSlotCount, f_retained, f_freeEntry, f_entriesUsed, f_episodeCount, a_copy, a_twin, a_opened, a_openCount, a_queue, a_queued, a_fetchCount, a_clocks, a_dropped, a_slots, a_freeSlots, a_stamps, a_sums, a_notices, a_chain, a_entryAddr, a_entryValue, a_entryNext, a_mode, a_holders, a_line, a_lineLength, a_lockClocks, a_target, a_cursor, fl))
    (H1 : ∀ fl : Nat → Int32, (∀ m, m < N → fl m = nI (lr_ml C m N)) → ¬ lr_sum (fun m => lr_ml C m N - D m) N = 0 → ∃ n53 : Nat, wX_collect_53 post (nI (lr_sum (fun m => lr_ml C m N - D m) N)) n53 0 (nI N) (nI P) (nI B) (nI R) (nI (P * B)) f_openPages f_openNodes f_freeSlotCount f_retained f_freeEntry f_entriesUsed f_episodeCount a_copy a_twin a_opened a_openCount a_queue a_queued a_fetchCount a_clocks a_dropped a_slots a_freeSlots a_stamps a_sums a_notices a_chain a_entryAddr a_entryValue a_entryNext a_mode a_holders a_line a_lineLength a_lockClocks a_target a_cursor fl) : wpX_collect post (nI N, nI P, nI B, nI R, nI (P * B), f_openPages, f_openNodes, f_freeSlotCount, f_retained, f_freeEntry, f_entriesUsed, f_episodeCount, a_copy, a_twin, a_opened, a_openCount, a_queue, a_queued, a_fetchCount, a_clocks, a_dropped, a_slots, a_freeSlots, a_stamps, a_sums, a_notices, a_chain, a_entryAddr, a_entryValue, a_entryNext, a_mode, a_holders, a_line, a_lineLength, a_lockClocks, a_target, a_cursor, a_floor) := by
  have hbd : ∀ m, m < N → lr_ml C m N - D m ≤ 10000 := by
    intro m hm
    have h1 := (lr_ml_le (C := C) (m := m) (N := N)).1
    have h2 := (hC m m hm hm).2.1
    omega
  have hsb := lr_sum_bd hbd
  have hsb2 : N * 10000 ≤ 4 * 10000 := Nat.mul_le_mul_right _ hN
  refine loop_0 (fun f m s => wX_collect_4 post (nI N) (nI P) (nI B) (nI R) (nI (P * B)) f_openPages f_openNodes f_freeSlotCount f_retained f_freeEntry f_entriesUsed f_episodeCount f s.1 (nI m) a_copy a_twin a_opened a_openCount a_queue a_queued a_fetchCount a_clocks a_dropped a_slots a_freeSlots a_stamps a_sums a_notices a_chain a_entryAddr a_entryValue a_entryNext a_mode a_holders a_line a_lineLength a_lockClocks a_target a_cursor s.2) (fun m s => s.1 = nI (lr_sum (fun m => lr_ml C m N - D m) m) ∧ ∀ j, j < m → s.2 j = nI (lr_ml C j N)) N (0, a_floor) ⟨rfl, fun j hj => by omega⟩ ?_ ?_
  · intro f s ⟨e1, e2⟩
    obtain ⟨s1, s2⟩ := s
    have e1' : s1 = nI (lr_sum (fun m => lr_ml C m N - D m) N) := e1
    subst e1'
    refine br_t (nI_le (Nat.le_refl _) (by omega)) ?_
    by_cases z : lr_sum (fun m => lr_ml C m N - D m) N = 0
    · exact br_t (by show nI (lr_sum (fun m => lr_ml C m N - D m) N) = 0; rw [z]; rfl) (H0 s2 z)
    · exact br_f (nI_ne0 (by omega) (by omega)) (H1 s2 e2 z)
  · intro f m s hm ⟨e1, e2⟩ ih
    obtain ⟨s1, s2⟩ := s
    have e1' : s1 = nI (lr_sum (fun m => lr_ml C m N - D m) m) := e1
    subst e1'
    have hcm : (nI m).toNatClampNeg = m := lr_c1 (by omega)
    have vm : vp_in (nI m) 4 := lr_v1 (by omega) (by omega)
    have hDl : D m ≤ lr_ml C m N := lr_ml_ge (hC m m hm hm).2.2 (fun n hn => (hC n m hn hm).2.2)
    refine br_f (nI_ge hm (by omega)) (xx_leastKnown (C := C) hN hm (fun n hn => ⟨(hC n m hn hm).1, by have := (hC n m hn hm).2.1; omega⟩) ⟨vm, nm_r (e' := upd s2 m (nI (lr_ml C m N))) (by rw [hcm]) ⟨vm, vm, nm_r (e' := nI (lr_sum (fun m => lr_ml C m N - D m) (m + 1))) ?_ (nm_r (nI_1 m) (ih (nI (lr_sum (fun m => lr_ml C m N - D m) (m + 1)), upd s2 m (nI (lr_ml C m N))) ⟨rfl, ?_⟩))⟩⟩)
    · show nI (lr_sum (fun m => lr_ml C m N - D m) m) + (upd s2 m (nI (lr_ml C m N)) (nI m).toNatClampNeg - a_dropped (nI m).toNatClampNeg) = _
      rw [hcm, pk_us, hD m hm, pk_sub hDl, nI_add]; rfl
    · intro j hj
      show upd s2 m (nI (lr_ml C m N)) j = _
      by_cases e : j = m
      · subst e; rw [pk_us]
      · rw [pk_un e]; exact e2 j (by omega)
end
section
variable {N P B R : Nat} {f_episodeCount f_queueLen f_recCount : Int32} {a_copies a_opened a_clocks a_holders a_queueNode a_queueLock a_recNode a_recNum a_recStamp a_recNotice a_recDiff a_v a_taken a_twin a_queued a_fetchCount a_mode a_lockClocks : Nat → Int32}
variable {k : Nat} {C LC : Nat → Nat → Nat} {D : Nat → Nat} {L : List lr_R} {Q : Nat → Nat → List lr_R} {WQ : List (Nat × Nat)}
theorem yy_coll4 {post : Int32 → SY → Prop} (Z : lr_Sz N P B R) (hL : L.length ≤ 32) (hC : ∀ n m, n < N → m < N → a_clocks (n * 4 + m) = nI (C n m) ∧ C n m < 10000) (l1 : lr_L1 N C D L) (Y : lr_YR N P B L f_recCount a_recNode a_recNum a_recStamp a_recNotice a_recDiff)
    (H0 : (L.filter (fun q => decide (lr_k q ≤ lr_ml C (lr_n q) N))).length = 0 → post 0 (nI N, nI P, nI B, nI R, f_queueLen, f_episodeCount, f_recCount, a_copies, a_twin, a_opened, a_queued, a_clocks, a_fetchCount, a_mode, a_holders, a_lockClocks, a_queueNode, a_queueLock, a_recNode, a_recNum, a_recStamp, a_recNotice, a_recDiff, a_v, a_taken))
    (H1 : ¬ (L.filter (fun q => decide (lr_k q ≤ lr_ml C (lr_n q) N))).length = 0 → ∃ n37 : Nat, wY_collect_37 post (nI (L.filter (fun q => decide (lr_k q ≤ lr_ml C (lr_n q) N))).length) n37 0 (nI N) (nI P) (nI B) (nI R) f_queueLen f_episodeCount f_recCount a_copies a_twin a_opened a_queued a_clocks a_fetchCount a_mode a_holders a_lockClocks a_queueNode a_queueLock a_recNode a_recNum a_recStamp a_recNotice a_recDiff a_v a_taken) : wpY_collect post (nI N, nI P, nI B, nI R, f_queueLen, f_episodeCount, f_recCount, a_copies, a_twin, a_opened, a_queued, a_clocks, a_fetchCount, a_mode, a_holders, a_lockClocks, a_queueNode, a_queueLock, a_recNode, a_recNum, a_recStamp, a_recNotice, a_recDiff, a_v, a_taken) := by
  obtain ⟨z1, z2, z3, z4, z5, z6, z7, z8⟩ := Z
  obtain ⟨y0, yr⟩ := Y
  subst y0
  have hfl := List.length_filter_le (fun q => decide (lr_k q ≤ lr_ml C (lr_n q) N)) L
  refine loop_0 (fun f r s => wY_collect_4 post (nI N) (nI P) (nI B) (nI R) f_queueLen f_episodeCount (nI L.length) a_copies a_twin a_opened a_queued a_clocks a_fetchCount a_mode a_holders a_lockClocks a_queueNode a_queueLock a_recNode a_recNum a_recStamp a_recNotice a_recDiff a_v a_taken f s (nI r)) (fun r s => s = nI ((L.take r).filter (fun q => decide (lr_k q ≤ lr_ml C (lr_n q) N))).length) L.length 0 rfl ?_ ?_
  · intro f s es
    rw [List.take_length] at es
    subst es
    refine br_t (nI_le (Nat.le_refl _) (by omega)) ?_
    by_cases z : (L.filter (fun q => decide (lr_k q ≤ lr_ml C (lr_n q) N))).length = 0
    · exact br_t (by rw [z]; rfl) (H0 z)
    · exact br_f (nI_ne0 (by omega) (by omega)) (H1 z)
  · intro f r s hr es ih
    subst es
    have hg : L[r]? = some L[r] := List.getElem?_eq_getElem hr
    obtain ⟨⟨e1, e2⟩, _⟩ := yr r _ hg
    have hq := l1.1 _ (lr_at_mem hg)
    have hCq := (hC _ _ hq.1 hq.1).2
    have htk : (L.take (r + 1)).filter (fun q => decide (lr_k q ≤ lr_ml C (lr_n q) N)) = (L.take r).filter (fun q => decide (lr_k q ≤ lr_ml C (lr_n q) N)) ++ [L[r]].filter (fun q => decide (lr_k q ≤ lr_ml C (lr_n q) N)) := by
      rw [← List.take_append_getElem hr, List.filter_append]
    refine br_f (nI_ge hr (by omega)) (yy_knownToAll (C := C) (d := lr_n L[r]) (k := lr_k L[r]) (by omega) z2 (by omega) e1 e2 (by omega) (fun m hm => ⟨(hC m _ hm hq.1).1, by have := (hC m _ hm hq.1).2; omega⟩) ?_ ?_)
    · intro hk
      have hle : lr_k L[r] ≤ lr_ml C (lr_n L[r]) N := lr_ml_ge (hk _ hq.1) hk
      refine br_f (by decide) (nm_e (nm_r (nI_1 r) (ih _ ?_)))
      rw [htk, List.filter_cons_of_pos (by simpa using hle), List.filter_nil, List.length_append, List.length_singleton, nI_1]
    · intro m hm hk
      have hle : ¬ lr_k L[r] ≤ lr_ml C (lr_n L[r]) N := by
        have := (lr_ml_le (C := C) (m := lr_n L[r]) (N := N)).2 m hm
        omega
      refine br_t rfl (nm_r (nI_1 r) (ih _ ?_))
      rw [htk, List.filter_cons_of_neg (by simpa using hle), List.filter_nil, List.append_nil]
end
/-- all queues before node n, page p are empty -/
def lr_em (N P : Nat) (Q : Nat → Nat → List lr_R) (n p : Nat) : Prop := ∀ n' p', n' < N → p' < P → (n' < n ∨ (n' = n ∧ p' < p)) → Q n' p' = []
theorem lr_em_s {N P n p : Nat} {Q : Nat → Nat → List lr_R} (h : lr_em N P Q n p) : lr_em N P (lr_Qu Q n p []) n (p + 1) := by
  intro n' p' hn' hp' hc
  by_cases e : n' = n ∧ p' = p
  · obtain ⟨rfl, rfl⟩ := e; exact lr_Qu_s
  · rw [lr_Qu_n e]; exact h n' p' hn' hp' (by omega)
section
variable {N P B R : Nat} {f_openPages f_openNodes f_freeSlotCount f_retained f_freeEntry f_entriesUsed f_episodeCount : Int32} {a_copy a_twin a_opened a_openCount a_queue a_queued a_fetchCount a_clocks a_dropped a_slots a_freeSlots a_stamps a_sums a_notices a_chain a_entryAddr a_entryValue a_entryNext a_mode a_holders a_line a_lineLength a_lockClocks a_target a_cursor a_floor : Nat → Int32}
variable {k : Nat} {C LC : Nat → Nat → Nat} {D : Nat → Nat} {L : List lr_R} {Q : Nat → Nat → List lr_R} {WQ : List (Nat × Nat)}
variable {f_queueLen f_recCount : Int32} {a_copies a_queueNode a_queueLock a_recNode a_recNum a_recStamp a_recNotice a_recDiff a_v a_taken : Nat → Int32}
theorem zz_J_acc {n p : Nat} (J : zz_J k N P B R C D LC L Q WQ f_openPages f_openNodes f_freeSlotCount f_retained f_freeEntry f_entriesUsed a_copy a_opened a_openCount a_queue a_queued a_clocks a_dropped a_slots a_freeSlots a_stamps a_sums a_notices a_chain a_entryAddr a_entryValue a_entryNext a_mode a_line a_lineLength a_lockClocks f_queueLen a_copies a_queueNode a_queueLock) (hp : p < P) : zz_J k N P B R C D LC L (lr_Qu Q n p []) WQ f_openPages f_openNodes f_freeSlotCount f_retained f_freeEntry f_entriesUsed (lr_acc n (p * B) B (Q n p) a_copy) a_opened a_openCount a_queue (upd a_queued (n * 4 + p) 0) a_clocks a_dropped a_slots a_freeSlots a_stamps a_sums a_notices a_chain a_entryAddr a_entryValue a_entryNext a_mode a_line a_lineLength a_lockClocks f_queueLen a_copies a_queueNode a_queueLock := by
  obtain ⟨Z, hCK, hOP, hXR, hLL, ⟨m1, m2, m3⟩, hWT, hMO⟩ := J
  exact ⟨Z, hCK, hOP, hXR, hLL, ⟨lr_M1_acc Z.2.2.2.1 hp m1, lr_M2_acc m2, lr_M3_acc (lr_PB Z) m3⟩, hWT, hMO⟩
theorem zz_acc63 {post : Int32 → SX → Prop} {Jx : Int32 → Int32 → Int32 → Int32 → Int32 → Int32 → Int32 → Int32 → Int32 → Int32 → Int32 → Int32 → Int32 → (Nat → Int32) → (Nat → Int32) → (Nat → Int32) → (Nat → Int32) → (Nat → Int32) → (Nat → Int32) → (Nat → Int32) → (Nat → Int32) → (Nat → Int32) → (Nat → Int32) → (Nat → Int32) → (Nat → Int32) → (Nat → Int32) → (Nat → Int32) → (Nat → Int32) → (Nat → Int32) → (Nat → Int32) → (Nat → Int32) → (Nat → Int32) → (Nat → Int32) → (Nat → Int32) → (Nat → Int32) → (Nat → Int32) → (Nat → Int32) → (Nat → Int32) → (Nat → Int32) → Prop} {x1 : Int32} {n : Nat} (hn : n < N) :
    ∀ (d p : Nat), p + d = P → ∀ (Q : Nat → Nat → List lr_R) (cp fc qd : Nat → Int32), zz_J k N P B R C D LC L Q WQ f_openPages f_openNodes f_freeSlotCount f_retained f_freeEntry f_entriesUsed cp a_opened a_openCount a_queue qd a_clocks a_dropped a_slots a_freeSlots a_stamps a_sums a_notices a_chain a_entryAddr a_entryValue a_entryNext a_mode a_line a_lineLength a_lockClocks f_queueLen a_copies a_queueNode a_queueLock → lr_em N P Q n p →
    (∀ (Q' : Nat → Nat → List lr_R) (cp' fc' qd' : Nat → Int32), zz_J k N P B R C D LC L Q' WQ f_openPages f_openNodes f_freeSlotCount f_retained f_freeEntry f_entriesUsed cp' a_opened a_openCount a_queue qd' a_clocks a_dropped a_slots a_freeSlots a_stamps a_sums a_notices a_chain a_entryAddr a_entryValue a_entryNext a_mode a_line a_lineLength a_lockClocks f_queueLen a_copies a_queueNode a_queueLock → lr_em N P Q' n P →
      (∀ (postY : Int32 → SY → Prop) (Jy : Int32 → Int32 → Int32 → Int32 → Int32 → Int32 → Int32 → Int32 → (Nat → Int32) → (Nat → Int32) → (Nat → Int32) → (Nat → Int32) → (Nat → Int32) → (Nat → Int32) → (Nat → Int32) → (Nat → Int32) → (Nat → Int32) → (Nat → Int32) → (Nat → Int32) → (Nat → Int32) → (Nat → Int32) → (Nat → Int32) → (Nat → Int32) → (Nat → Int32) → (Nat → Int32) → (Nat → Int32) → Prop) (y1 : Int32), Jy (nI (n + 1)) (nI N) (nI P) (nI B) (nI R) f_queueLen f_episodeCount f_recCount a_copies a_twin a_opened qd' a_clocks fc' a_mode a_holders a_lockClocks a_queueNode a_queueLock a_recNode a_recNum a_recStamp a_recNotice a_recDiff a_v a_taken → wY_collect_47 postY Jy y1 (nI n) (d + 1) (nI p) (nI N) (nI P) (nI B) (nI R) f_queueLen f_episodeCount f_recCount a_copies a_twin a_opened qd a_clocks fc a_mode a_holders a_lockClocks a_queueNode a_queueLock a_recNode a_recNum a_recStamp a_recNotice a_recDiff a_v a_taken) →
      Jx (nI (n + 1)) (nI N) (nI P) (nI B) (nI R) (nI (P * B)) f_openPages f_openNodes f_freeSlotCount f_retained f_freeEntry f_entriesUsed f_episodeCount cp' a_twin a_opened a_openCount a_queue qd' fc' a_clocks a_dropped a_slots a_freeSlots a_stamps a_sums a_notices a_chain a_entryAddr a_entryValue a_entryNext a_mode a_holders a_line a_lineLength a_lockClocks a_target a_cursor a_floor) →
    wX_collect_63 post Jx x1 (nI n) (d + 1) (nI p) (nI N) (nI P) (nI B) (nI R) (nI (P * B)) f_openPages f_openNodes f_freeSlotCount f_retained f_freeEntry f_entriesUsed f_episodeCount cp a_twin a_opened a_openCount a_queue qd fc a_clocks a_dropped a_slots a_freeSlots a_stamps a_sums a_notices a_chain a_entryAddr a_entryValue a_entryNext a_mode a_holders a_line a_lineLength a_lockClocks a_target a_cursor a_floor := by
  intro d
  induction d with
  | zero =>
    intro p hp Q cp fc qd J hE H
    have z4 := J.1.2.2.2.1
    have e : p = P := by omega
    subst e
    refine br_t (nI_le (Nat.le_refl _) (by omega)) (nm_r (nI_1 n) (H Q cp fc qd J hE ?_))
    intro postY Jy y1 hp
    exact br_t (nI_le (Nat.le_refl _) (by omega)) (nm_r (nI_1 n) hp)
  | succ d ih =>
    intro p hp Q cp fc qd J hE H
    have J' := J
    obtain ⟨Z, hCK, hOP, hXR, ⟨l1, l2, l3, l4⟩, ⟨m1, m2, m3⟩, hWT, hMO⟩ := J
    have hL := lr_L4_32 Z l4
    have z4 := Z.2.2.2.1
    have z2 := Z.2.1
    refine br_f (nI_ge (by omega) (by omega)) (xx_accessR Z hL hXR m1 m2 hn (by omega) (nm_r (nI_1 p) (ih (p + 1) (by omega) (lr_Qu Q n p []) _ _ _ (zz_J_acc J' (by omega)) (lr_em_s hE) ?_)))
    intro Q' cp' fc' qd' J2 hE2 hY2
    refine H Q' cp' fc' qd' J2 hE2 ?_
    intro postY Jy y1 hp
    exact br_f (nI_ge (by omega) (by omega)) (yy_access (by omega) (by omega) (nm_r (nI_1 p) (hY2 postY Jy y1 hp)))
theorem zz_acc53 {post : Int32 → SX → Prop} {x1 : Int32} :
    ∀ (d n : Nat), n + d = N → ∀ (Q : Nat → Nat → List lr_R) (cp fc qd : Nat → Int32), zz_J k N P B R C D LC L Q WQ f_openPages f_openNodes f_freeSlotCount f_retained f_freeEntry f_entriesUsed cp a_opened a_openCount a_queue qd a_clocks a_dropped a_slots a_freeSlots a_stamps a_sums a_notices a_chain a_entryAddr a_entryValue a_entryNext a_mode a_line a_lineLength a_lockClocks f_queueLen a_copies a_queueNode a_queueLock → lr_em N P Q n 0 →
    (∀ (Q' : Nat → Nat → List lr_R) (cp' fc' qd' : Nat → Int32), zz_J k N P B R C D LC L Q' WQ f_openPages f_openNodes f_freeSlotCount f_retained f_freeEntry f_entriesUsed cp' a_opened a_openCount a_queue qd' a_clocks a_dropped a_slots a_freeSlots a_stamps a_sums a_notices a_chain a_entryAddr a_entryValue a_entryNext a_mode a_line a_lineLength a_lockClocks f_queueLen a_copies a_queueNode a_queueLock → lr_em N P Q' N 0 →
      (∀ (postY : Int32 → SY → Prop) (y1 : Int32), (∃ n77 : Nat, wY_collect_77 postY y1 (nI N) (nI P) (nI B) (nI R) f_queueLen f_episodeCount f_recCount n77 0 0 a_copies a_twin a_opened qd' a_clocks fc' a_mode a_holders a_lockClocks a_queueNode a_queueLock a_recNode a_recNum a_recStamp a_recNotice a_recDiff a_v a_taken) → wY_collect_37 postY y1 (d + 1) (nI n) (nI N) (nI P) (nI B) (nI R) f_queueLen f_episodeCount f_recCount a_copies a_twin a_opened qd a_clocks fc a_mode a_holders a_lockClocks a_queueNode a_queueLock a_recNode a_recNum a_recStamp a_recNotice a_recDiff a_v a_taken) →
      ∃ n91 : Nat, wX_collect_91 post x1 n91 0 (nI N) (nI P) (nI B) (nI R) (nI (P * B)) f_openPages f_openNodes f_freeSlotCount f_retained f_freeEntry f_entriesUsed f_episodeCount cp' a_twin a_opened a_openCount a_queue qd' fc' a_clocks a_dropped a_slots a_freeSlots a_stamps a_sums a_notices a_chain a_entryAddr a_entryValue a_entryNext a_mode a_holders a_line a_lineLength a_lockClocks a_target a_cursor a_floor) →
    wX_collect_53 post x1 (d + 1) (nI n) (nI N) (nI P) (nI B) (nI R) (nI (P * B)) f_openPages f_openNodes f_freeSlotCount f_retained f_freeEntry f_entriesUsed f_episodeCount cp a_twin a_opened a_openCount a_queue qd fc a_clocks a_dropped a_slots a_freeSlots a_stamps a_sums a_notices a_chain a_entryAddr a_entryValue a_entryNext a_mode a_holders a_line a_lineLength a_lockClocks a_target a_cursor a_floor := by
  intro d
  induction d with
  | zero =>
    intro n hn Q cp fc qd J hE H
    have z2 := J.1.2.1
    have e : n = N := by omega
    subst e
    refine br_t (nI_le (Nat.le_refl _) (by omega)) (H Q cp fc qd J hE ?_)
    intro postY y1 hp
    exact br_t (nI_le (Nat.le_refl _) (by omega)) hp
  | succ d ih =>
    intro n hn Q cp fc qd J hE H
    have z2 := J.1.2.1
    refine br_f (nI_ge (by omega) (by omega)) ⟨_, zz_acc63 (f_recCount := f_recCount) (a_recNode := a_recNode) (a_recNum := a_recNum) (a_recStamp := a_recStamp) (a_recNotice := a_recNotice) (a_recDiff := a_recDiff) (a_v := a_v) (a_taken := a_taken) (by omega) P 0 (by omega) Q cp fc qd J hE ?_⟩
    intro Q1 cp1 fc1 qd1 J1 hE1 hY1
    refine ih (n + 1) (by omega) Q1 cp1 fc1 qd1 J1 ?_ ?_
    · intro n' p' hn' hp' hc
      exact hE1 n' p' hn' hp' (by omega)
    · intro Q' cp' fc' qd' J2 hE2 hY2
      refine H Q' cp' fc' qd' J2 hE2 ?_
      intro postY y1 hp
      exact br_f (nI_ge (by omega) (by omega)) ⟨_, hY1 postY _ y1 (hY2 postY y1 hp)⟩
end
end
section
/-! X: freeing a record -/
def lr_rmq (L : List lr_R) (q : lr_R) : List lr_R := L.filter (fun q' => !(decide (lr_n q' = lr_n q ∧ lr_k q' = lr_k q)))
theorem lr_rmq_mem {L : List lr_R} {q q' : lr_R} : q' ∈ lr_rmq L q ↔ q' ∈ L ∧ ¬ (lr_n q' = lr_n q ∧ lr_k q' = lr_k q) := by
  unfold lr_rmq
  rw [List.mem_filter, Bool.not_eq_true', decide_eq_false_iff_not]
theorem lr_rmq_sum {L : List lr_R} {q : lr_R} {f : lr_R → Nat} (h : (L.map lr_key).Nodup) (hq : q ∈ L) : (L.map f).sum = ((lr_rmq L q).map f).sum + f q := by
  induction L with
  | nil => cases hq
  | cons a L ih =>
    rw [List.map_cons, List.nodup_cons] at h
    by_cases e : lr_n a = lr_n q ∧ lr_k a = lr_k q
    · have hke : lr_key a = lr_key q := by show (lr_n a, lr_k a) = (lr_n q, lr_k q); rw [e.1, e.2]
      have eq : q = a := by
        rcases List.mem_cons.mp hq with z | z
        · exact z
        · exact absurd (List.mem_map.mpr ⟨q, z, hke.symm⟩) h.1
      subst eq
      have hr : lr_rmq (q :: L) q = L := by
        unfold lr_rmq
        rw [List.filter_cons_of_neg (by simp), List.filter_eq_self]
        intro b hb
        simp only [Bool.not_eq_true', decide_eq_false_iff_not]
        intro z
        exact h.1 (List.mem_map.mpr ⟨b, hb, by show (lr_n b, lr_k b) = (lr_n q, lr_k q); rw [z.1, z.2]⟩)
      rw [hr, List.map_cons, List.sum_cons]; omega
    · have hq2 : q ∈ L := by
        rcases List.mem_cons.mp hq with z | z
        · subst z; exact absurd ⟨rfl, rfl⟩ e
        · exact z
      have hr : lr_rmq (a :: L) q = a :: lr_rmq L q := by
        unfold lr_rmq
        rw [List.filter_cons_of_pos (by rw [Bool.not_eq_true', decide_eq_false_iff_not]; exact e)]
      rw [hr, List.map_cons, List.map_cons, List.sum_cons, List.sum_cons, ih h.2 hq2]; omega
theorem lr_sum1 {L : List lr_R} : (L.map (fun _ => 1)).sum = L.length := by
  induction L with
  | nil => rfl
  | cons a L ih => rw [List.map_cons, List.sum_cons, ih, List.length_cons]; omega
theorem lr_rmq_len {L : List lr_R} {q : lr_R} (h : (L.map lr_key).Nodup) (hq : q ∈ L) : L.length = (lr_rmq L q).length + 1 := by
  have := lr_rmq_sum (f := fun _ => 1) h hq
  rw [lr_sum1, lr_sum1] at this
  exact this
theorem lr_rmq_us {A : Nat} {L : List lr_R} {q : lr_R} (h : (L.map lr_key).Nodup) (hq : q ∈ L) : lr_us A L = lr_us A (lr_rmq L q) + lr_cn (lr_d q) A := lr_rmq_sum (f := fun q => lr_cn (lr_d q) A) h hq
section
variable {N P B R : Nat} {f_openPages f_openNodes f_freeSlotCount f_retained f_freeEntry f_entriesUsed f_episodeCount : Int32} {a_copy a_twin a_opened a_openCount a_queue a_queued a_fetchCount a_clocks a_dropped a_slots a_freeSlots a_stamps a_sums a_notices a_chain a_entryAddr a_entryValue a_entryNext a_mode a_holders a_line a_lineLength a_lockClocks a_target a_cursor a_floor : Nat → Int32}
theorem xx_fr24 {post : SX → Prop} {Jx : Int32 → Int32 → Int32 → (Nat → Int32) → (Nat → Int32) → (Nat → Int32) → (Nat → Int32) → (Nat → Int32) → (Nat → Int32) → (Nat → Int32) → (Nat → Int32) → (Nat → Int32) → (Nat → Int32) → (Nat → Int32) → (Nat → Int32) → (Nat → Int32) → (Nat → Int32) → (Nat → Int32) → (Nat → Int32) → (Nat → Int32) → (Nat → Int32) → (Nat → Int32) → (Nat → Int32) → (Nat → Int32) → (Nat → Int32) → (Nat → Int32) → (Nat → Int32) → (Nat → Int32) → (Nat → Int32) → Prop} {s p U : Nat} {K : Nat → List (Nat × Int32)} (hs : s < 32) (hp : p < 4) (hB : B ≤ 8) :
    ∀ (d : List Nat) (h : Int32) (i nf : Nat) (fe : Int32) (nx : Nat → Int32), lr_EH a_entryAddr a_entryValue nx (upd a_chain (s * 4 + p) (-1)) fe K nf h d → i + d.length ≤ B → U + d.length ≤ 64 →
    (∀ (nx' : Nat → Int32) (fe' : Int32), lr_EH a_entryAddr a_entryValue nx' (upd a_chain (s * 4 + p) (-1)) fe' K (nf + d.length) (-1) [] → Jx (nI (p + 1)) fe' (nI U) a_copy a_twin a_opened a_openCount a_queue a_queued a_fetchCount a_clocks a_dropped a_slots a_freeSlots a_stamps a_sums (upd a_notices (s * 4 + p) 0) (upd a_chain (s * 4 + p) (-1)) a_entryAddr a_entryValue nx' a_mode a_holders a_line a_lineLength a_lockClocks a_target a_cursor a_floor) →
    wX_freeRecord_24 post Jx (nI s) (nI p) (nI N) (nI P) (nI B) (nI R) (nI (P * B)) f_openPages f_openNodes f_freeSlotCount f_retained f_episodeCount (d.length + 1) h (nI i) fe (nI (U + d.length)) a_copy a_twin a_opened a_openCount a_queue a_queued a_fetchCount a_clocks a_dropped a_slots a_freeSlots a_stamps a_sums a_notices a_chain a_entryAddr a_entryValue nx a_mode a_holders a_line a_lineLength a_lockClocks a_target a_cursor a_floor := by
  intro d
  have ex : ∀ (fe : Int32) (nx : Nat → Int32), Jx (nI (p + 1)) fe (nI U) a_copy a_twin a_opened a_openCount a_queue a_queued a_fetchCount a_clocks a_dropped a_slots a_freeSlots a_stamps a_sums (upd a_notices (s * 4 + p) 0) (upd a_chain (s * 4 + p) (-1)) a_entryAddr a_entryValue nx a_mode a_holders a_line a_lineLength a_lockClocks a_target a_cursor a_floor → wX_freeRecord_79 post Jx (nI s) (nI p) (nI N) (nI P) (nI B) (nI R) (nI (P * B)) f_openPages f_openNodes f_freeSlotCount f_retained fe (nI U) f_episodeCount a_copy a_twin a_opened a_openCount a_queue a_queued a_fetchCount a_clocks a_dropped a_slots a_freeSlots a_stamps a_sums a_notices a_chain a_entryAddr a_entryValue nx a_mode a_holders a_line a_lineLength a_lockClocks a_target a_cursor a_floor := by
    intro fe nx K
    exact ⟨lr_v4 (by omega) (by omega), nm_r (e' := upd a_chain (s * 4 + p) (-1)) (by rw [lr_c4 (by omega)]) ⟨lr_v4 (by omega) (by omega), nm_r (e' := upd a_notices (s * 4 + p) 0) (by rw [lr_c4 (by omega), lr_nb0]) (nm_r (nI_1 p) K)⟩⟩
  induction d with
  | nil =>
    intro h i nf fe nx hE hi hU H
    obtain ⟨e, hE'⟩ := lr_EH_nil hE
    subst e
    have K := ex fe nx (H nx fe hE')
    by_cases hc : nI B ≤ nI i
    · exact br_t hc K
    · exact br_f hc (br_t lr_neg1 K)
  | cons e d ih =>
    intro h i nf fe nx hE hi hU H
    obtain ⟨rfl, he, hE'⟩ := lr_EH_step hE
    rw [List.length_cons] at hi hU
    have hc : (nI e).toNatClampNeg = e := lr_c1 (by omega)
    have ve : vp_in (nI e) 64 := lr_v1 he (by omega)
    refine br_f (nI_ge (by omega) (by omega)) (br_f (nI_pos (by omega)) ⟨ve, nm_r (e' := nx e) (by rw [hc]) ⟨ve, nm_r (e' := upd nx e fe) (by rw [hc]) (nm_r (e' := nI (U + d.length)) (nI_pred _) (nm_r (nI_1 i) (ih _ (i + 1) (nf + 1) _ _ hE' (by omega) (by omega) ?_)))⟩⟩)
    intro nx' fe' hE2
    refine H nx' fe' ?_
    rw [List.length_cons, show nf + (d.length + 1) = nf + 1 + d.length by omega]
    exact hE2
theorem xx_fr2 {post : SX → Prop} {s U0 : Nat} {d : Nat → Int32} {K0 : Nat → List (Nat × Int32)} (hs : s < 32) (hP : P ≤ 4) (hB : B ≤ 8) (hU0 : U0 + lr_cn d (P * B) ≤ 64) (hfsc : vp_in f_freeSlotCount 32)
    (H : ∀ (ch' nx' no' : Nat → Int32) (fe' : Int32) (K' : Nat → List (Nat × Int32)), lr_EH a_entryAddr a_entryValue nx' ch' fe' K' (64 - U0) (-1) [] → (∀ c, c < 128 → c / 4 ≠ s → K' c = K0 c) → (∀ i, i / 4 ≠ s → no' i = a_notices i) →
      post (nI N, nI P, nI B, nI R, nI (P * B), f_openPages, f_openNodes, f_freeSlotCount + 1, f_retained - 1, fe', nI U0, f_episodeCount, a_copy, a_twin, a_opened, a_openCount, a_queue, a_queued, a_fetchCount, a_clocks, a_dropped, a_slots, upd a_freeSlots f_freeSlotCount.toNatClampNeg (nI s), a_stamps, a_sums, no', ch', a_entryAddr, a_entryValue, nx', a_mode, a_holders, a_line, a_lineLength, a_lockClocks, a_target, a_cursor, a_floor)) :
    ∀ (m p : Nat), p + m = P → ∀ (ch nx no : Nat → Int32) (fe : Int32) (K : Nat → List (Nat × Int32)) (V : Nat), lr_EH a_entryAddr a_entryValue nx ch fe K (64 - (U0 + V)) (-1) [] → V + lr_cn d (p * B) = lr_cn d (P * B) → (∀ p', p ≤ p' → p' < P → K (s * 4 + p') = lr_pg d (p' * B) B) → (∀ c, c < 128 → c / 4 ≠ s → K c = K0 c) → (∀ i, i / 4 ≠ s → no i = a_notices i) →
    wX_freeRecord_2 post (nI s) (nI N) (nI P) (nI B) (nI R) (nI (P * B)) f_openPages f_openNodes f_freeSlotCount f_retained f_episodeCount (m + 1) (nI p) fe (nI (U0 + V)) a_copy a_twin a_opened a_openCount a_queue a_queued a_fetchCount a_clocks a_dropped a_slots a_freeSlots a_stamps a_sums no ch a_entryAddr a_entryValue nx a_mode a_holders a_line a_lineLength a_lockClocks a_target a_cursor a_floor := by
  intro m
  induction m with
  | zero =>
    intro p hp ch nx no fe K V hE hV hK hK0 hno
    have e : p = P := by omega
    subst e
    have e2 : V = 0 := by omega
    subst e2
    exact br_t (nI_le (Nat.le_refl _) (by omega)) ⟨hfsc, nm_e (nm_e (nm_e (H ch nx no fe K hE hK0 hno)))⟩
  | succ m ih =>
    intro p hp ch nx no fe K V hE hV hK hK0 hno
    have hpP : p < P := by omega
    have hlen := lr_pg_len d (p * B) B
    have hsm : (p + 1) * B = p * B + B := Nat.succ_mul p B
    obtain ⟨dl, hdl, hE1⟩ := lr_EH_detach (c := s * 4 + p) hE (by omega)
    rw [hK p (Nat.le_refl _) hpP] at hdl
    have hple := lr_pg_le d (p * B) B
    have hmono : lr_cn d ((p + 1) * B) ≤ lr_cn d (P * B) := by
      have hq : (p + 1) * B ≤ P * B := Nat.mul_le_mul_right B hpP
      have h9 := lr_pg_len d ((p + 1) * B) (P * B - (p + 1) * B)
      rw [show (p + 1) * B + (P * B - (p + 1) * B) = P * B by omega] at h9
      omega
    rw [hsm] at hmono
    refine br_f (nI_ge (by omega) (by omega)) ⟨lr_v4 (by omega) (by omega), nm_r (e' := ch (s * 4 + p)) (by rw [lr_c4 (by omega)]) ⟨dl.length + 1, ?_⟩⟩
    have hVd : U0 + V = (U0 + V - dl.length) + dl.length := by omega
    rw [hVd]
    refine xx_fr24 (a_chain := ch) (a_notices := no) hs (by omega) hB dl _ 0 (64 - (U0 + V)) fe nx hE1 (by omega) (by omega) ?_
    intro nx' fe' hE2
    have e3 : U0 + V - dl.length = U0 + (V - dl.length) := by omega
    rw [e3]
    refine ih (p + 1) (by omega) _ _ _ _ (lr_uk K (s * 4 + p) []) (V - dl.length) ?_ (by rw [hsm]; omega) ?_ ?_ ?_
    · rw [show 64 - (U0 + (V - dl.length)) = 64 - (U0 + V) + dl.length by omega]; exact hE2
    · intro p' h1 h2
      rw [lr_uk_n (by omega)]; exact hK p' (by omega) h2
    · intro c hc hcs
      rw [lr_uk_n (by omega)]; exact hK0 c hc hcs
    · intro i hi
      rw [pk_un (by omega)]; exact hno i hi
theorem xx_freeRecord {post : SX → Prop} {L : List lr_R} {q : lr_R} (Z : lr_Sz N P B R) (hk : (L.map lr_key).Nodup) (hq : q ∈ L)
    (X : lr_XR N P B L f_freeSlotCount f_retained f_freeEntry f_entriesUsed a_slots a_freeSlots a_stamps a_sums a_notices a_chain a_entryAddr a_entryValue a_entryNext)
    (H : ∀ (fsc' ret' fe' eu' : Int32) (fs' no' ch' nx' : Nat → Int32), lr_XR N P B (lr_rmq L q) fsc' ret' fe' eu' a_slots fs' a_stamps a_sums no' ch' a_entryAddr a_entryValue nx' →
      post (nI N, nI P, nI B, nI R, nI (P * B), f_openPages, f_openNodes, fsc', ret', fe', eu', f_episodeCount, a_copy, a_twin, a_opened, a_openCount, a_queue, a_queued, a_fetchCount, a_clocks, a_dropped, a_slots, fs', a_stamps, a_sums, no', ch', a_entryAddr, a_entryValue, nx', a_mode, a_holders, a_line, a_lineLength, a_lockClocks, a_target, a_cursor, a_floor)) : wpX_freeRecord post (nI N, nI P, nI B, nI R, nI (P * B), f_openPages, f_openNodes, f_freeSlotCount, f_retained, f_freeEntry, f_entriesUsed, f_episodeCount, a_copy, a_twin, a_opened, a_openCount, a_queue, a_queued, a_fetchCount, a_clocks, a_dropped, a_slots, a_freeSlots, a_stamps, a_sums, a_notices, a_chain, a_entryAddr, a_entryValue, a_entryNext, a_mode, a_holders, a_line, a_lineLength, a_lockClocks, a_target, a_cursor, a_floor) (nI (lr_z q)) := by
  obtain ⟨z1, z2, z3, z4, z5, z6, z7, z8⟩ := Z
  obtain ⟨F, K, ⟨x1, x2, x3, x4⟩, xE, xq, ⟨f1, f2, f3, f4⟩⟩ := X
  obtain ⟨q1, q2, q3, q4, q5⟩ := xq q hq
  have hlen := lr_rmq_len hk hq
  have hus := lr_rmq_us (A := P * B) hk hq
  subst x1 x2 x3
  have hfl : (nI F.length).toNatClampNeg = F.length := lr_c1 (by omega)
  refine ⟨P + 1, ?_⟩
  have key := fun post H => xx_fr2 (post := post) (N := N) (P := P) (B := B) (R := R) (s := lr_z q) (U0 := lr_us (P * B) (lr_rmq L q)) (d := lr_d q) (K0 := K) (f_openPages := f_openPages) (f_openNodes := f_openNodes) (f_freeSlotCount := nI F.length) (f_retained := nI L.length) (f_episodeCount := f_episodeCount)
    (a_copy := a_copy) (a_twin := a_twin) (a_opened := a_opened) (a_openCount := a_openCount) (a_queue := a_queue) (a_queued := a_queued) (a_fetchCount := a_fetchCount) (a_clocks := a_clocks) (a_dropped := a_dropped) (a_slots := a_slots) (a_freeSlots := a_freeSlots) (a_stamps := a_stamps) (a_sums := a_sums) (a_notices := a_notices) (a_entryAddr := a_entryAddr) (a_entryValue := a_entryValue) (a_mode := a_mode) (a_holders := a_holders) (a_line := a_line) (a_lineLength := a_lineLength) (a_lockClocks := a_lockClocks) (a_target := a_target) (a_cursor := a_cursor) (a_floor := a_floor)
    q1 z4 z6 (by omega) (lr_v1 (by omega) (by omega)) H P 0 (by omega) a_chain a_entryNext a_notices f_freeEntry K (lr_cn (lr_d q) (P * B)) (by rw [← hus]; exact xE) (by rw [Nat.zero_mul]; rfl) (fun p' _ hp' => (q5 p' hp').2) (fun c _ _ => rfl) (fun i _ => rfl)
  rw [← hus] at key
  refine key _ ?_
  intro ch' nx' no' fe' K' hE' hK' hno'
  rw [hfl]
  refine H _ _ _ _ _ _ _ _ ⟨F ++ [lr_z q], K', ⟨?_, ?_, rfl, by omega⟩, hE', ?_, ?_, ?_, ?_, ?_⟩
  · rw [List.length_append, List.length_singleton, nI_1]
  · rw [hlen, nI_pred]
  · intro q' hq'
    obtain ⟨hm, hne⟩ := lr_rmq_mem.mp hq'
    obtain ⟨y1, y2, y3, y4, y5⟩ := xq q' hm
    have hzne : lr_z q' ≠ lr_z q := by
      intro e
      have hnd := (List.nodup_append.mp f1).1
      have : q' = q := lr_inj hnd hm hq e
      rw [this] at hne
      exact hne ⟨rfl, rfl⟩
    refine ⟨y1, y2, y3, y4, ?_⟩
    intro p hp
    rw [hno' _ (by omega), hK' _ (by omega) (by omega)]
    exact y5 p hp
  · rw [← List.append_assoc, List.nodup_append]
    have hsub : List.Sublist ((lr_rmq L q).map lr_z ++ F) (L.map lr_z ++ F) := List.Sublist.append (List.Sublist.map _ List.filter_sublist) (List.Sublist.refl F)
    refine ⟨List.Nodup.sublist hsub f1, by simp, ?_⟩
    intro a ha b hb e
    rw [List.mem_singleton] at hb
    rw [hb] at e
    subst e
    rcases List.mem_append.mp ha with y | y
    · obtain ⟨q', hq', e2⟩ := List.mem_map.mp y
      obtain ⟨hm, hne⟩ := lr_rmq_mem.mp hq'
      have : q' = q := lr_inj (List.nodup_append.mp f1).1 hm hq e2
      rw [this] at hne
      exact hne ⟨rfl, rfl⟩
    · exact (List.nodup_append.mp f1).2.2 (lr_z q) (List.mem_map.mpr ⟨q, hq, rfl⟩) (lr_z q) y rfl
  · intro s hs
    rcases List.mem_append.mp hs with y | y
    · exact f2 s y
    · rw [List.mem_singleton] at y; rw [y]; exact q1
  · rw [List.length_append, List.length_singleton]; omega
  · intro i s hi
    rcases lr_at_snoc hi with ⟨c1, c2⟩ | ⟨c1, c2⟩
    · rw [pk_un (by omega)]; exact f4 i s c2
    · rw [c1, c2, pk_us]
end
end
section
/-! X: dropping; Y: the records move up -/
theorem lr_dp_up {f : Nat → Nat} {L : List lr_R} {q : lr_R} (h : lr_k q = f (lr_n q) + 1) : lr_rmq (lr_dp f L) q = lr_dp (lr_up1 f (lr_n q)) L := by
  unfold lr_rmq lr_dp
  rw [List.filter_filter]
  apply List.filter_congr
  intro q' _
  by_cases e : lr_n q' = lr_n q
  · rw [e, lr_up1_s]
    by_cases h2 : f (lr_n q) + 1 < lr_k q'
    · rw [decide_eq_true h2, decide_eq_true (show f (lr_n q) < lr_k q' by omega), decide_eq_false (show ¬ (lr_n q = lr_n q ∧ lr_k q' = lr_k q) by omega)]; rfl
    · rw [decide_eq_false h2]
      by_cases h3 : lr_k q' = lr_k q
      · rw [decide_eq_true (show lr_n q = lr_n q ∧ lr_k q' = lr_k q from ⟨rfl, h3⟩)]; rfl
      · rw [decide_eq_false (show ¬ f (lr_n q) < lr_k q' by omega), Bool.and_false]
  · rw [lr_up1_n e, decide_eq_false (fun z : lr_n q' = lr_n q ∧ lr_k q' = lr_k q => e z.1)]; rfl
theorem lr_dp_cg {N : Nat} {f g : Nat → Nat} {L : List lr_R} (hL : ∀ q, q ∈ L → lr_n q < N) (h : ∀ m, m < N → f m = g m) : lr_dp f L = lr_dp g L := by
  unfold lr_dp
  apply List.filter_congr
  intro q hq
  rw [h _ (hL q hq)]
theorem lr_dp_D {N : Nat} {C : Nat → Nat → Nat} {D : Nat → Nat} {L : List lr_R} (l1 : lr_L1 N C D L) : lr_dp D L = L := by
  unfold lr_dp
  rw [List.filter_eq_self]
  intro q hq
  exact decide_eq_true (l1.1 q hq).2.1
section
variable {N P B R : Nat} {f_openPages f_openNodes f_freeSlotCount f_retained f_freeEntry f_entriesUsed f_episodeCount : Int32} {a_copy a_twin a_opened a_openCount a_queue a_queued a_fetchCount a_clocks a_dropped a_slots a_freeSlots a_stamps a_sums a_notices a_chain a_entryAddr a_entryValue a_entryNext a_mode a_holders a_line a_lineLength a_lockClocks a_target a_cursor a_floor : Nat → Int32}
variable {k : Nat} {C LC : Nat → Nat → Nat} {D : Nat → Nat} {L : List lr_R} {Q : Nat → Nat → List lr_R} {WQ : List (Nat × Nat)}
variable {f_queueLen f_recCount : Int32} {a_copies a_queueNode a_queueLock a_recNode a_recNum a_recStamp a_recNotice a_recDiff a_v a_taken : Nat → Int32}
theorem xx_dropL {post : SX → Prop} {m fl : Nat} (Z : lr_Sz N P B R) (hm : m < N) (l1 : lr_L1 N C D L) (hfl : fl ≤ C m m) (hD : D m ≤ fl) (hC : C m m < 10000) :
    ∀ (e i : Nat) (f : Nat → Nat), i + e = fl - D m → f m = D m + i → ∀ (fsc ret fe eu : Int32) (fs no ch nx : Nat → Int32), lr_XR N P B (lr_dp f L) fsc ret fe eu a_slots fs a_stamps a_sums no ch a_entryAddr a_entryValue nx →
    (∀ (f' : Nat → Nat) (fsc' ret' fe' eu' : Int32) (fs' no' ch' nx' : Nat → Int32), f' m = fl → (∀ m', m' ≠ m → f' m' = f m') → lr_XR N P B (lr_dp f' L) fsc' ret' fe' eu' a_slots fs' a_stamps a_sums no' ch' a_entryAddr a_entryValue nx' →
      post (nI N, nI P, nI B, nI R, nI (P * B), f_openPages, f_openNodes, fsc', ret', fe', eu', f_episodeCount, a_copy, a_twin, a_opened, a_openCount, a_queue, a_queued, a_fetchCount, a_clocks, upd a_dropped m (nI fl), a_slots, fs', a_stamps, a_sums, no', ch', a_entryAddr, a_entryValue, nx', a_mode, a_holders, a_line, a_lineLength, a_lockClocks, a_target, a_cursor, a_floor)) →
    wX_dropUpTo_22 post (nI m) (nI fl) (nI (fl - D m)) (nI (D m + 1)) (e + 1) (nI i) (nI N) (nI P) (nI B) (nI R) (nI (P * B)) f_openPages f_openNodes fsc ret fe eu f_episodeCount a_copy a_twin a_opened a_openCount a_queue a_queued a_fetchCount a_clocks a_dropped a_slots fs a_stamps a_sums no ch a_entryAddr a_entryValue nx a_mode a_holders a_line a_lineLength a_lockClocks a_target a_cursor a_floor := by
  intro e
  induction e with
  | zero =>
    intro i f hi hf fsc ret fe eu fs no ch nx hX H
    have z2 := Z.2.1
    exact br_t (nI_le (by omega) (by omega)) ⟨lr_v1 (by omega) (by omega), nm_r (e' := upd a_dropped m (nI fl)) (by rw [lr_c1 (by omega)]) (H f fsc ret fe eu fs no ch nx (by omega) (fun _ _ => rfl) hX)⟩
  | succ e ih =>
    intro i f hi hf fsc ret fe eu fs no ch nx hX H
    have z2 := Z.2.1
    obtain ⟨q, hq, q1, q2⟩ := l1.2.1 m (D m + 1 + i) hm (by omega) (by omega)
    subst q1
    have hqf : q ∈ lr_dp f L := lr_dp_mem.mpr ⟨hq, by omega⟩
    have hix : nI (lr_n q) * 32 + ((nI (D (lr_n q) + 1) + nI i) &&& 31) = nI (lr_n q * 32 + (D (lr_n q) + 1 + i) % 32) := by rw [nI_add, lr_and31 (by omega), lr_i32]
    obtain ⟨x1, x2, _⟩ := lr_XR_q hX hqf
    rw [q2] at x2
    refine br_f (nI_ge (by omega) (by omega)) ⟨by rw [hix]; exact lr_v1 (by omega) (by omega), nm_r (e' := nI (lr_z q)) (by rw [hix, lr_c1 (by omega), x2]) ?_⟩
    refine xx_freeRecord (L := lr_dp f L) Z (List.Nodup.sublist (List.Sublist.map _ List.filter_sublist) l1.2.2) hqf hX ?_
    intro fsc' ret' fe' eu' fs' no' ch' nx' hX'
    have hdu : lr_rmq (lr_dp f L) q = lr_dp (lr_up1 f (lr_n q)) L := lr_dp_up (by omega)
    rw [hdu] at hX'
    refine nm_r (nI_1 i) (ih (i + 1) (lr_up1 f (lr_n q)) (by omega) (by rw [lr_up1_s]; omega) fsc' ret' fe' eu' fs' no' ch' nx' hX' ?_)
    intro f' fsc2 ret2 fe2 eu2 fs2 no2 ch2 nx2 h1 h2 hX2
    refine H f' fsc2 ret2 fe2 eu2 fs2 no2 ch2 nx2 h1 ?_ hX2
    intro m' hm'
    rw [h2 m' hm', lr_up1_n hm']
theorem xx_coll91 {post : Int32 → SX → Prop} {x1 : Int32} {FL : Nat → Nat} (Z : lr_Sz N P B R) (l1 : lr_L1 N C D L) (hfl : ∀ m, m < N → a_floor m = nI (FL m) ∧ FL m ≤ C m m ∧ D m ≤ FL m ∧ C m m < 10000)
    (H : ∀ (fsc' ret' fe' eu' : Int32) (fs' no' ch' nx' dr' : Nat → Int32), lr_XR N P B (lr_dp FL L) fsc' ret' fe' eu' a_slots fs' a_stamps a_sums no' ch' a_entryAddr a_entryValue nx' → (∀ m, m < N → dr' m = nI (FL m)) →
      post x1 (nI N, nI P, nI B, nI R, nI (P * B), f_openPages, f_openNodes, fsc', ret', fe', eu', f_episodeCount, a_copy, a_twin, a_opened, a_openCount, a_queue, a_queued, a_fetchCount, a_clocks, dr', a_slots, fs', a_stamps, a_sums, no', ch', a_entryAddr, a_entryValue, nx', a_mode, a_holders, a_line, a_lineLength, a_lockClocks, a_target, a_cursor, a_floor)) :
    ∀ (d m : Nat) (f : Nat → Nat), m + d = N → (∀ m', m' < m → f m' = FL m') → (∀ m', m ≤ m' → m' < N → f m' = D m') → ∀ (fsc ret fe eu : Int32) (fs no ch nx dr : Nat → Int32), lr_XR N P B (lr_dp f L) fsc ret fe eu a_slots fs a_stamps a_sums no ch a_entryAddr a_entryValue nx → (∀ m', m' < N → dr m' = nI (f m')) →
    wX_collect_91 post x1 (d + 1) (nI m) (nI N) (nI P) (nI B) (nI R) (nI (P * B)) f_openPages f_openNodes fsc ret fe eu f_episodeCount a_copy a_twin a_opened a_openCount a_queue a_queued a_fetchCount a_clocks dr a_slots fs a_stamps a_sums no ch a_entryAddr a_entryValue nx a_mode a_holders a_line a_lineLength a_lockClocks a_target a_cursor a_floor := by
  have z2 := Z.2.1
  intro d
  induction d with
  | zero =>
    intro m f hm h1 h2 fsc ret fe eu fs no ch nx dr hX hdr
    have e : m = N := by omega
    subst e
    have hc := lr_dp_cg (L := L) (f := f) (g := FL) (fun q hq => (l1.1 q hq).1) h1
    rw [hc] at hX
    exact br_t (nI_le (Nat.le_refl _) (by omega)) (H fsc ret fe eu fs no ch nx dr hX (fun m' hm' => by rw [hdr m' hm', h1 m' hm']))
  | succ d ih =>
    intro m f hm h1 h2 fsc ret fe eu fs no ch nx dr hX hdr
    obtain ⟨g1, g2, g3, g4⟩ := hfl m (by omega)
    have hcm : (nI m).toNatClampNeg = m := lr_c1 (by omega)
    have vm : vp_in (nI m) 4 := lr_v1 (by omega) (by omega)
    have hfm := h2 m (Nat.le_refl _) (by omega)
    have hdm : dr (nI m).toNatClampNeg = nI (D m) := by rw [hcm, hdr m (by omega), hfm]
    refine br_f (nI_ge (by omega) (by omega)) ⟨vm, ?_⟩
    rw [hcm, g1]
    refine ⟨vm, nm_r (e' := nI (FL m - D m)) (by rw [hdm, pk_sub g3]) ⟨vm, nm_r (e' := nI (D m + 1)) (by rw [hdm, nI_1]) ⟨_, xx_dropL Z (by omega) l1 g2 g3 g4 (FL m - D m) 0 f (by omega) (by omega) fsc ret fe eu fs no ch nx hX ?_⟩⟩⟩
    intro f' fsc' ret' fe' eu' fs' no' ch' nx' e1 e2 hX'
    refine nm_r (nI_1 m) (ih (m + 1) f' (by omega) ?_ ?_ fsc' ret' fe' eu' fs' no' ch' nx' _ hX' ?_)
    · intro m' hm'
      by_cases e : m' = m
      · rw [e]; exact e1
      · rw [e2 m' e]; exact h1 m' (by omega)
    · intro m' hm' hm2
      rw [e2 m' (by omega)]; exact h2 m' (by omega) hm2
    · intro m' hm'
      by_cases e : m' = m
      · subst e; rw [pk_us, e1]
      · rw [pk_un e, e2 m' e]; exact hdr m' hm'
end
theorem lr_nt_self {s r m : Nat} {o no : Nat → Int32} (hm : m < 4) : lr_nt s r m o no (r * 4 + m) = no (r * 4 + m) := by
  show (if (r * 4 + m) / 4 = s ∧ (r * 4 + m) % 4 < m then _ else _) = _
  rw [if_neg (fun z => by omega)]
theorem lr_df_self {s r m : Nat} {d f : Nat → Int32} (hm : m < 32) : lr_df s d m f (r * 32 + m) = f (r * 32 + m) := by
  show (if (r * 32 + m) / 32 = s ∧ (r * 32 + m) % 32 < m then _ else _) = _
  rw [if_neg (fun z => by omega)]
section
variable {N P B R : Nat} {f_episodeCount f_queueLen f_recCount : Int32} {a_copies a_opened a_clocks a_holders a_queueNode a_queueLock a_recNode a_recNum a_recStamp a_recNotice a_recDiff a_v a_taken a_twin a_queued a_fetchCount a_mode a_lockClocks : Nat → Int32}
variable {k : Nat} {C LC : Nat → Nat → Nat} {D : Nat → Nat} {L : List lr_R} {Q : Nat → Nat → List lr_R} {WQ : List (Nat × Nat)}
theorem yy_coll179 {post : Int32 → SY → Prop} {J : Int32 → Int32 → (Nat → Int32) → (Nat → Int32) → (Nat → Int32) → (Nat → Int32) → (Nat → Int32) → (Nat → Int32) → (Nat → Int32) → (Nat → Int32) → (Nat → Int32) → (Nat → Int32) → (Nat → Int32) → (Nat → Int32) → (Nat → Int32) → (Nat → Int32) → (Nat → Int32) → (Nat → Int32) → (Nat → Int32) → (Nat → Int32) → Prop} {x1 : Int32} {s r : Nat} (hs : s < 32) (hr : r < 32) (K : J (nI (s + 1)) (nI (r + 1)) a_copies a_twin a_opened a_queued a_clocks a_fetchCount a_mode a_holders a_lockClocks a_queueNode a_queueLock a_recNode a_recNum a_recStamp a_recNotice (lr_df s (fun a => a_recDiff (r * 32 + a)) 32 a_recDiff) a_v a_taken) : ∃ n179 : Nat, wY_collect_179 post J x1 (nI s) (nI r) (nI N) (nI P) (nI B) (nI R) f_queueLen f_episodeCount f_recCount n179 0 a_copies a_twin a_opened a_queued a_clocks a_fetchCount a_mode a_holders a_lockClocks a_queueNode a_queueLock a_recNode a_recNum a_recStamp a_recNotice a_recDiff a_v a_taken := by
  refine loop_0 (fun f a g => wY_collect_179 post J x1 (nI s) (nI r) (nI N) (nI P) (nI B) (nI R) f_queueLen f_episodeCount f_recCount f (nI a) a_copies a_twin a_opened a_queued a_clocks a_fetchCount a_mode a_holders a_lockClocks a_queueNode a_queueLock a_recNode a_recNum a_recStamp a_recNotice g a_v a_taken) (fun a g => g = lr_df s (fun a => a_recDiff (r * 32 + a)) a a_recDiff) 32 a_recDiff lr_df_0 ?_ ?_
  · intro f g eg
    subst eg
    exact br_t (nI_le (b := 32) (Nat.le_refl _) (by omega)) (nm_r (nI_1 s) (nm_r (nI_1 r) K))
  · intro f a g ha eg ih
    subst eg
    refine br_f (nI_ge (b := 32) ha (by omega)) ⟨lr_v32 (by omega) (by omega), lr_v32 (by omega) (by omega), nm_e (nm_r (nI_1 a) (ih _ ?_))⟩
    rw [lr_c32 (by omega), lr_c32 (by omega), lr_df_self ha]
    refine lr_df_s ha ?_ ?_
    · intro i hi; exact pk_un hi
    · exact pk_us
theorem yy_coll120 {post : Int32 → SY → Prop} {J : Int32 → Int32 → (Nat → Int32) → (Nat → Int32) → (Nat → Int32) → (Nat → Int32) → (Nat → Int32) → (Nat → Int32) → (Nat → Int32) → (Nat → Int32) → (Nat → Int32) → (Nat → Int32) → (Nat → Int32) → (Nat → Int32) → (Nat → Int32) → (Nat → Int32) → (Nat → Int32) → (Nat → Int32) → (Nat → Int32) → (Nat → Int32) → Prop} {x1 : Int32} {s r : Nat} (hs : s < 32) (hr : r < 32) (K : J (nI (s + 1)) (nI (r + 1)) a_copies a_twin a_opened a_queued a_clocks a_fetchCount a_mode a_holders a_lockClocks a_queueNode a_queueLock a_recNode a_recNum (lr_nt s r 4 a_recStamp a_recStamp) (lr_nt s r 4 (fun i => vp_nar .boolean (a_recNotice i)) a_recNotice) (lr_df s (fun a => a_recDiff (r * 32 + a)) 32 a_recDiff) a_v a_taken) : ∃ n120 : Nat, wY_collect_120 post J x1 (nI s) (nI r) (nI N) (nI P) (nI B) (nI R) f_queueLen f_episodeCount f_recCount n120 0 a_copies a_twin a_opened a_queued a_clocks a_fetchCount a_mode a_holders a_lockClocks a_queueNode a_queueLock a_recNode a_recNum a_recStamp a_recNotice a_recDiff a_v a_taken := by
  refine loop_0 (fun f j g => wY_collect_120 post J x1 (nI s) (nI r) (nI N) (nI P) (nI B) (nI R) f_queueLen f_episodeCount f_recCount f (nI j) a_copies a_twin a_opened a_queued a_clocks a_fetchCount a_mode a_holders a_lockClocks a_queueNode a_queueLock a_recNode a_recNum g.1 g.2 a_recDiff a_v a_taken) (fun j g => g = (lr_nt s r j a_recStamp a_recStamp, lr_nt s r j (fun i => vp_nar .boolean (a_recNotice i)) a_recNotice)) 4 (a_recStamp, a_recNotice) ?_ ?_ ?_
  · show (a_recStamp, a_recNotice) = (lr_nt s r 0 a_recStamp a_recStamp, lr_nt s r 0 (fun i => vp_nar .boolean (a_recNotice i)) a_recNotice)
    rw [← lr_nt_0, ← lr_nt_0]
  · intro f g eg
    subst eg
    exact br_t (nI_le (b := 4) (Nat.le_refl _) (by omega)) (yy_coll179 hs hr K)
  · intro f j g hj eg ih
    subst eg
    have v1 : vp_in (nI r * 4 + nI j) 128 := lr_v4 (by omega) (by omega)
    have v2 : vp_in (nI s * 4 + nI j) 128 := lr_v4 (by omega) (by omega)
    have c1 : (nI r * 4 + nI j).toNatClampNeg = r * 4 + j := lr_c4 (by omega)
    have c2 : (nI s * 4 + nI j).toNatClampNeg = s * 4 + j := lr_c4 (by omega)
    refine br_f (nI_ge (b := 4) hj (by omega)) ⟨v1, v2, nm_r (e' := lr_nt s r (j + 1) a_recStamp a_recStamp) ?_ ⟨v1, v2, nm_r (e' := lr_nt s r (j + 1) (fun i => vp_nar .boolean (a_recNotice i)) a_recNotice) ?_ (nm_r (nI_1 j) (ih (lr_nt s r (j + 1) a_recStamp a_recStamp, lr_nt s r (j + 1) (fun i => vp_nar .boolean (a_recNotice i)) a_recNotice) rfl))⟩⟩
    · show upd (lr_nt s r j a_recStamp a_recStamp) (nI s * 4 + nI j).toNatClampNeg (lr_nt s r j a_recStamp a_recStamp (nI r * 4 + nI j).toNatClampNeg) = _
      rw [c1, c2, lr_nt_self hj, lr_nt_s hj]
    · show upd (lr_nt s r j (fun i => vp_nar .boolean (a_recNotice i)) a_recNotice) (nI s * 4 + nI j).toNatClampNeg (vp_nar .boolean (lr_nt s r j (fun i => vp_nar .boolean (a_recNotice i)) a_recNotice (nI r * 4 + nI j).toNatClampNeg)) = _
      rw [c1, c2, lr_nt_self hj]
      exact lr_nt_s (o := fun i => vp_nar .boolean (a_recNotice i)) hj
theorem yy_coll77 {post : Int32 → SY → Prop} {x1 : Int32} (Z : lr_Sz N P B R) (hL : L.length ≤ 32) (hC : ∀ n m, n < N → m < N → a_clocks (n * 4 + m) = nI (C n m) ∧ C n m < 10000) (l1 : lr_L1 N C D L) (l3 : lr_L3 P B L) (Y : lr_YR N P B L f_recCount a_recNode a_recNum a_recStamp a_recNotice a_recDiff)
    (H : ∀ (rc' : Int32) (rnd' rnm' rs' rno' rdf' : Nat → Int32), lr_YR N P B (lr_dp (fun m => lr_ml C m N) L) rc' rnd' rnm' rs' rno' rdf' → post x1 (nI N, nI P, nI B, nI R, f_queueLen, f_episodeCount, rc', a_copies, a_twin, a_opened, a_queued, a_clocks, a_fetchCount, a_mode, a_holders, a_lockClocks, a_queueNode, a_queueLock, rnd', rnm', rs', rno', rdf', a_v, a_taken)) : ∃ n77 : Nat, wY_collect_77 post x1 (nI N) (nI P) (nI B) (nI R) f_queueLen f_episodeCount f_recCount n77 0 0 a_copies a_twin a_opened a_queued a_clocks a_fetchCount a_mode a_holders a_lockClocks a_queueNode a_queueLock a_recNode a_recNum a_recStamp a_recNotice a_recDiff a_v a_taken := by
  have hPB := lr_PB Z
  obtain ⟨z1, z2, z3, z4, z5, z6, z7, z8⟩ := Z
  obtain ⟨y0, yr⟩ := Y
  subst y0
  have key : ∀ (d r : Nat), r + d = L.length → ∀ (rnd rnm rs rno rdf : Nat → Int32), (∀ i q, (lr_dp (fun m => lr_ml C m N) (L.take r))[i]? = some q → (rnd i = nI (lr_n q) ∧ rnm i = nI (lr_k q)) ∧ lr_yq N P B rs rno rdf i q) → (∀ i q, r ≤ i → L[i]? = some q → (rnd i = nI (lr_n q) ∧ rnm i = nI (lr_k q)) ∧ lr_yq N P B rs rno rdf i q) →
      wY_collect_77 post x1 (nI N) (nI P) (nI B) (nI R) f_queueLen f_episodeCount (nI L.length) (d + 1) (nI (lr_dp (fun m => lr_ml C m N) (L.take r)).length) (nI r) a_copies a_twin a_opened a_queued a_clocks a_fetchCount a_mode a_holders a_lockClocks a_queueNode a_queueLock rnd rnm rs rno rdf a_v a_taken := by
    intro d
    induction d with
    | zero =>
      intro r hr rnd rnm rs rno rdf h1 h2
      have e : r = L.length := by omega
      subst e
      rw [List.take_length] at h1 ⊢
      exact br_t (nI_le (Nat.le_refl _) (by omega)) (H _ _ _ _ _ _ ⟨rfl, h1⟩)
    | succ d ih =>
      intro r hr rnd rnm rs rno rdf h1 h2
      have hrl : r < L.length := by omega
      have hg : L[r]? = some L[r] := List.getElem?_eq_getElem hrl
      obtain ⟨⟨e1, e2⟩, y1, y2, y3⟩ := h2 r _ (Nat.le_refl _) hg
      have hq := l1.1 _ (lr_at_mem hg)
      have hCq := (hC _ _ hq.1 hq.1).2
      have hkept : (lr_dp (fun m => lr_ml C m N) (L.take r)).length ≤ r := by
        have := lr_dp_len (f := fun m => lr_ml C m N) (L := L.take r)
        rw [List.length_take] at this
        omega
      have htk : L.take (r + 1) = L.take r ++ [L[r]] := (List.take_append_getElem hrl).symm
      have hcr : (nI r).toNatClampNeg = r := lr_c1 (by omega)
      refine br_f (nI_ge (by omega) (by omega)) (yy_knownToAll (C := C) (d := lr_n L[r]) (k := lr_k L[r]) (by omega) z2 (by omega) e1 e2 (by omega) (fun m hm => ⟨(hC m _ hm hq.1).1, by have := (hC m _ hm hq.1).2; omega⟩) ?_ ?_)
      · intro hk
        have hle : lr_k L[r] ≤ lr_ml C (lr_n L[r]) N := lr_ml_ge (hk _ hq.1) hk
        have hdp : lr_dp (fun m => lr_ml C m N) (L.take (r + 1)) = lr_dp (fun m => lr_ml C m N) (L.take r) := by
          rw [htk, lr_dp_snoc0 (by show ¬ lr_ml C (lr_n L[r]) N < lr_k L[r]; omega)]
        have hih := ih (r + 1) (by omega) rnd rnm rs rno rdf (by rw [hdp]; exact h1) (fun i q hi => h2 i q (by omega))
        rw [hdp] at hih
        exact br_f (by decide) (nm_r (nI_1 r) hih)
      · intro m hm hk
        have hle : lr_ml C (lr_n L[r]) N < lr_k L[r] := by
          have := (lr_ml_le (C := C) (m := lr_n L[r]) (N := N)).2 m hm
          omega
        have hdp : lr_dp (fun m => lr_ml C m N) (L.take (r + 1)) = lr_dp (fun m => lr_ml C m N) (L.take r) ++ [L[r]] := by
          rw [htk, lr_dp_snoc1 hle]
        generalize hkd : (lr_dp (fun m => lr_ml C m N) (L.take r)).length = kp at hkept
        have hck : (nI kp).toNatClampNeg = kp := lr_c1 (by omega)
        have vr : vp_in (nI r) 32 := lr_v1 (by omega) (by omega)
        have vk : vp_in (nI kp) 32 := lr_v1 (by omega) (by omega)
        refine br_t rfl ⟨vr, vk, nm_r (e' := upd rnd kp (rnd r)) (by rw [hcr, hck]) ⟨vr, vk, nm_r (e' := upd rnm kp (rnm r)) (by rw [hcr, hck]) (yy_coll120 (by omega) (by omega) ?_)⟩⟩
        have keep : ∀ i q, i ≠ kp → (rnd i = nI (lr_n q) ∧ rnm i = nI (lr_k q)) ∧ lr_yq N P B rs rno rdf i q → (upd rnd kp (rnd r) i = nI (lr_n q) ∧ upd rnm kp (rnm r) i = nI (lr_k q)) ∧ lr_yq N P B (lr_nt kp r 4 rs rs) (lr_nt kp r 4 (fun i => vp_nar .boolean (rno i)) rno) (lr_df kp (fun a => rdf (r * 32 + a)) 32 rdf) i q := by
          intro i q hne ⟨⟨a1, a2⟩, a3, a4, a5⟩
          refine ⟨⟨by rw [pk_un hne]; exact a1, by rw [pk_un hne]; exact a2⟩, ?_, ?_, ?_⟩
          · intro j hj; rw [lr_nt_ne (by omega)]; exact a3 j hj
          · intro p hp; rw [lr_nt_ne (by omega)]; exact a4 p hp
          · intro a ha; rw [lr_df_ne (by omega)]; exact a5 a ha
        have hih := ih (r + 1) (by omega) (upd rnd kp (rnd r)) (upd rnm kp (rnm r)) (lr_nt kp r 4 rs rs) (lr_nt kp r 4 (fun i => vp_nar .boolean (rno i)) rno) (lr_df kp (fun a => rdf (r * 32 + a)) 32 rdf) ?_ ?_
        · rw [hdp, List.length_append, List.length_singleton, hkd] at hih
          exact hih
        · intro i q hi
          rw [hdp] at hi
          rcases lr_at_snoc hi with ⟨c1, c2⟩ | ⟨c1, c2⟩
          · exact keep i q (by omega) (h1 i q c2)
          · rw [hkd] at c1
            rw [c1, c2]
            refine ⟨⟨by rw [pk_us]; exact e1, by rw [pk_us]; exact e2⟩, ?_, ?_, ?_⟩
            · intro j hj; rw [lr_nt_at (by omega) (by omega)]; exact y1 j hj
            · intro p hp
              rw [lr_nt_at (by omega) (by omega)]
              show vp_nar .boolean (rno (r * 4 + p)) = _
              rw [y2 p hp, lr_nb (l3 _ p (lr_at_mem hg) hp).1]
            · intro a ha; rw [lr_df_at (by omega) (by omega)]; exact y3 a ha
        · intro i q hi hiq
          exact keep i q (by omega) (h2 i q (by omega) hiq)
  have k0 := key L.length 0 (by omega) a_recNode a_recNum a_recStamp a_recNotice a_recDiff (fun i q hi => by rw [List.take_zero] at hi; simp [lr_dp] at hi) (fun i q _ hi => yr i q hi)
  rw [List.take_zero] at k0
  exact ⟨_, k0⟩
end
end
section
/-! the getters (printed by gen_getters.py) -/

theorem i_vc_peek {k : Nat} {u : SX} {v : SY} (I : i_Rel k u v) (hk : k + 4 ≤ 2052) (v1 : Int32) (v2 : Int32) : wpX_peek (fun r => wpY_peek (fun r' => r' = r ∧ i_Rel (k + 4) u v) v v1 v2) u v1 v2 := by
  refine zz_el (Pr := fun u v => wpX_peek (fun r => wpY_peek (fun r' => r' = r ∧ i_Rel (k + 4) u v) v v1 v2) u v1 v2) ?_ I
  clear I u v
  intro N P B R C D LC L Q WQ f_openPages f_openNodes f_freeSlotCount f_retained f_freeEntry f_entriesUsed f_episodeCount a_copy a_twin a_opened a_openCount a_queue a_queued a_fetchCount a_clocks a_dropped a_slots a_freeSlots a_stamps a_sums a_notices a_chain a_entryAddr a_entryValue a_entryNext a_mode a_holders a_line a_lineLength a_lockClocks a_target a_cursor a_floor f_queueLen f_recCount a_copies a_queueNode a_queueLock a_recNode a_recNum a_recStamp a_recNotice a_recDiff a_v a_taken I
  have J : i_Rel (k + 4) (nI N, nI P, nI B, nI R, nI (P * B), f_openPages, f_openNodes, f_freeSlotCount, f_retained, f_freeEntry, f_entriesUsed, f_episodeCount, a_copy, a_twin, a_opened, a_openCount, a_queue, a_queued, a_fetchCount, a_clocks, a_dropped, a_slots, a_freeSlots, a_stamps, a_sums, a_notices, a_chain, a_entryAddr, a_entryValue, a_entryNext, a_mode, a_holders, a_line, a_lineLength, a_lockClocks, a_target, a_cursor, a_floor) (nI N, nI P, nI B, nI R, f_queueLen, f_episodeCount, f_recCount, a_copies, a_twin, a_opened, a_queued, a_clocks, a_fetchCount, a_mode, a_holders, a_lockClocks, a_queueNode, a_queueLock, a_recNode, a_recNum, a_recStamp, a_recNotice, a_recDiff, a_v, a_taken) := zz_mk (zz_up4 I)
  unfold wpX_peek wpY_peek; dsimp only
  obtain ⟨Z, hCK, hOP, hXR, hYR, ⟨l1, l2, l3, l4⟩, ⟨m1, m2, m3⟩, hWT, hMO⟩ := I
  have hPB := lr_PB Z
  have hL := lr_L4_32 Z l4
  have Z' := Z
  obtain ⟨z1, z2, z3, z4, z5, z6, z7, z8⟩ := Z
  rcases lr_arg v1 N (by omega) with ⟨n, hn, rfl⟩ | hb
  rotate_left
  · exact xx_bN0 hb (br_f (by decide) (yy_bN0 hb (br_f (by decide) ⟨rfl, J⟩)))
  rcases lr_arg v2 (P * B) (by omega) with ⟨a, ha, rfl⟩ | hb
  rotate_left
  · exact xx_bN1 z2 hn (br_t rfl (xx_bA0 hb (br_f (by decide) (yy_bN1 z2 hn (br_t rfl (yy_bA0 hb (br_f (by decide) ⟨rfl, J⟩)))))))
  refine xx_bN1 z2 hn (br_t rfl (xx_bA1 hPB ha (br_t rfl (?_))))
  exact xx_currentR Z' hL hXR m1 m2 m3 hn ha (yy_bN1 z2 hn (br_t rfl (yy_bA1 hPB ha (br_t rfl (⟨lr_v32 (by omega) (by omega), by rw [lr_c32 (by omega)], J⟩)))))

theorem i_vc_pending {k : Nat} {u : SX} {v : SY} (I : i_Rel k u v) (hk : k + 4 ≤ 2052) (v1 : Int32) (v2 : Int32) : wpX_pending (fun r => wpY_pending (fun r' => r' = r ∧ i_Rel (k + 4) u v) v v1 v2) u v1 v2 := by
  refine zz_el (Pr := fun u v => wpX_pending (fun r => wpY_pending (fun r' => r' = r ∧ i_Rel (k + 4) u v) v v1 v2) u v1 v2) ?_ I
  clear I u v
  intro N P B R C D LC L Q WQ f_openPages f_openNodes f_freeSlotCount f_retained f_freeEntry f_entriesUsed f_episodeCount a_copy a_twin a_opened a_openCount a_queue a_queued a_fetchCount a_clocks a_dropped a_slots a_freeSlots a_stamps a_sums a_notices a_chain a_entryAddr a_entryValue a_entryNext a_mode a_holders a_line a_lineLength a_lockClocks a_target a_cursor a_floor f_queueLen f_recCount a_copies a_queueNode a_queueLock a_recNode a_recNum a_recStamp a_recNotice a_recDiff a_v a_taken I
  have J : i_Rel (k + 4) (nI N, nI P, nI B, nI R, nI (P * B), f_openPages, f_openNodes, f_freeSlotCount, f_retained, f_freeEntry, f_entriesUsed, f_episodeCount, a_copy, a_twin, a_opened, a_openCount, a_queue, a_queued, a_fetchCount, a_clocks, a_dropped, a_slots, a_freeSlots, a_stamps, a_sums, a_notices, a_chain, a_entryAddr, a_entryValue, a_entryNext, a_mode, a_holders, a_line, a_lineLength, a_lockClocks, a_target, a_cursor, a_floor) (nI N, nI P, nI B, nI R, f_queueLen, f_episodeCount, f_recCount, a_copies, a_twin, a_opened, a_queued, a_clocks, a_fetchCount, a_mode, a_holders, a_lockClocks, a_queueNode, a_queueLock, a_recNode, a_recNum, a_recStamp, a_recNotice, a_recDiff, a_v, a_taken) := zz_mk (zz_up4 I)
  unfold wpX_pending wpY_pending; dsimp only
  obtain ⟨Z, hCK, hOP, hXR, hYR, ⟨l1, l2, l3, l4⟩, ⟨m1, m2, m3⟩, hWT, hMO⟩ := I
  have hPB := lr_PB Z
  have hL := lr_L4_32 Z l4
  have Z' := Z
  obtain ⟨z1, z2, z3, z4, z5, z6, z7, z8⟩ := Z
  rcases lr_arg v1 N (by omega) with ⟨n, hn, rfl⟩ | hb
  rotate_left
  · exact xx_bN0 hb (br_f (by decide) (yy_bN0 hb (br_f (by decide) ⟨rfl, J⟩)))
  rcases lr_arg v2 P (by omega) with ⟨p, hp, rfl⟩ | hb
  rotate_left
  · exact xx_bN1 z2 hn (br_t rfl (xx_bP0 hb (br_f (by decide) (yy_bN1 z2 hn (br_t rfl (yy_bP0 hb (br_f (by decide) ⟨rfl, J⟩)))))))
  refine xx_bN1 z2 hn (br_t rfl (xx_bP1 z4 hp (br_t rfl (?_))))
  exact ⟨lr_v4 (by omega) (by omega), yy_bN1 z2 hn (br_t rfl (yy_bP1 z4 hp (br_t rfl (⟨lr_v4 (by omega) (by omega), rfl, J⟩))))⟩

theorem i_vc_fetched {k : Nat} {u : SX} {v : SY} (I : i_Rel k u v) (hk : k + 4 ≤ 2052) (v1 : Int32) : wpX_fetched (fun r => wpY_fetched (fun r' => r' = r ∧ i_Rel (k + 4) u v) v v1) u v1 := by
  refine zz_el (Pr := fun u v => wpX_fetched (fun r => wpY_fetched (fun r' => r' = r ∧ i_Rel (k + 4) u v) v v1) u v1) ?_ I
  clear I u v
  intro N P B R C D LC L Q WQ f_openPages f_openNodes f_freeSlotCount f_retained f_freeEntry f_entriesUsed f_episodeCount a_copy a_twin a_opened a_openCount a_queue a_queued a_fetchCount a_clocks a_dropped a_slots a_freeSlots a_stamps a_sums a_notices a_chain a_entryAddr a_entryValue a_entryNext a_mode a_holders a_line a_lineLength a_lockClocks a_target a_cursor a_floor f_queueLen f_recCount a_copies a_queueNode a_queueLock a_recNode a_recNum a_recStamp a_recNotice a_recDiff a_v a_taken I
  have J : i_Rel (k + 4) (nI N, nI P, nI B, nI R, nI (P * B), f_openPages, f_openNodes, f_freeSlotCount, f_retained, f_freeEntry, f_entriesUsed, f_episodeCount, a_copy, a_twin, a_opened, a_openCount, a_queue, a_queued, a_fetchCount, a_clocks, a_dropped, a_slots, a_freeSlots, a_stamps, a_sums, a_notices, a_chain, a_entryAddr, a_entryValue, a_entryNext, a_mode, a_holders, a_line, a_lineLength, a_lockClocks, a_target, a_cursor, a_floor) (nI N, nI P, nI B, nI R, f_queueLen, f_episodeCount, f_recCount, a_copies, a_twin, a_opened, a_queued, a_clocks, a_fetchCount, a_mode, a_holders, a_lockClocks, a_queueNode, a_queueLock, a_recNode, a_recNum, a_recStamp, a_recNotice, a_recDiff, a_v, a_taken) := zz_mk (zz_up4 I)
  unfold wpX_fetched wpY_fetched; dsimp only
  obtain ⟨Z, hCK, hOP, hXR, hYR, ⟨l1, l2, l3, l4⟩, ⟨m1, m2, m3⟩, hWT, hMO⟩ := I
  have hPB := lr_PB Z
  have hL := lr_L4_32 Z l4
  have Z' := Z
  obtain ⟨z1, z2, z3, z4, z5, z6, z7, z8⟩ := Z
  rcases lr_arg v1 N (by omega) with ⟨n, hn, rfl⟩ | hb
  rotate_left
  · exact xx_bN0 hb (br_f (by decide) (yy_bN0 hb (br_f (by decide) ⟨rfl, J⟩)))
  refine xx_bN1 z2 hn (br_t rfl (?_))
  exact ⟨lr_v1 (by omega) (by omega), yy_bN1 z2 hn (br_t rfl (⟨lr_v1 (by omega) (by omega), rfl, J⟩))⟩

theorem i_vc_clock {k : Nat} {u : SX} {v : SY} (I : i_Rel k u v) (hk : k + 4 ≤ 2052) (v1 : Int32) (v2 : Int32) : wpX_clock (fun r => wpY_clock (fun r' => r' = r ∧ i_Rel (k + 4) u v) v v1 v2) u v1 v2 := by
  refine zz_el (Pr := fun u v => wpX_clock (fun r => wpY_clock (fun r' => r' = r ∧ i_Rel (k + 4) u v) v v1 v2) u v1 v2) ?_ I
  clear I u v
  intro N P B R C D LC L Q WQ f_openPages f_openNodes f_freeSlotCount f_retained f_freeEntry f_entriesUsed f_episodeCount a_copy a_twin a_opened a_openCount a_queue a_queued a_fetchCount a_clocks a_dropped a_slots a_freeSlots a_stamps a_sums a_notices a_chain a_entryAddr a_entryValue a_entryNext a_mode a_holders a_line a_lineLength a_lockClocks a_target a_cursor a_floor f_queueLen f_recCount a_copies a_queueNode a_queueLock a_recNode a_recNum a_recStamp a_recNotice a_recDiff a_v a_taken I
  have J : i_Rel (k + 4) (nI N, nI P, nI B, nI R, nI (P * B), f_openPages, f_openNodes, f_freeSlotCount, f_retained, f_freeEntry, f_entriesUsed, f_episodeCount, a_copy, a_twin, a_opened, a_openCount, a_queue, a_queued, a_fetchCount, a_clocks, a_dropped, a_slots, a_freeSlots, a_stamps, a_sums, a_notices, a_chain, a_entryAddr, a_entryValue, a_entryNext, a_mode, a_holders, a_line, a_lineLength, a_lockClocks, a_target, a_cursor, a_floor) (nI N, nI P, nI B, nI R, f_queueLen, f_episodeCount, f_recCount, a_copies, a_twin, a_opened, a_queued, a_clocks, a_fetchCount, a_mode, a_holders, a_lockClocks, a_queueNode, a_queueLock, a_recNode, a_recNum, a_recStamp, a_recNotice, a_recDiff, a_v, a_taken) := zz_mk (zz_up4 I)
  unfold wpX_clock wpY_clock; dsimp only
  obtain ⟨Z, hCK, hOP, hXR, hYR, ⟨l1, l2, l3, l4⟩, ⟨m1, m2, m3⟩, hWT, hMO⟩ := I
  have hPB := lr_PB Z
  have hL := lr_L4_32 Z l4
  have Z' := Z
  obtain ⟨z1, z2, z3, z4, z5, z6, z7, z8⟩ := Z
  rcases lr_arg v1 N (by omega) with ⟨n, hn, rfl⟩ | hb
  rotate_left
  · exact xx_bN0 hb (br_f (by decide) (yy_bN0 hb (br_f (by decide) ⟨rfl, J⟩)))
  rcases lr_arg v2 N (by omega) with ⟨m, hm, rfl⟩ | hb
  rotate_left
  · exact xx_bN1 z2 hn (br_t rfl (xx_bN0 hb (br_f (by decide) (yy_bN1 z2 hn (br_t rfl (yy_bN0 hb (br_f (by decide) ⟨rfl, J⟩)))))))
  refine xx_bN1 z2 hn (br_t rfl (xx_bN1 z2 hm (br_t rfl (?_))))
  exact ⟨lr_v4 (by omega) (by omega), yy_bN1 z2 hn (br_t rfl (yy_bN1 z2 hm (br_t rfl (⟨lr_v4 (by omega) (by omega), rfl, J⟩))))⟩

theorem i_vc_state {k : Nat} {u : SX} {v : SY} (I : i_Rel k u v) (hk : k + 4 ≤ 2052) (v1 : Int32) : wpX_state (fun r => wpY_state (fun r' => r' = r ∧ i_Rel (k + 4) u v) v v1) u v1 := by
  refine zz_el (Pr := fun u v => wpX_state (fun r => wpY_state (fun r' => r' = r ∧ i_Rel (k + 4) u v) v v1) u v1) ?_ I
  clear I u v
  intro N P B R C D LC L Q WQ f_openPages f_openNodes f_freeSlotCount f_retained f_freeEntry f_entriesUsed f_episodeCount a_copy a_twin a_opened a_openCount a_queue a_queued a_fetchCount a_clocks a_dropped a_slots a_freeSlots a_stamps a_sums a_notices a_chain a_entryAddr a_entryValue a_entryNext a_mode a_holders a_line a_lineLength a_lockClocks a_target a_cursor a_floor f_queueLen f_recCount a_copies a_queueNode a_queueLock a_recNode a_recNum a_recStamp a_recNotice a_recDiff a_v a_taken I
  have J : i_Rel (k + 4) (nI N, nI P, nI B, nI R, nI (P * B), f_openPages, f_openNodes, f_freeSlotCount, f_retained, f_freeEntry, f_entriesUsed, f_episodeCount, a_copy, a_twin, a_opened, a_openCount, a_queue, a_queued, a_fetchCount, a_clocks, a_dropped, a_slots, a_freeSlots, a_stamps, a_sums, a_notices, a_chain, a_entryAddr, a_entryValue, a_entryNext, a_mode, a_holders, a_line, a_lineLength, a_lockClocks, a_target, a_cursor, a_floor) (nI N, nI P, nI B, nI R, f_queueLen, f_episodeCount, f_recCount, a_copies, a_twin, a_opened, a_queued, a_clocks, a_fetchCount, a_mode, a_holders, a_lockClocks, a_queueNode, a_queueLock, a_recNode, a_recNum, a_recStamp, a_recNotice, a_recDiff, a_v, a_taken) := zz_mk (zz_up4 I)
  unfold wpX_state wpY_state; dsimp only
  obtain ⟨Z, hCK, hOP, hXR, hYR, ⟨l1, l2, l3, l4⟩, ⟨m1, m2, m3⟩, hWT, hMO⟩ := I
  have hPB := lr_PB Z
  have hL := lr_L4_32 Z l4
  have Z' := Z
  obtain ⟨z1, z2, z3, z4, z5, z6, z7, z8⟩ := Z
  rcases lr_arg v1 N (by omega) with ⟨n, hn, rfl⟩ | hb
  rotate_left
  · exact xx_bN0 hb (br_f (by decide) (yy_bN0 hb (br_f (by decide) ⟨rfl, J⟩)))
  refine xx_bN1 z2 hn (br_t rfl (?_))
  exact ⟨lr_v1 (by omega) (by omega), yy_bN1 z2 hn (br_t rfl (⟨lr_v1 (by omega) (by omega), rfl, J⟩))⟩

theorem i_vc_lockClock {k : Nat} {u : SX} {v : SY} (I : i_Rel k u v) (hk : k + 4 ≤ 2052) (v1 : Int32) (v2 : Int32) : wpX_lockClock (fun r => wpY_lockClock (fun r' => r' = r ∧ i_Rel (k + 4) u v) v v1 v2) u v1 v2 := by
  refine zz_el (Pr := fun u v => wpX_lockClock (fun r => wpY_lockClock (fun r' => r' = r ∧ i_Rel (k + 4) u v) v v1 v2) u v1 v2) ?_ I
  clear I u v
  intro N P B R C D LC L Q WQ f_openPages f_openNodes f_freeSlotCount f_retained f_freeEntry f_entriesUsed f_episodeCount a_copy a_twin a_opened a_openCount a_queue a_queued a_fetchCount a_clocks a_dropped a_slots a_freeSlots a_stamps a_sums a_notices a_chain a_entryAddr a_entryValue a_entryNext a_mode a_holders a_line a_lineLength a_lockClocks a_target a_cursor a_floor f_queueLen f_recCount a_copies a_queueNode a_queueLock a_recNode a_recNum a_recStamp a_recNotice a_recDiff a_v a_taken I
  have J : i_Rel (k + 4) (nI N, nI P, nI B, nI R, nI (P * B), f_openPages, f_openNodes, f_freeSlotCount, f_retained, f_freeEntry, f_entriesUsed, f_episodeCount, a_copy, a_twin, a_opened, a_openCount, a_queue, a_queued, a_fetchCount, a_clocks, a_dropped, a_slots, a_freeSlots, a_stamps, a_sums, a_notices, a_chain, a_entryAddr, a_entryValue, a_entryNext, a_mode, a_holders, a_line, a_lineLength, a_lockClocks, a_target, a_cursor, a_floor) (nI N, nI P, nI B, nI R, f_queueLen, f_episodeCount, f_recCount, a_copies, a_twin, a_opened, a_queued, a_clocks, a_fetchCount, a_mode, a_holders, a_lockClocks, a_queueNode, a_queueLock, a_recNode, a_recNum, a_recStamp, a_recNotice, a_recDiff, a_v, a_taken) := zz_mk (zz_up4 I)
  unfold wpX_lockClock wpY_lockClock; dsimp only
  obtain ⟨Z, hCK, hOP, hXR, hYR, ⟨l1, l2, l3, l4⟩, ⟨m1, m2, m3⟩, hWT, hMO⟩ := I
  have hPB := lr_PB Z
  have hL := lr_L4_32 Z l4
  have Z' := Z
  obtain ⟨z1, z2, z3, z4, z5, z6, z7, z8⟩ := Z
  rcases lr_arg v1 4 (by omega) with ⟨l, hl, rfl⟩ | hb
  rotate_left
  · exact xx_bL0 hb (br_f (by decide) (yy_bL0 hb (br_f (by decide) ⟨rfl, J⟩)))
  rcases lr_arg v2 N (by omega) with ⟨m, hm, rfl⟩ | hb
  rotate_left
  · exact xx_bL1 hl (br_t rfl (xx_bN0 hb (br_f (by decide) (yy_bL1 hl (br_t rfl (yy_bN0 hb (br_f (by decide) ⟨rfl, J⟩)))))))
  refine xx_bL1 hl (br_t rfl (xx_bN1 z2 hm (br_t rfl (?_))))
  exact ⟨lr_v4 (by omega) (by omega), yy_bL1 hl (br_t rfl (yy_bN1 z2 hm (br_t rfl (⟨lr_v4 (by omega) (by omega), rfl, J⟩))))⟩

theorem i_vc_open {k : Nat} {u : SX} {v : SY} (I : i_Rel k u v) (hk : k + 4 ≤ 2052) (v1 : Int32) (v2 : Int32) : wpX_open (fun r => wpY_open (fun r' => r' = r ∧ i_Rel (k + 4) u v) v v1 v2) u v1 v2 := by
  refine zz_el (Pr := fun u v => wpX_open (fun r => wpY_open (fun r' => r' = r ∧ i_Rel (k + 4) u v) v v1 v2) u v1 v2) ?_ I
  clear I u v
  intro N P B R C D LC L Q WQ f_openPages f_openNodes f_freeSlotCount f_retained f_freeEntry f_entriesUsed f_episodeCount a_copy a_twin a_opened a_openCount a_queue a_queued a_fetchCount a_clocks a_dropped a_slots a_freeSlots a_stamps a_sums a_notices a_chain a_entryAddr a_entryValue a_entryNext a_mode a_holders a_line a_lineLength a_lockClocks a_target a_cursor a_floor f_queueLen f_recCount a_copies a_queueNode a_queueLock a_recNode a_recNum a_recStamp a_recNotice a_recDiff a_v a_taken I
  have J : i_Rel (k + 4) (nI N, nI P, nI B, nI R, nI (P * B), f_openPages, f_openNodes, f_freeSlotCount, f_retained, f_freeEntry, f_entriesUsed, f_episodeCount, a_copy, a_twin, a_opened, a_openCount, a_queue, a_queued, a_fetchCount, a_clocks, a_dropped, a_slots, a_freeSlots, a_stamps, a_sums, a_notices, a_chain, a_entryAddr, a_entryValue, a_entryNext, a_mode, a_holders, a_line, a_lineLength, a_lockClocks, a_target, a_cursor, a_floor) (nI N, nI P, nI B, nI R, f_queueLen, f_episodeCount, f_recCount, a_copies, a_twin, a_opened, a_queued, a_clocks, a_fetchCount, a_mode, a_holders, a_lockClocks, a_queueNode, a_queueLock, a_recNode, a_recNum, a_recStamp, a_recNotice, a_recDiff, a_v, a_taken) := zz_mk (zz_up4 I)
  unfold wpX_open wpY_open; dsimp only
  obtain ⟨Z, hCK, hOP, hXR, hYR, ⟨l1, l2, l3, l4⟩, ⟨m1, m2, m3⟩, hWT, hMO⟩ := I
  have hPB := lr_PB Z
  have hL := lr_L4_32 Z l4
  have Z' := Z
  obtain ⟨z1, z2, z3, z4, z5, z6, z7, z8⟩ := Z
  rcases lr_arg v1 N (by omega) with ⟨n, hn, rfl⟩ | hb
  rotate_left
  · exact xx_bN0 hb (br_f (by decide) (yy_bN0 hb (br_f (by decide) ⟨rfl, J⟩)))
  rcases lr_arg v2 P (by omega) with ⟨p, hp, rfl⟩ | hb
  rotate_left
  · exact xx_bN1 z2 hn (br_t rfl (xx_bP0 hb (br_f (by decide) (yy_bN1 z2 hn (br_t rfl (yy_bP0 hb (br_f (by decide) ⟨rfl, J⟩)))))))
  refine xx_bN1 z2 hn (br_t rfl (xx_bP1 z4 hp (br_t rfl (?_))))
  refine ⟨lr_v4 (by omega) (by omega), ?_⟩
  by_cases c : a_opened (nI n * 4 + nI p).toNatClampNeg = 0
  · exact br_t c (yy_bN1 z2 hn (br_t rfl (yy_bP1 z4 hp (br_t rfl (⟨lr_v4 (by omega) (by omega), br_t c ⟨rfl, J⟩⟩)))))
  · exact br_f c (yy_bN1 z2 hn (br_t rfl (yy_bP1 z4 hp (br_t rfl (⟨lr_v4 (by omega) (by omega), br_f c ⟨rfl, J⟩⟩)))))

theorem i_vc_holder {k : Nat} {u : SX} {v : SY} (I : i_Rel k u v) (hk : k + 4 ≤ 2052) (v1 : Int32) : wpX_holder (fun r => wpY_holder (fun r' => r' = r ∧ i_Rel (k + 4) u v) v v1) u v1 := by
  refine zz_el (Pr := fun u v => wpX_holder (fun r => wpY_holder (fun r' => r' = r ∧ i_Rel (k + 4) u v) v v1) u v1) ?_ I
  clear I u v
  intro N P B R C D LC L Q WQ f_openPages f_openNodes f_freeSlotCount f_retained f_freeEntry f_entriesUsed f_episodeCount a_copy a_twin a_opened a_openCount a_queue a_queued a_fetchCount a_clocks a_dropped a_slots a_freeSlots a_stamps a_sums a_notices a_chain a_entryAddr a_entryValue a_entryNext a_mode a_holders a_line a_lineLength a_lockClocks a_target a_cursor a_floor f_queueLen f_recCount a_copies a_queueNode a_queueLock a_recNode a_recNum a_recStamp a_recNotice a_recDiff a_v a_taken I
  have J : i_Rel (k + 4) (nI N, nI P, nI B, nI R, nI (P * B), f_openPages, f_openNodes, f_freeSlotCount, f_retained, f_freeEntry, f_entriesUsed, f_episodeCount, a_copy, a_twin, a_opened, a_openCount, a_queue, a_queued, a_fetchCount, a_clocks, a_dropped, a_slots, a_freeSlots, a_stamps, a_sums, a_notices, a_chain, a_entryAddr, a_entryValue, a_entryNext, a_mode, a_holders, a_line, a_lineLength, a_lockClocks, a_target, a_cursor, a_floor) (nI N, nI P, nI B, nI R, f_queueLen, f_episodeCount, f_recCount, a_copies, a_twin, a_opened, a_queued, a_clocks, a_fetchCount, a_mode, a_holders, a_lockClocks, a_queueNode, a_queueLock, a_recNode, a_recNum, a_recStamp, a_recNotice, a_recDiff, a_v, a_taken) := zz_mk (zz_up4 I)
  unfold wpX_holder wpY_holder; dsimp only
  obtain ⟨Z, hCK, hOP, hXR, hYR, ⟨l1, l2, l3, l4⟩, ⟨m1, m2, m3⟩, hWT, hMO⟩ := I
  have hPB := lr_PB Z
  have hL := lr_L4_32 Z l4
  have Z' := Z
  obtain ⟨z1, z2, z3, z4, z5, z6, z7, z8⟩ := Z
  rcases lr_arg v1 4 (by omega) with ⟨l, hl, rfl⟩ | hb
  rotate_left
  · exact xx_bL0 hb (br_f (by decide) (yy_bL0 hb (br_f (by decide) ⟨rfl, J⟩)))
  refine xx_bL1 hl (br_t rfl (?_))
  refine ⟨lr_v1 (by omega) (by omega), ?_⟩
  by_cases c : 0 ≤ a_holders (nI l).toNatClampNeg
  · exact br_t c ⟨lr_v1 (by omega) (by omega), yy_bL1 hl (br_t rfl (⟨lr_v1 (by omega) (by omega), br_t c ⟨lr_v1 (by omega) (by omega), rfl, J⟩⟩))⟩
  · exact br_f c (yy_bL1 hl (br_t rfl (⟨lr_v1 (by omega) (by omega), br_f c ⟨rfl, J⟩⟩)))

theorem i_vc_base {k : Nat} {u : SX} {v : SY} (I : i_Rel k u v) (hk : k + 4 ≤ 2052) (v1 : Int32) (v2 : Int32) : wpX_base (fun r => wpY_base (fun r' => r' = r ∧ i_Rel (k + 4) u v) v v1 v2) u v1 v2 := by
  refine zz_el (Pr := fun u v => wpX_base (fun r => wpY_base (fun r' => r' = r ∧ i_Rel (k + 4) u v) v v1 v2) u v1 v2) ?_ I
  clear I u v
  intro N P B R C D LC L Q WQ f_openPages f_openNodes f_freeSlotCount f_retained f_freeEntry f_entriesUsed f_episodeCount a_copy a_twin a_opened a_openCount a_queue a_queued a_fetchCount a_clocks a_dropped a_slots a_freeSlots a_stamps a_sums a_notices a_chain a_entryAddr a_entryValue a_entryNext a_mode a_holders a_line a_lineLength a_lockClocks a_target a_cursor a_floor f_queueLen f_recCount a_copies a_queueNode a_queueLock a_recNode a_recNum a_recStamp a_recNotice a_recDiff a_v a_taken I
  have J : i_Rel (k + 4) (nI N, nI P, nI B, nI R, nI (P * B), f_openPages, f_openNodes, f_freeSlotCount, f_retained, f_freeEntry, f_entriesUsed, f_episodeCount, a_copy, a_twin, a_opened, a_openCount, a_queue, a_queued, a_fetchCount, a_clocks, a_dropped, a_slots, a_freeSlots, a_stamps, a_sums, a_notices, a_chain, a_entryAddr, a_entryValue, a_entryNext, a_mode, a_holders, a_line, a_lineLength, a_lockClocks, a_target, a_cursor, a_floor) (nI N, nI P, nI B, nI R, f_queueLen, f_episodeCount, f_recCount, a_copies, a_twin, a_opened, a_queued, a_clocks, a_fetchCount, a_mode, a_holders, a_lockClocks, a_queueNode, a_queueLock, a_recNode, a_recNum, a_recStamp, a_recNotice, a_recDiff, a_v, a_taken) := zz_mk (zz_up4 I)
  unfold wpX_base wpY_base; dsimp only
  obtain ⟨Z, hCK, hOP, hXR, hYR, ⟨l1, l2, l3, l4⟩, ⟨m1, m2, m3⟩, hWT, hMO⟩ := I
  have hPB := lr_PB Z
  have hL := lr_L4_32 Z l4
  have Z' := Z
  obtain ⟨z1, z2, z3, z4, z5, z6, z7, z8⟩ := Z
  rcases lr_arg v1 N (by omega) with ⟨n, hn, rfl⟩ | hb
  rotate_left
  · exact xx_bN0 hb (br_f (by decide) (yy_bN0 hb (br_f (by decide) ⟨rfl, J⟩)))
  rcases lr_arg v2 (P * B) (by omega) with ⟨a, ha, rfl⟩ | hb
  rotate_left
  · exact xx_bN1 z2 hn (br_t rfl (xx_bA0 hb (br_f (by decide) (yy_bN1 z2 hn (br_t rfl (yy_bA0 hb (br_f (by decide) ⟨rfl, J⟩)))))))
  refine xx_bN1 z2 hn (br_t rfl (xx_bA1 hPB ha (br_t rfl (?_))))
  obtain ⟨g1, g2, g3⟩ := lr_pgof z5 ha
  have hd : nI a / nI B = nI (a / B) := pk_div (by omega) (by omega) (by omega)
  refine ⟨nI_ne0 (by omega) (by omega), by rw [hd]; exact lr_v4 (by omega) (by omega), ?_⟩
  by_cases c : a_opened (n * 4 + a / B) = 0
  · refine br_t (by rw [hd, lr_c4 (by omega)]; exact c) (xx_currentR Z' hL hXR m1 m2 m3 hn ha (yy_bN1 z2 hn (br_t rfl (yy_bA1 hPB ha (br_t rfl (?_))))))
    exact ⟨nI_ne0 (by omega) (by omega), nm_r hd ⟨lr_v4 (by omega) (by omega), br_t (by rw [lr_c4 (by omega)]; exact c) ⟨lr_v32 (by omega) (by omega), by rw [lr_c32 (by omega)], J⟩⟩⟩
  · refine br_f (by rw [hd, lr_c4 (by omega)]; exact c) ⟨lr_v32 (by omega) (by omega), yy_bN1 z2 hn (br_t rfl (yy_bA1 hPB ha (br_t rfl (?_))))⟩
    exact ⟨nI_ne0 (by omega) (by omega), nm_r hd ⟨lr_v4 (by omega) (by omega), br_f (by rw [lr_c4 (by omega)]; exact c) ⟨lr_v32 (by omega) (by omega), rfl, J⟩⟩⟩

theorem i_vc_episodes {k : Nat} {u : SX} {v : SY} (I : i_Rel k u v) (hk : k + 4 ≤ 2052) : wpX_episodes (fun r => wpY_episodes (fun r' => r' = r ∧ i_Rel (k + 4) u v) v) u := by
  refine zz_el (Pr := fun u v => wpX_episodes (fun r => wpY_episodes (fun r' => r' = r ∧ i_Rel (k + 4) u v) v) u) ?_ I
  clear I u v
  intro N P B R C D LC L Q WQ f_openPages f_openNodes f_freeSlotCount f_retained f_freeEntry f_entriesUsed f_episodeCount a_copy a_twin a_opened a_openCount a_queue a_queued a_fetchCount a_clocks a_dropped a_slots a_freeSlots a_stamps a_sums a_notices a_chain a_entryAddr a_entryValue a_entryNext a_mode a_holders a_line a_lineLength a_lockClocks a_target a_cursor a_floor f_queueLen f_recCount a_copies a_queueNode a_queueLock a_recNode a_recNum a_recStamp a_recNotice a_recDiff a_v a_taken I
  have J : i_Rel (k + 4) (nI N, nI P, nI B, nI R, nI (P * B), f_openPages, f_openNodes, f_freeSlotCount, f_retained, f_freeEntry, f_entriesUsed, f_episodeCount, a_copy, a_twin, a_opened, a_openCount, a_queue, a_queued, a_fetchCount, a_clocks, a_dropped, a_slots, a_freeSlots, a_stamps, a_sums, a_notices, a_chain, a_entryAddr, a_entryValue, a_entryNext, a_mode, a_holders, a_line, a_lineLength, a_lockClocks, a_target, a_cursor, a_floor) (nI N, nI P, nI B, nI R, f_queueLen, f_episodeCount, f_recCount, a_copies, a_twin, a_opened, a_queued, a_clocks, a_fetchCount, a_mode, a_holders, a_lockClocks, a_queueNode, a_queueLock, a_recNode, a_recNum, a_recStamp, a_recNotice, a_recDiff, a_v, a_taken) := zz_mk (zz_up4 I)
  unfold wpX_episodes wpY_episodes; dsimp only
  obtain ⟨Z, hCK, hOP, hXR, hYR, ⟨l1, l2, l3, l4⟩, ⟨m1, m2, m3⟩, hWT, hMO⟩ := I
  have hPB := lr_PB Z
  have hL := lr_L4_32 Z l4
  have Z' := Z
  obtain ⟨z1, z2, z3, z4, z5, z6, z7, z8⟩ := Z
  exact ⟨rfl, J⟩

theorem i_vc_stamp {k : Nat} {u : SX} {v : SY} (I : i_Rel k u v) (hk : k + 4 ≤ 2052) (v1 : Int32) (v2 : Int32) (v3 : Int32) : wpX_stamp (fun r => wpY_stamp (fun r' => r' = r ∧ i_Rel (k + 4) u v) v v1 v2 v3) u v1 v2 v3 := by
  refine zz_el (Pr := fun u v => wpX_stamp (fun r => wpY_stamp (fun r' => r' = r ∧ i_Rel (k + 4) u v) v v1 v2 v3) u v1 v2 v3) ?_ I
  clear I u v
  intro N P B R C D LC L Q WQ f_openPages f_openNodes f_freeSlotCount f_retained f_freeEntry f_entriesUsed f_episodeCount a_copy a_twin a_opened a_openCount a_queue a_queued a_fetchCount a_clocks a_dropped a_slots a_freeSlots a_stamps a_sums a_notices a_chain a_entryAddr a_entryValue a_entryNext a_mode a_holders a_line a_lineLength a_lockClocks a_target a_cursor a_floor f_queueLen f_recCount a_copies a_queueNode a_queueLock a_recNode a_recNum a_recStamp a_recNotice a_recDiff a_v a_taken I
  have J : i_Rel (k + 4) (nI N, nI P, nI B, nI R, nI (P * B), f_openPages, f_openNodes, f_freeSlotCount, f_retained, f_freeEntry, f_entriesUsed, f_episodeCount, a_copy, a_twin, a_opened, a_openCount, a_queue, a_queued, a_fetchCount, a_clocks, a_dropped, a_slots, a_freeSlots, a_stamps, a_sums, a_notices, a_chain, a_entryAddr, a_entryValue, a_entryNext, a_mode, a_holders, a_line, a_lineLength, a_lockClocks, a_target, a_cursor, a_floor) (nI N, nI P, nI B, nI R, f_queueLen, f_episodeCount, f_recCount, a_copies, a_twin, a_opened, a_queued, a_clocks, a_fetchCount, a_mode, a_holders, a_lockClocks, a_queueNode, a_queueLock, a_recNode, a_recNum, a_recStamp, a_recNotice, a_recDiff, a_v, a_taken) := zz_mk (zz_up4 I)
  unfold wpX_stamp wpY_stamp; dsimp only
  obtain ⟨Z, hCK, hOP, hXR, hYR, ⟨l1, l2, l3, l4⟩, ⟨m1, m2, m3⟩, hWT, hMO⟩ := I
  have hPB := lr_PB Z
  have hL := lr_L4_32 Z l4
  have Z' := Z
  obtain ⟨z1, z2, z3, z4, z5, z6, z7, z8⟩ := Z
  rcases lr_arg v1 N (by omega) with ⟨n, hn, rfl⟩ | hb
  rotate_left
  · exact xx_bN0 hb (br_f (by decide) (yy_bN0 hb (br_f (by decide) ⟨rfl, J⟩)))
  rcases lr_arg v3 N (by omega) with ⟨j, hj, rfl⟩ | hb
  rotate_left
  · exact xx_bN1 z2 hn (br_t rfl (xx_bN0 hb (br_f (by decide) (yy_bN1 z2 hn (br_t rfl (yy_bN0 hb (br_f (by decide) ⟨rfl, J⟩)))))))
  refine xx_bN1 z2 hn (br_t rfl (xx_bN1 z2 hj (br_t rfl (?_))))
  have hC := hCK.1 n n hn hn
  have hk2 : ∀ q, q ∈ L → lr_n q < 4 := fun q hq => by have := (l1.1 q hq).1; omega
  have hyr := hYR.2
  refine xx_findRecord (cD := D n) (cC := C n n) (by omega) (hCK.2.1 n hn) hC.1 hC.2.2.1 (by omega) ?_ ?_
  · intro k0 e h1 h2
    obtain ⟨q, hq, q1, q2⟩ := l1.2.1 n k0 hn h1 h2
    obtain ⟨x1, x2, x3, x4, x5⟩ := lr_XR_q hXR hq
    rw [q1, q2] at x2
    rw [x2]
    subst e
    refine br_t (nI_pos' (by omega)) ⟨lr_v4 (by omega) (by omega), ?_⟩
    rw [lr_c4 (by omega), x3 j hj]
    refine yy_bN1 z2 hn (br_t rfl (yy_bN1 z2 hj (br_t rfl (?_))))
    refine yy_findRecord hL hYR.1 (fun i q hi => (hyr i q hi).1) hk2 (by omega) ?_ ?_
    · intro i q' hi e1 e2
      have hil := lr_at_lt hi
      have hk0 := (l1.1 q' (lr_at_mem hi)).2.2
      rw [e1] at hk0
      have e3 : k0 = lr_k q' := (nI_eq (by omega) (by omega)).mp e2
      have e4 : q' = q := lr_inj l1.2.2 (lr_at_mem hi) hq (by show (lr_n q', lr_k q') = (lr_n q, lr_k q); rw [e1, ← e3, q1, q2])
      subst e4
      obtain ⟨y1, y2, y3⟩ := (hyr i q' hi).2
      refine br_t (nI_pos' (by omega)) ?_
      exact ⟨lr_v4 (by omega) (by omega), by rw [lr_c4 (by omega), y1 j hj], J⟩
    · intro h
      exact absurd (by rw [q2]) (h q hq q1)
  · intro h
    refine br_f (by decide) ?_
    refine yy_bN1 z2 hn (br_t rfl (yy_bN1 z2 hj (br_t rfl (?_))))
    refine yy_findRecord hL hYR.1 (fun i q hi => (hyr i q hi).1) hk2 (by omega) ?_ ?_
    · intro i q' hi e1 e2
      have hm := l1.1 q' (lr_at_mem hi)
      rw [e1] at hm
      exact (h _ e2 hm.2.1 hm.2.2).elim
    · intro _
      exact br_f (by decide) ⟨rfl, J⟩

theorem i_vc_notice {k : Nat} {u : SX} {v : SY} (I : i_Rel k u v) (hk : k + 4 ≤ 2052) (v1 : Int32) (v2 : Int32) (v3 : Int32) : wpX_notice (fun r => wpY_notice (fun r' => r' = r ∧ i_Rel (k + 4) u v) v v1 v2 v3) u v1 v2 v3 := by
  refine zz_el (Pr := fun u v => wpX_notice (fun r => wpY_notice (fun r' => r' = r ∧ i_Rel (k + 4) u v) v v1 v2 v3) u v1 v2 v3) ?_ I
  clear I u v
  intro N P B R C D LC L Q WQ f_openPages f_openNodes f_freeSlotCount f_retained f_freeEntry f_entriesUsed f_episodeCount a_copy a_twin a_opened a_openCount a_queue a_queued a_fetchCount a_clocks a_dropped a_slots a_freeSlots a_stamps a_sums a_notices a_chain a_entryAddr a_entryValue a_entryNext a_mode a_holders a_line a_lineLength a_lockClocks a_target a_cursor a_floor f_queueLen f_recCount a_copies a_queueNode a_queueLock a_recNode a_recNum a_recStamp a_recNotice a_recDiff a_v a_taken I
  have J : i_Rel (k + 4) (nI N, nI P, nI B, nI R, nI (P * B), f_openPages, f_openNodes, f_freeSlotCount, f_retained, f_freeEntry, f_entriesUsed, f_episodeCount, a_copy, a_twin, a_opened, a_openCount, a_queue, a_queued, a_fetchCount, a_clocks, a_dropped, a_slots, a_freeSlots, a_stamps, a_sums, a_notices, a_chain, a_entryAddr, a_entryValue, a_entryNext, a_mode, a_holders, a_line, a_lineLength, a_lockClocks, a_target, a_cursor, a_floor) (nI N, nI P, nI B, nI R, f_queueLen, f_episodeCount, f_recCount, a_copies, a_twin, a_opened, a_queued, a_clocks, a_fetchCount, a_mode, a_holders, a_lockClocks, a_queueNode, a_queueLock, a_recNode, a_recNum, a_recStamp, a_recNotice, a_recDiff, a_v, a_taken) := zz_mk (zz_up4 I)
  unfold wpX_notice wpY_notice; dsimp only
  obtain ⟨Z, hCK, hOP, hXR, hYR, ⟨l1, l2, l3, l4⟩, ⟨m1, m2, m3⟩, hWT, hMO⟩ := I
  have hPB := lr_PB Z
  have hL := lr_L4_32 Z l4
  have Z' := Z
  obtain ⟨z1, z2, z3, z4, z5, z6, z7, z8⟩ := Z
  rcases lr_arg v1 N (by omega) with ⟨n, hn, rfl⟩ | hb
  rotate_left
  · exact xx_bN0 hb (br_f (by decide) (yy_bN0 hb (br_f (by decide) ⟨rfl, J⟩)))
  rcases lr_arg v3 P (by omega) with ⟨j, hj, rfl⟩ | hb
  rotate_left
  · exact xx_bN1 z2 hn (br_t rfl (xx_bP0 hb (br_f (by decide) (yy_bN1 z2 hn (br_t rfl (yy_bP0 hb (br_f (by decide) ⟨rfl, J⟩)))))))
  refine xx_bN1 z2 hn (br_t rfl (xx_bP1 z4 hj (br_t rfl (?_))))
  have hC := hCK.1 n n hn hn
  have hk2 : ∀ q, q ∈ L → lr_n q < 4 := fun q hq => by have := (l1.1 q hq).1; omega
  have hyr := hYR.2
  refine xx_findRecord (cD := D n) (cC := C n n) (by omega) (hCK.2.1 n hn) hC.1 hC.2.2.1 (by omega) ?_ ?_
  · intro k0 e h1 h2
    obtain ⟨q, hq, q1, q2⟩ := l1.2.1 n k0 hn h1 h2
    obtain ⟨x1, x2, x3, x4, x5⟩ := lr_XR_q hXR hq
    rw [q1, q2] at x2
    rw [x2]
    subst e
    refine br_t (nI_pos' (by omega)) ⟨lr_v4 (by omega) (by omega), ?_⟩
    rw [lr_c4 (by omega), x5 j hj]
    by_cases c : lr_o q j = 0
    · refine br_t c ?_
      refine yy_bN1 z2 hn (br_t rfl (yy_bP1 z4 hj (br_t rfl (?_))))
      refine yy_findRecord hL hYR.1 (fun i q hi => (hyr i q hi).1) hk2 (by omega) ?_ ?_
      · intro i q' hi e1 e2
        have hil := lr_at_lt hi
        have hk0 := (l1.1 q' (lr_at_mem hi)).2.2
        rw [e1] at hk0
        have e3 : k0 = lr_k q' := (nI_eq (by omega) (by omega)).mp e2
        have e4 : q' = q := lr_inj l1.2.2 (lr_at_mem hi) hq (by show (lr_n q', lr_k q') = (lr_n q, lr_k q); rw [e1, ← e3, q1, q2])
        subst e4
        obtain ⟨y1, y2, y3⟩ := (hyr i q' hi).2
        refine br_t (nI_pos' (by omega)) ?_
        refine ⟨lr_v4 (by omega) (by omega), ?_⟩
        rw [lr_c4 (by omega), y2 j hj]
        exact br_t c ⟨rfl, J⟩
      · intro h
        exact absurd (by rw [q2]) (h q hq q1)
    · refine br_f c ?_
      refine yy_bN1 z2 hn (br_t rfl (yy_bP1 z4 hj (br_t rfl (?_))))
      refine yy_findRecord hL hYR.1 (fun i q hi => (hyr i q hi).1) hk2 (by omega) ?_ ?_
      · intro i q' hi e1 e2
        have hil := lr_at_lt hi
        have hk0 := (l1.1 q' (lr_at_mem hi)).2.2
        rw [e1] at hk0
        have e3 : k0 = lr_k q' := (nI_eq (by omega) (by omega)).mp e2
        have e4 : q' = q := lr_inj l1.2.2 (lr_at_mem hi) hq (by show (lr_n q', lr_k q') = (lr_n q, lr_k q); rw [e1, ← e3, q1, q2])
        subst e4
        obtain ⟨y1, y2, y3⟩ := (hyr i q' hi).2
        refine br_t (nI_pos' (by omega)) ?_
        refine ⟨lr_v4 (by omega) (by omega), ?_⟩
        rw [lr_c4 (by omega), y2 j hj]
        exact br_f c ⟨rfl, J⟩
      · intro h
        exact absurd (by rw [q2]) (h q hq q1)
  · intro h
    refine br_f (by decide) ?_
    refine yy_bN1 z2 hn (br_t rfl (yy_bP1 z4 hj (br_t rfl (?_))))
    refine yy_findRecord hL hYR.1 (fun i q hi => (hyr i q hi).1) hk2 (by omega) ?_ ?_
    · intro i q' hi e1 e2
      have hm := l1.1 q' (lr_at_mem hi)
      rw [e1] at hm
      exact (h _ e2 hm.2.1 hm.2.2).elim
    · intro _
      exact br_f (by decide) ⟨rfl, J⟩

theorem i_vc_diff {k : Nat} {u : SX} {v : SY} (I : i_Rel k u v) (hk : k + 4 ≤ 2052) (v1 : Int32) (v2 : Int32) (v3 : Int32) : wpX_diff (fun r => wpY_diff (fun r' => r' = r ∧ i_Rel (k + 4) u v) v v1 v2 v3) u v1 v2 v3 := by
  refine zz_el (Pr := fun u v => wpX_diff (fun r => wpY_diff (fun r' => r' = r ∧ i_Rel (k + 4) u v) v v1 v2 v3) u v1 v2 v3) ?_ I
  clear I u v
  intro N P B R C D LC L Q WQ f_openPages f_openNodes f_freeSlotCount f_retained f_freeEntry f_entriesUsed f_episodeCount a_copy a_twin a_opened a_openCount a_queue a_queued a_fetchCount a_clocks a_dropped a_slots a_freeSlots a_stamps a_sums a_notices a_chain a_entryAddr a_entryValue a_entryNext a_mode a_holders a_line a_lineLength a_lockClocks a_target a_cursor a_floor f_queueLen f_recCount a_copies a_queueNode a_queueLock a_recNode a_recNum a_recStamp a_recNotice a_recDiff a_v a_taken I
  have J : i_Rel (k + 4) (nI N, nI P, nI B, nI R, nI (P * B), f_openPages, f_openNodes, f_freeSlotCount, f_retained, f_freeEntry, f_entriesUsed, f_episodeCount, a_copy, a_twin, a_opened, a_openCount, a_queue, a_queued, a_fetchCount, a_clocks, a_dropped, a_slots, a_freeSlots, a_stamps, a_sums, a_notices, a_chain, a_entryAddr, a_entryValue, a_entryNext, a_mode, a_holders, a_line, a_lineLength, a_lockClocks, a_target, a_cursor, a_floor) (nI N, nI P, nI B, nI R, f_queueLen, f_episodeCount, f_recCount, a_copies, a_twin, a_opened, a_queued, a_clocks, a_fetchCount, a_mode, a_holders, a_lockClocks, a_queueNode, a_queueLock, a_recNode, a_recNum, a_recStamp, a_recNotice, a_recDiff, a_v, a_taken) := zz_mk (zz_up4 I)
  unfold wpX_diff wpY_diff; dsimp only
  obtain ⟨Z, hCK, hOP, hXR, hYR, ⟨l1, l2, l3, l4⟩, ⟨m1, m2, m3⟩, hWT, hMO⟩ := I
  have hPB := lr_PB Z
  have hL := lr_L4_32 Z l4
  have Z' := Z
  obtain ⟨z1, z2, z3, z4, z5, z6, z7, z8⟩ := Z
  rcases lr_arg v1 N (by omega) with ⟨n, hn, rfl⟩ | hb
  rotate_left
  · exact xx_bN0 hb (br_f (by decide) (yy_bN0 hb (br_f (by decide) ⟨rfl, J⟩)))
  rcases lr_arg v3 (P * B) (by omega) with ⟨a, ha, rfl⟩ | hb
  rotate_left
  · exact xx_bN1 z2 hn (br_t rfl (xx_bA0 hb (br_f (by decide) (yy_bN1 z2 hn (br_t rfl (yy_bA0 hb (br_f (by decide) ⟨rfl, J⟩)))))))
  refine xx_bN1 z2 hn (br_t rfl (xx_bA1 hPB ha (br_t rfl (?_))))
  have hC := hCK.1 n n hn hn
  have hk2 : ∀ q, q ∈ L → lr_n q < 4 := fun q hq => by have := (l1.1 q hq).1; omega
  have hyr := hYR.2
  refine xx_findRecord (cD := D n) (cC := C n n) (by omega) (hCK.2.1 n hn) hC.1 hC.2.2.1 (by omega) ?_ ?_
  · intro k0 e h1 h2
    obtain ⟨q, hq, q1, q2⟩ := l1.2.1 n k0 hn h1 h2
    obtain ⟨x1, x2, x3, x4, x5⟩ := lr_XR_q hXR hq
    rw [q1, q2] at x2
    rw [x2]
    subst e
    refine br_t (nI_pos' (by omega)) ?_
    obtain ⟨g1, g2, g3⟩ := lr_pgof z5 ha
    have hpb := lr_pB (B := B) g1
    refine xx_findEntry (by omega) z5 z6 (by omega) (lr_XR_ch hXR z4 hq g1) (by omega) ?_ ?_
    · intro c
      refine br_f (by decide) ?_
      refine yy_bN1 z2 hn (br_t rfl (yy_bA1 hPB ha (br_t rfl (?_))))
      refine yy_findRecord hL hYR.1 (fun i q hi => (hyr i q hi).1) hk2 (by omega) ?_ ?_
      · intro i q' hi e1 e2
        have hil := lr_at_lt hi
        have hk0 := (l1.1 q' (lr_at_mem hi)).2.2
        rw [e1] at hk0
        have e3 : k0 = lr_k q' := (nI_eq (by omega) (by omega)).mp e2
        have e4 : q' = q := lr_inj l1.2.2 (lr_at_mem hi) hq (by show (lr_n q', lr_k q') = (lr_n q, lr_k q); rw [e1, ← e3, q1, q2])
        subst e4
        obtain ⟨y1, y2, y3⟩ := (hyr i q' hi).2
        refine br_t (nI_pos' (by omega)) ?_
        refine ⟨lr_v32 (by omega) (by omega), ?_⟩
        rw [lr_c32 (by omega), y3 a ha]
        exact br_f (by rw [lr_0le]; exact fun z => z c) ⟨rfl, J⟩
      · intro h
        exact absurd (by rw [q2]) (h q hq q1)
    · intro e he c hv
      refine br_t (nI_pos' (by omega)) ⟨lr_v1 he (by omega), ?_⟩
      rw [lr_c1 (by omega), hv]
      refine yy_bN1 z2 hn (br_t rfl (yy_bA1 hPB ha (br_t rfl (?_))))
      refine yy_findRecord hL hYR.1 (fun i q hi => (hyr i q hi).1) hk2 (by omega) ?_ ?_
      · intro i q' hi e1 e2
        have hil := lr_at_lt hi
        have hk0 := (l1.1 q' (lr_at_mem hi)).2.2
        rw [e1] at hk0
        have e3 : k0 = lr_k q' := (nI_eq (by omega) (by omega)).mp e2
        have e4 : q' = q := lr_inj l1.2.2 (lr_at_mem hi) hq (by show (lr_n q', lr_k q') = (lr_n q, lr_k q); rw [e1, ← e3, q1, q2])
        subst e4
        obtain ⟨y1, y2, y3⟩ := (hyr i q' hi).2
        refine br_t (nI_pos' (by omega)) ?_
        refine ⟨lr_v32 (by omega) (by omega), ?_⟩
        rw [lr_c32 (by omega), y3 a ha]
        exact br_t (by rw [lr_0le]; exact c) ⟨lr_v32 (by omega) (by omega), rfl, J⟩
      · intro h
        exact absurd (by rw [q2]) (h q hq q1)
  · intro h
    refine br_f (by decide) ?_
    refine yy_bN1 z2 hn (br_t rfl (yy_bA1 hPB ha (br_t rfl (?_))))
    refine yy_findRecord hL hYR.1 (fun i q hi => (hyr i q hi).1) hk2 (by omega) ?_ ?_
    · intro i q' hi e1 e2
      have hm := l1.1 q' (lr_at_mem hi)
      rw [e1] at hm
      exact (h _ e2 hm.2.1 hm.2.2).elim
    · intro _
      exact br_f (by decide) ⟨rfl, J⟩
end
section
/-! read, waiter, withdraw -/

theorem i_vc_read {k : Nat} {u : SX} {v : SY} (I : i_Rel k u v) (hk : k + 4 ≤ 2052) (v1 : Int32) (v2 : Int32) : wpX_read (fun r u' => wpY_read (fun r' v' => r' = r ∧ i_Rel (k + 4) u' v') v v1 v2) u v1 v2 := by
  refine zz_el (Pr := fun u v => wpX_read (fun r u' => wpY_read (fun r' v' => r' = r ∧ i_Rel (k + 4) u' v') v v1 v2) u v1 v2) ?_ I
  clear I u v
  intro N P B R C D LC L Q WQ f_openPages f_openNodes f_freeSlotCount f_retained f_freeEntry f_entriesUsed f_episodeCount a_copy a_twin a_opened a_openCount a_queue a_queued a_fetchCount a_clocks a_dropped a_slots a_freeSlots a_stamps a_sums a_notices a_chain a_entryAddr a_entryValue a_entryNext a_mode a_holders a_line a_lineLength a_lockClocks a_target a_cursor a_floor f_queueLen f_recCount a_copies a_queueNode a_queueLock a_recNode a_recNum a_recStamp a_recNotice a_recDiff a_v a_taken I
  have J0 : i_Rel (k + 4) (nI N, nI P, nI B, nI R, nI (P * B), f_openPages, f_openNodes, f_freeSlotCount, f_retained, f_freeEntry, f_entriesUsed, f_episodeCount, a_copy, a_twin, a_opened, a_openCount, a_queue, a_queued, a_fetchCount, a_clocks, a_dropped, a_slots, a_freeSlots, a_stamps, a_sums, a_notices, a_chain, a_entryAddr, a_entryValue, a_entryNext, a_mode, a_holders, a_line, a_lineLength, a_lockClocks, a_target, a_cursor, a_floor) (nI N, nI P, nI B, nI R, f_queueLen, f_episodeCount, f_recCount, a_copies, a_twin, a_opened, a_queued, a_clocks, a_fetchCount, a_mode, a_holders, a_lockClocks, a_queueNode, a_queueLock, a_recNode, a_recNum, a_recStamp, a_recNotice, a_recDiff, a_v, a_taken) := zz_mk (zz_up4 I)
  unfold wpX_read wpY_read; dsimp only
  obtain ⟨J, hYR⟩ := zz_IJ I
  obtain ⟨Z, hCK, hOP, hXR, hYR', ⟨l1, l2, l3, l4⟩, ⟨m1, m2, m3⟩, hWT, hMO⟩ := I
  have hPB := lr_PB Z
  have hL := lr_L4_32 Z l4
  have Z' := Z
  obtain ⟨z1, z2, z3, z4, z5, z6, z7, z8⟩ := Z
  rcases lr_arg v1 N (by omega) with ⟨n, hn, rfl⟩ | hb
  rotate_left
  · exact xx_bN0 hb (br_f (by decide) (yy_bN0 hb (br_f (by decide) ⟨rfl, J0⟩)))
  rcases lr_arg v2 (P * B) (by omega) with ⟨a, ha, rfl⟩ | hb
  rotate_left
  · exact xx_bN1 z2 hn (br_t rfl (xx_bA0 hb (br_f (by decide) (yy_bN1 z2 hn (br_t rfl (yy_bA0 hb (br_f (by decide) ⟨rfl, J0⟩)))))))
  refine xx_bN1 z2 hn (br_t rfl (xx_bA1 hPB ha (br_t rfl (?_))))
  obtain ⟨g1, g2, g3⟩ := lr_pgof z5 ha
  have hpb := lr_pB (B := B) g1
  have hd : nI a / nI B = nI (a / B) := pk_div (by omega) (by omega) (by omega)
  have hc1 : (nI n).toNatClampNeg = n := lr_c1 (by omega)
  refine ⟨lr_v1 (by omega) (by omega), ?_⟩
  by_cases c : a_mode n = 0
  · refine br_t (by rw [hc1]; exact c) ⟨nI_ne0 (by omega) (by omega), nm_r hd (xx_accessR Z' hL hXR m1 m2 hn g1 ⟨lr_v32 (by omega) (by omega), ?_⟩)⟩
    refine yy_bN1 z2 hn (br_t rfl (yy_bA1 hPB ha (br_t rfl (⟨lr_v1 (by omega) (by omega), br_t (by rw [hc1]; exact c) ⟨nI_ne0 (by omega) (by omega), ?_⟩⟩))))
    rw [hd]
    refine yy_access (by omega) (by omega) ⟨lr_v32 (by omega) (by omega), ?_, zz_mk (Q := lr_Qu Q n (a / B) []) ⟨Z', zz_CK_up hCK (by omega), hOP, hXR, hYR, ⟨l1, l2, l3, l4⟩, ⟨lr_M1_acc z4 g1 m1, lr_M2_acc m2, lr_M3_acc hPB m3⟩, hWT, hMO⟩⟩
    rw [lr_c32 (by omega)]
    have h1 := (m3 n (a / B) (a % B) hn g1 g2).1
    have h2 := lr_acc_in (n := n) (l := Q n (a / B)) (c := a_copy) (show a / B * B + B ≤ 32 by omega) g2
    rw [g3] at h1 h2
    exact h1.trans h2.symm
  · refine br_f (by rw [hc1]; exact c) ?_
    exact yy_bN1 z2 hn (br_t rfl (yy_bA1 hPB ha (br_t rfl (⟨lr_v1 (by omega) (by omega), br_f (by rw [hc1]; exact c) ⟨rfl, J0⟩⟩))))

theorem i_vc_waiter {k : Nat} {u : SX} {v : SY} (I : i_Rel k u v) (hk : k + 4 ≤ 2052) (v1 : Int32) (v2 : Int32) : wpX_waiter (fun r => wpY_waiter (fun r' => r' = r ∧ i_Rel (k + 4) u v) v v1 v2) u v1 v2 := by
  refine zz_el (Pr := fun u v => wpX_waiter (fun r => wpY_waiter (fun r' => r' = r ∧ i_Rel (k + 4) u v) v v1 v2) u v1 v2) ?_ I
  clear I u v
  intro N P B R C D LC L Q WQ f_openPages f_openNodes f_freeSlotCount f_retained f_freeEntry f_entriesUsed f_episodeCount a_copy a_twin a_opened a_openCount a_queue a_queued a_fetchCount a_clocks a_dropped a_slots a_freeSlots a_stamps a_sums a_notices a_chain a_entryAddr a_entryValue a_entryNext a_mode a_holders a_line a_lineLength a_lockClocks a_target a_cursor a_floor f_queueLen f_recCount a_copies a_queueNode a_queueLock a_recNode a_recNum a_recStamp a_recNotice a_recDiff a_v a_taken I
  have J0 : i_Rel (k + 4) (nI N, nI P, nI B, nI R, nI (P * B), f_openPages, f_openNodes, f_freeSlotCount, f_retained, f_freeEntry, f_entriesUsed, f_episodeCount, a_copy, a_twin, a_opened, a_openCount, a_queue, a_queued, a_fetchCount, a_clocks, a_dropped, a_slots, a_freeSlots, a_stamps, a_sums, a_notices, a_chain, a_entryAddr, a_entryValue, a_entryNext, a_mode, a_holders, a_line, a_lineLength, a_lockClocks, a_target, a_cursor, a_floor) (nI N, nI P, nI B, nI R, f_queueLen, f_episodeCount, f_recCount, a_copies, a_twin, a_opened, a_queued, a_clocks, a_fetchCount, a_mode, a_holders, a_lockClocks, a_queueNode, a_queueLock, a_recNode, a_recNum, a_recStamp, a_recNotice, a_recDiff, a_v, a_taken) := zz_mk (zz_up4 I)
  unfold wpX_waiter wpY_waiter; dsimp only
  obtain ⟨J, hYR⟩ := zz_IJ I
  obtain ⟨Z, hCK, hOP, hXR, hYR', ⟨l1, l2, l3, l4⟩, ⟨m1, m2, m3⟩, hWT, hMO⟩ := I
  have hPB := lr_PB Z
  have hL := lr_L4_32 Z l4
  have Z' := Z
  obtain ⟨z1, z2, z3, z4, z5, z6, z7, z8⟩ := Z
  rcases lr_arg v1 4 (by omega) with ⟨l, hl, rfl⟩ | hb
  rotate_left
  · exact xx_bL0 hb (br_f (by decide) (yy_bL0 hb (br_f (by decide) ⟨rfl, J0⟩)))
  refine xx_bL1 hl (br_t rfl (?_))
  have h4 := lr_WT_len z2 hWT
  obtain ⟨⟨w1, w2⟩, w3, w4, w5, w6⟩ := hWT
  obtain ⟨e1, e2⟩ := w6 l hl
  have hll := lr_LL_len WQ l
  by_cases c0 : v2 < 0
  · exact br_t c0 (yy_bL1 hl (br_t rfl ((br_t c0 ⟨rfl, J0⟩))))
  refine br_f c0 ?_
  obtain ⟨pl, hpl, rfl⟩ := nI_of c0
  by_cases c2 : pl ≤ 2
  · have c2' : nI pl ≤ (2 : Int32) := nI_le (b := 2) c2 (by omega)
    refine br_t c2' ⟨lr_v1 (by omega) (by omega), ?_⟩
    by_cases c3 : pl < (lr_LL WQ l).length
    · have hg : (lr_LL WQ l)[pl]? = some (lr_LL WQ l)[pl] := List.getElem?_eq_getElem c3
      refine br_t (by rw [lr_c1 (by omega), e1]; exact nI_lt c3 (by omega)) ⟨lr_v4 (by omega) (by omega), ?_⟩
      rw [lr_c4 (by omega), e2 pl _ hg]
      refine yy_bL1 hl (br_t rfl ((br_f c0 (br_t c2' ?_))))
      refine yy_findWaiter (WQ := WQ) hl (by omega) h4 w1 (fun i z hi => (w2 i z hi).2) (fun z hz => (w4 z hz).2.1) ?_ ?_
      · intro a z b hW hz hc
        have hat : WQ[a.length]? = some z := by rw [hW]; exact lr_spl_at
        have hlt := lr_at_lt hat
        refine br_t (nI_pos' (by omega)) ⟨lr_v1 (by omega) (by omega), ?_, J0⟩
        rw [lr_c1 (by omega), (w2 _ _ hat).1]
        have h5 : (lr_LL WQ l)[pl]? = some z.1 := by
          rw [hW, lr_LL_app, lr_LL_c1 hz, ← hc]; exact lr_spl_at
        rw [hg] at h5
        rw [Option.some.inj h5]
      · intro hc; omega
    · refine br_f (by rw [lr_c1 (by omega), e1]; exact nI_nlt (by omega) (by omega)) ?_
      refine yy_bL1 hl (br_t rfl ((br_f c0 (br_t c2' ?_))))
      refine yy_findWaiter (WQ := WQ) hl (by omega) h4 w1 (fun i z hi => (w2 i z hi).2) (fun z hz => (w4 z hz).2.1) ?_ ?_
      · intro a z b hW hz hc
        exfalso
        rw [hW, lr_LL_app, lr_LL_c1 hz, List.length_append, List.length_cons] at c3
        omega
      · intro _
        exact br_f (by decide) ⟨rfl, J0⟩
  · have c2' : ¬ nI pl ≤ (2 : Int32) := nI_ge (a := 2) (by omega) (by omega)
    exact br_f c2' (yy_bL1 hl (br_t rfl ((br_f c0 (br_f c2' ⟨rfl, J0⟩)))))

theorem i_vc_withdraw {k : Nat} {u : SX} {v : SY} (I : i_Rel k u v) (hk : k + 4 ≤ 2052) (v1 : Int32) : wpX_withdraw (fun r u' => wpY_withdraw (fun r' v' => r' = r ∧ i_Rel (k + 4) u' v') v v1) u v1 := by
  refine zz_el (Pr := fun u v => wpX_withdraw (fun r u' => wpY_withdraw (fun r' v' => r' = r ∧ i_Rel (k + 4) u' v') v v1) u v1) ?_ I
  clear I u v
  intro N P B R C D LC L Q WQ f_openPages f_openNodes f_freeSlotCount f_retained f_freeEntry f_entriesUsed f_episodeCount a_copy a_twin a_opened a_openCount a_queue a_queued a_fetchCount a_clocks a_dropped a_slots a_freeSlots a_stamps a_sums a_notices a_chain a_entryAddr a_entryValue a_entryNext a_mode a_holders a_line a_lineLength a_lockClocks a_target a_cursor a_floor f_queueLen f_recCount a_copies a_queueNode a_queueLock a_recNode a_recNum a_recStamp a_recNotice a_recDiff a_v a_taken I
  have J0 : i_Rel (k + 4) (nI N, nI P, nI B, nI R, nI (P * B), f_openPages, f_openNodes, f_freeSlotCount, f_retained, f_freeEntry, f_entriesUsed, f_episodeCount, a_copy, a_twin, a_opened, a_openCount, a_queue, a_queued, a_fetchCount, a_clocks, a_dropped, a_slots, a_freeSlots, a_stamps, a_sums, a_notices, a_chain, a_entryAddr, a_entryValue, a_entryNext, a_mode, a_holders, a_line, a_lineLength, a_lockClocks, a_target, a_cursor, a_floor) (nI N, nI P, nI B, nI R, f_queueLen, f_episodeCount, f_recCount, a_copies, a_twin, a_opened, a_queued, a_clocks, a_fetchCount, a_mode, a_holders, a_lockClocks, a_queueNode, a_queueLock, a_recNode, a_recNum, a_recStamp, a_recNotice, a_recDiff, a_v, a_taken) := zz_mk (zz_up4 I)
  unfold wpX_withdraw wpY_withdraw; dsimp only
  obtain ⟨J, hYR⟩ := zz_IJ I
  obtain ⟨Z, hCK, hOP, hXR, hYR', ⟨l1, l2, l3, l4⟩, ⟨m1, m2, m3⟩, hWT, hMO⟩ := I
  have hPB := lr_PB Z
  have hL := lr_L4_32 Z l4
  have Z' := Z
  obtain ⟨z1, z2, z3, z4, z5, z6, z7, z8⟩ := Z
  rcases lr_arg v1 N (by omega) with ⟨n, hn, rfl⟩ | hb
  rotate_left
  · exact xx_bN0 hb (br_f (by decide) (yy_bN0 hb (br_f (by decide) ⟨rfl, J0⟩)))
  refine xx_bN1 z2 hn (br_t rfl (?_))
  have hc1 : (nI n).toNatClampNeg = n := lr_c1 (by omega)
  refine ⟨lr_v1 (by omega) (by omega), ?_⟩
  by_cases c : a_mode n = 1
  · have h4 := lr_WT_len z2 hWT
    have hWT' := hWT
    obtain ⟨⟨w1, w2⟩, w3, w4, w5, w6⟩ := hWT
    obtain ⟨l0, hl0⟩ := w5 n hn c
    refine br_t (by rw [hc1]; exact c) (xx_withdrawL (WQ := WQ) (by omega) h4 (fun z hz => by have := (w4 z hz).1; omega) (w4 _ hl0).2.1 hl0 w6 ?_)
    intro l pl hl hpl
    obtain ⟨a, b, hW, hal⟩ := lr_LL_split hpl
    refine yy_bN1 z2 hn (br_t rfl (⟨lr_v1 (by omega) (by omega), br_t (by rw [hc1]; exact c) ?_⟩))
    refine yy_withdrawL (WQ := WQ) (by omega) h4 w1 (fun i z hi => (w2 i z hi).1) (fun z hz => by have := (w4 z hz).1; omega) ⟨(n, l0), hl0, rfl⟩ ?_
    intro a' z b' hW' hz
    subst hW
    obtain ⟨e1, e2, e3⟩ := lr_W1 w3 hW' hz
    subst e1 e2 e3
    refine ⟨rfl, zz_mk (WQ := a' ++ b') ⟨Z', zz_CK_up hCK (by omega), hOP, hXR, hYR, ⟨l1, l2, l3, l4⟩, ⟨m1, m2, m3⟩, ?_, ?_⟩⟩
    · subst hal
      exact lr_WT_rem z2 hl hWT'
    · intro n' p' hn' hp' hmd
      by_cases e : n' = n
      · subst e; rw [pk_us] at hmd; exact absurd rfl hmd
      · rw [pk_un e] at hmd; exact hMO n' p' hn' hp' hmd
  · refine br_f (by rw [hc1]; exact c) ?_
    exact yy_bN1 z2 hn (br_t rfl (⟨lr_v1 (by omega) (by omega), br_f (by rw [hc1]; exact c) ⟨rfl, J0⟩⟩))
end
section
/-! write, add -/

theorem i_vc_write {k : Nat} {u : SX} {v : SY} (I : i_Rel k u v) (hk : k + 4 ≤ 2052) (v1 : Int32) (v2 : Int32) (v3 : Int32) : wpX_write (fun r u' => wpY_write (fun r' v' => r' = r ∧ i_Rel (k + 4) u' v') v v1 v2 v3) u v1 v2 v3 := by
  refine zz_el (Pr := fun u v => wpX_write (fun r u' => wpY_write (fun r' v' => r' = r ∧ i_Rel (k + 4) u' v') v v1 v2 v3) u v1 v2 v3) ?_ I
  clear I u v
  intro N P B R C D LC L Q WQ f_openPages f_openNodes f_freeSlotCount f_retained f_freeEntry f_entriesUsed f_episodeCount a_copy a_twin a_opened a_openCount a_queue a_queued a_fetchCount a_clocks a_dropped a_slots a_freeSlots a_stamps a_sums a_notices a_chain a_entryAddr a_entryValue a_entryNext a_mode a_holders a_line a_lineLength a_lockClocks a_target a_cursor a_floor f_queueLen f_recCount a_copies a_queueNode a_queueLock a_recNode a_recNum a_recStamp a_recNotice a_recDiff a_v a_taken I
  have J0 : i_Rel (k + 4) (nI N, nI P, nI B, nI R, nI (P * B), f_openPages, f_openNodes, f_freeSlotCount, f_retained, f_freeEntry, f_entriesUsed, f_episodeCount, a_copy, a_twin, a_opened, a_openCount, a_queue, a_queued, a_fetchCount, a_clocks, a_dropped, a_slots, a_freeSlots, a_stamps, a_sums, a_notices, a_chain, a_entryAddr, a_entryValue, a_entryNext, a_mode, a_holders, a_line, a_lineLength, a_lockClocks, a_target, a_cursor, a_floor) (nI N, nI P, nI B, nI R, f_queueLen, f_episodeCount, f_recCount, a_copies, a_twin, a_opened, a_queued, a_clocks, a_fetchCount, a_mode, a_holders, a_lockClocks, a_queueNode, a_queueLock, a_recNode, a_recNum, a_recStamp, a_recNotice, a_recDiff, a_v, a_taken) := zz_mk (zz_up4 I)
  skip
  have I0 := I
  obtain ⟨Z, hCK, hOP, hXR, hYR, ⟨l1, l2, l3, l4⟩, ⟨m1, m2, m3⟩, hWT, hMO⟩ := I
  have hPB := lr_PB Z
  have hL := lr_L4_32 Z l4
  have Z' := Z
  obtain ⟨z1, z2, z3, z4, z5, z6, z7, z8⟩ := Z
  rcases lr_arg v1 N (by omega) with ⟨n, hn, rfl⟩ | hb
  rotate_left
  · unfold wpX_write wpX_prepareWrite wpY_write; dsimp only
    exact xx_bN0 hb (br_f (by decide) (br_f (by decide) (yy_bN0 hb (br_f (by decide) ⟨rfl, J0⟩))))
  rcases lr_arg v2 (P * B) (by omega) with ⟨a, ha, rfl⟩ | hb
  rotate_left
  · unfold wpX_write wpX_prepareWrite wpY_write; dsimp only
    exact xx_bN1 z2 hn (br_t rfl (xx_bA0 hb (br_f (by decide) (br_f (by decide) (yy_bN1 z2 hn (br_t rfl (yy_bA0 hb (br_f (by decide) ⟨rfl, J0⟩))))))))
  obtain ⟨g1, g2, g3⟩ := lr_pgof z5 ha
  have hU : lr_us (P * B) L ≤ 64 := by have := l4.2; omega
  have hwr4 := fun ho => (zz_wr4 I0 hn ha ho).1
  unfold wpX_write; dsimp only
  refine xx_pw Z' hL hOP hXR m1 m2 hn ha ?_ ?_ ?_ ?_ ?_
  · intro c
    refine br_f (by decide) ?_
    exact yy_wr Z' hn ha hL hU hYR hwr4 (fun _ => ⟨rfl, J0⟩) (fun c' => absurd c' c) (fun c' => absurd c' c) (fun c' => absurd c' c) (fun c' => absurd c' c)
  · intro c co
    refine br_t rfl ⟨lr_v32 (by omega) (by omega), nm_r (e' := upd a_copy (n * 32 + a) (v3 &&& 65535)) (by rw [lr_c32 (by omega)]) ?_⟩
    refine yy_wr Z' hn ha hL hU hYR hwr4 (fun c' => absurd c c') (fun _ _ => ?_) (fun _ co' => absurd co' co) (fun _ co' => absurd co' co) (fun _ co' => absurd co' co)
    exact ⟨rfl, zz_mk (zz_wr1 I0 hn ha co (lr_mask v3))⟩
  · intro c co c5
    refine br_f (by decide) ?_
    exact yy_wr Z' hn ha hL hU hYR hwr4 (fun c' => absurd c c') (fun _ co' => absurd co co') (fun _ _ _ => ⟨rfl, J0⟩) (fun _ _ c5' => absurd c5 c5') (fun _ _ c5' => absurd c5 c5')
  · intro c co c5 c6
    refine br_f (by decide) ?_
    exact yy_wr Z' hn ha hL hU hYR hwr4 (fun c' => absurd c c') (fun _ co' => absurd co co') (fun _ _ c5' => absurd c5' c5) (fun _ _ _ _ => ⟨rfl, J0⟩) (fun _ _ _ c6' => by omega)
  · intro c co c5 c6
    refine br_t rfl ⟨lr_v32 (by omega) (by omega), nm_r (e' := upd (lr_acc n (a / B * B) B (Q n (a / B)) a_copy) (n * 32 + a) (v3 &&& 65535)) (by rw [lr_c32 (by omega)]) ?_⟩
    refine yy_wr Z' hn ha hL hU hYR hwr4 (fun c' => absurd c c') (fun _ co' => absurd co co') (fun _ _ c5' => absurd c5' c5) (fun _ _ _ c6' => by omega) (fun _ _ _ _ => ?_)
    rw [(zz_wr3 I0 hn ha).1]
    exact ⟨rfl, zz_mk (zz_wr2 I0 hn ha c co (lr_mask v3) c5 c6)⟩

theorem i_vc_add {k : Nat} {u : SX} {v : SY} (I : i_Rel k u v) (hk : k + 4 ≤ 2052) (v1 : Int32) (v2 : Int32) (v3 : Int32) : wpX_add (fun r u' => wpY_add (fun r' v' => r' = r ∧ i_Rel (k + 4) u' v') v v1 v2 v3) u v1 v2 v3 := by
  refine zz_el (Pr := fun u v => wpX_add (fun r u' => wpY_add (fun r' v' => r' = r ∧ i_Rel (k + 4) u' v') v v1 v2 v3) u v1 v2 v3) ?_ I
  clear I u v
  intro N P B R C D LC L Q WQ f_openPages f_openNodes f_freeSlotCount f_retained f_freeEntry f_entriesUsed f_episodeCount a_copy a_twin a_opened a_openCount a_queue a_queued a_fetchCount a_clocks a_dropped a_slots a_freeSlots a_stamps a_sums a_notices a_chain a_entryAddr a_entryValue a_entryNext a_mode a_holders a_line a_lineLength a_lockClocks a_target a_cursor a_floor f_queueLen f_recCount a_copies a_queueNode a_queueLock a_recNode a_recNum a_recStamp a_recNotice a_recDiff a_v a_taken I
  have J0 : i_Rel (k + 4) (nI N, nI P, nI B, nI R, nI (P * B), f_openPages, f_openNodes, f_freeSlotCount, f_retained, f_freeEntry, f_entriesUsed, f_episodeCount, a_copy, a_twin, a_opened, a_openCount, a_queue, a_queued, a_fetchCount, a_clocks, a_dropped, a_slots, a_freeSlots, a_stamps, a_sums, a_notices, a_chain, a_entryAddr, a_entryValue, a_entryNext, a_mode, a_holders, a_line, a_lineLength, a_lockClocks, a_target, a_cursor, a_floor) (nI N, nI P, nI B, nI R, f_queueLen, f_episodeCount, f_recCount, a_copies, a_twin, a_opened, a_queued, a_clocks, a_fetchCount, a_mode, a_holders, a_lockClocks, a_queueNode, a_queueLock, a_recNode, a_recNum, a_recStamp, a_recNotice, a_recDiff, a_v, a_taken) := zz_mk (zz_up4 I)
  skip
  have I0 := I
  obtain ⟨Z, hCK, hOP, hXR, hYR, ⟨l1, l2, l3, l4⟩, ⟨m1, m2, m3⟩, hWT, hMO⟩ := I
  have hPB := lr_PB Z
  have hL := lr_L4_32 Z l4
  have Z' := Z
  obtain ⟨z1, z2, z3, z4, z5, z6, z7, z8⟩ := Z
  rcases lr_arg v1 N (by omega) with ⟨n, hn, rfl⟩ | hb
  rotate_left
  · unfold wpX_add wpX_prepareWrite wpY_add; dsimp only
    exact xx_bN0 hb (br_f (by decide) (br_f (by decide) (yy_bN0 hb (br_f (by decide) ⟨rfl, J0⟩))))
  rcases lr_arg v2 (P * B) (by omega) with ⟨a, ha, rfl⟩ | hb
  rotate_left
  · unfold wpX_add wpX_prepareWrite wpY_add; dsimp only
    exact xx_bN1 z2 hn (br_t rfl (xx_bA0 hb (br_f (by decide) (br_f (by decide) (yy_bN1 z2 hn (br_t rfl (yy_bA0 hb (br_f (by decide) ⟨rfl, J0⟩))))))))
  obtain ⟨g1, g2, g3⟩ := lr_pgof z5 ha
  have hU : lr_us (P * B) L ≤ 64 := by have := l4.2; omega
  have hwr4 := fun ho => (zz_wr4 I0 hn ha ho).1
  unfold wpX_add wpY_add; dsimp only
  refine xx_pw Z' hL hOP hXR m1 m2 hn ha ?_ ?_ ?_ ?_ ?_
  · intro c
    refine br_f (by decide) ?_
    refine yy_bN1 z2 hn (br_t rfl (yy_bA1 hPB ha (br_t rfl ⟨lr_v32 (by omega) (by omega), nm_r (e' := a_copies (n * 32 + a) + v3) (by rw [lr_c32 (by omega)]) ?_⟩)))
    exact yy_wr Z' hn ha hL hU hYR hwr4 (fun _ => br_f (by decide) ⟨rfl, J0⟩) (fun c' => absurd c' c) (fun c' => absurd c' c) (fun c' => absurd c' c) (fun c' => absurd c' c)
  · intro c co
    have h5 := (zz_wr4 I0 hn ha co).2
    have hc5 : (nI (n * 32 + a)).toNatClampNeg = n * 32 + a := lr_c1 (by omega)
    have hv5 : vp_in (nI (n * 32 + a)) 128 := lr_v1 (by omega) (by omega)
    refine br_t rfl (nm_r (lr_i32 n a) ⟨hv5, hv5, nm_r (e' := upd a_copy (n * 32 + a) ((a_copies (n * 32 + a) + v3) &&& 65535)) (by rw [hc5]; show upd a_copy (n * 32 + a) ((a_copy (n * 32 + a) + v3) &&& 65535) = _; rw [h5]) ⟨hv5, ?_⟩⟩)
    rw [hc5, pk_us]
    refine yy_bN1 z2 hn (br_t rfl (yy_bA1 hPB ha (br_t rfl ⟨lr_v32 (by omega) (by omega), nm_r (e' := a_copies (n * 32 + a) + v3) (by rw [lr_c32 (by omega)]) ?_⟩)))
    refine yy_wr Z' hn ha hL hU hYR hwr4 (fun c' => absurd c c') (fun _ _ => ?_) (fun _ co' => absurd co' co) (fun _ co' => absurd co' co) (fun _ co' => absurd co' co)
    refine br_t rfl ⟨lr_v32 (by omega) (by omega), ?_, zz_mk (zz_wr1 I0 hn ha co (lr_mask _))⟩
    rw [lr_c32 (by omega)]; exact pk_us
  · intro c co c5
    refine br_f (by decide) ?_
    refine yy_bN1 z2 hn (br_t rfl (yy_bA1 hPB ha (br_t rfl ⟨lr_v32 (by omega) (by omega), nm_r (e' := a_copies (n * 32 + a) + v3) (by rw [lr_c32 (by omega)]) ?_⟩)))
    exact yy_wr Z' hn ha hL hU hYR hwr4 (fun c' => absurd c c') (fun _ co' => absurd co co') (fun _ _ _ => br_f (by decide) ⟨rfl, J0⟩) (fun _ _ c5' => absurd c5 c5') (fun _ _ c5' => absurd c5 c5')
  · intro c co c5 c6
    refine br_f (by decide) ?_
    refine yy_bN1 z2 hn (br_t rfl (yy_bA1 hPB ha (br_t rfl ⟨lr_v32 (by omega) (by omega), nm_r (e' := a_copies (n * 32 + a) + v3) (by rw [lr_c32 (by omega)]) ?_⟩)))
    exact yy_wr Z' hn ha hL hU hYR hwr4 (fun c' => absurd c c') (fun _ co' => absurd co co') (fun _ _ c5' => absurd c5' c5) (fun _ _ _ _ => br_f (by decide) ⟨rfl, J0⟩) (fun _ _ _ c6' => by omega)
  · intro c co c5 c6
    have h5 := (zz_wr3 (a_twin := a_twin) I0 hn ha).2
    have hc5 : (nI (n * 32 + a)).toNatClampNeg = n * 32 + a := lr_c1 (by omega)
    have hv5 : vp_in (nI (n * 32 + a)) 128 := lr_v1 (by omega) (by omega)
    refine br_t rfl (nm_r (lr_i32 n a) ⟨hv5, hv5, nm_r (e' := upd (lr_acc n (a / B * B) B (Q n (a / B)) a_copy) (n * 32 + a) ((a_copies (n * 32 + a) + v3) &&& 65535)) (by rw [hc5]; show upd (lr_acc n (a / B * B) B (Q n (a / B)) a_copy) (n * 32 + a) ((lr_acc n (a / B * B) B (Q n (a / B)) a_copy (n * 32 + a) + v3) &&& 65535) = _; rw [h5]) ⟨hv5, ?_⟩⟩)
    rw [hc5, pk_us]
    refine yy_bN1 z2 hn (br_t rfl (yy_bA1 hPB ha (br_t rfl ⟨lr_v32 (by omega) (by omega), nm_r (e' := a_copies (n * 32 + a) + v3) (by rw [lr_c32 (by omega)]) ?_⟩)))
    refine yy_wr Z' hn ha hL hU hYR hwr4 (fun c' => absurd c c') (fun _ co' => absurd co co') (fun _ _ c5' => absurd c5' c5) (fun _ _ _ c6' => by omega) (fun _ _ _ _ => ?_)
    rw [(zz_wr3 I0 hn ha).1]
    refine br_t rfl ⟨lr_v32 (by omega) (by omega), ?_, zz_mk (zz_wr2 I0 hn ha c co (lr_mask _) c5 c6)⟩
    rw [lr_c32 (by omega)]; exact pk_us
end
section
/-! acquire -/

theorem i_vc_acquire {k : Nat} {u : SX} {v : SY} (I : i_Rel k u v) (hk : k + 4 ≤ 2052) (v1 : Int32) (v2 : Int32) : wpX_acquire (fun r u' => wpY_acquire (fun r' v' => r' = r ∧ i_Rel (k + 4) u' v') v v1 v2) u v1 v2 := by
  refine zz_el (Pr := fun u v => wpX_acquire (fun r u' => wpY_acquire (fun r' v' => r' = r ∧ i_Rel (k + 4) u' v') v v1 v2) u v1 v2) ?_ I
  clear I u v
  intro N P B R C D LC L Q WQ f_openPages f_openNodes f_freeSlotCount f_retained f_freeEntry f_entriesUsed f_episodeCount a_copy a_twin a_opened a_openCount a_queue a_queued a_fetchCount a_clocks a_dropped a_slots a_freeSlots a_stamps a_sums a_notices a_chain a_entryAddr a_entryValue a_entryNext a_mode a_holders a_line a_lineLength a_lockClocks a_target a_cursor a_floor f_queueLen f_recCount a_copies a_queueNode a_queueLock a_recNode a_recNum a_recStamp a_recNotice a_recDiff a_v a_taken I
  have J0 : i_Rel (k + 4) (nI N, nI P, nI B, nI R, nI (P * B), f_openPages, f_openNodes, f_freeSlotCount, f_retained, f_freeEntry, f_entriesUsed, f_episodeCount, a_copy, a_twin, a_opened, a_openCount, a_queue, a_queued, a_fetchCount, a_clocks, a_dropped, a_slots, a_freeSlots, a_stamps, a_sums, a_notices, a_chain, a_entryAddr, a_entryValue, a_entryNext, a_mode, a_holders, a_line, a_lineLength, a_lockClocks, a_target, a_cursor, a_floor) (nI N, nI P, nI B, nI R, f_queueLen, f_episodeCount, f_recCount, a_copies, a_twin, a_opened, a_queued, a_clocks, a_fetchCount, a_mode, a_holders, a_lockClocks, a_queueNode, a_queueLock, a_recNode, a_recNum, a_recStamp, a_recNotice, a_recDiff, a_v, a_taken) := zz_mk (zz_up4 I)
  unfold wpX_acquire wpY_acquire; dsimp only
  obtain ⟨J, hYR⟩ := zz_IJ I
  obtain ⟨Z, hCK, hOP, hXR, hYR', ⟨l1, l2, l3, l4⟩, ⟨m1, m2, m3⟩, hWT, hMO⟩ := I
  have hPB := lr_PB Z
  have hL := lr_L4_32 Z l4
  have Z' := Z
  obtain ⟨z1, z2, z3, z4, z5, z6, z7, z8⟩ := Z
  rcases lr_arg v1 N (by omega) with ⟨n, hn, rfl⟩ | hb
  rotate_left
  · exact xx_bN0 hb (br_f (by decide) (yy_bN0 hb (br_f (by decide) ⟨rfl, J0⟩)))
  rcases lr_arg v2 4 (by omega) with ⟨l, hl, rfl⟩ | hb
  rotate_left
  · exact xx_bN1 z2 hn (br_t rfl (xx_bL0 hb (br_f (by decide) (yy_bN1 z2 hn (br_t rfl (yy_bL0 hb (br_f (by decide) ⟨rfl, J0⟩)))))))
  refine xx_bN1 z2 hn (br_t rfl (xx_bL1 hl (br_t rfl (?_))))
  have hc1 : (nI n).toNatClampNeg = n := lr_c1 (by omega)
  have hcl : (nI l).toNatClampNeg = l := lr_c1 (by omega)
  have vn : vp_in (nI n) 4 := lr_v1 (by omega) (by omega)
  have vl : vp_in (nI l) 4 := lr_v1 (by omega) (by omega)
  refine ⟨vn, ?_⟩
  by_cases c : a_mode n = 0
  · refine br_t (by rw [hc1]; exact c) ⟨vl, ?_⟩
    by_cases ch : a_holders l = nI n
    · refine br_t (by rw [hcl]; exact ch) ?_
      exact yy_bN1 z2 hn (br_t rfl (yy_bL1 hl (br_t rfl (⟨vn, br_t (by rw [hc1]; exact c) ⟨vl, br_t (by rw [hcl]; exact ch) ⟨rfl, J0⟩⟩⟩))))
    · refine br_f (by rw [hcl]; exact ch) (zz_end (f_episodeCount := f_episodeCount) (a_holders := a_holders) (a_twin := a_twin) (a_v := a_v) (a_taken := a_taken) J hYR hn hk ?_)
      intro C' L' fop' fon' fsc' ret' fe' eu' op' oc' cl' sl' st' sm' no' ch' ea' ev' nx' J1 hon hYend
      dsimp only
      by_cases cg : 0 ≤ a_holders l
      · have h3 := lr_WT_len3 z2 hn c hWT
        obtain ⟨⟨w1, w2⟩, w3, w4, w5, w6⟩ := hWT
        have hg := lr_LL_len WQ l
        have ell : a_lineLength (nI l).toNatClampNeg = nI (lr_LL WQ l).length := by rw [hcl, (w6 l hl).1]
        refine ⟨vl, br_t (by rw [hcl]; exact cg) ⟨vl, by rw [ell]; exact lr_v4 (by omega) (by omega), nm_r (e' := upd a_line (l * 4 + (lr_LL WQ l).length) (nI n)) (by rw [ell, lr_c4 (by omega)]) ⟨vl, vl, nm_r (e' := upd a_lineLength l (nI ((lr_LL WQ l).length + 1))) (by rw [ell, hcl, nI_1]) ⟨vn, nm_r (e' := upd a_mode n 1) (by rw [hc1]) ?_⟩⟩⟩⟩
        refine yy_bN1 z2 hn (br_t rfl (yy_bL1 hl (br_t rfl (⟨vn, br_t (by rw [hc1]; exact c) ⟨vl, br_f (by rw [hcl]; exact ch) (hYend _ ?_)⟩⟩))))
        intro rc' rnd' rnm' rs' rno' rdf' hY'
        dsimp only
        have vq : vp_in f_queueLen 4 := by rw [w1]; exact lr_v1 (by omega) (by omega)
        have cq : f_queueLen.toNatClampNeg = WQ.length := by rw [w1]; exact lr_c1 (by omega)
        refine ⟨vl, br_t (by rw [hcl]; exact cg) ⟨vq, nm_r (e' := upd a_queueNode WQ.length (nI n)) (by rw [cq]) ⟨vq, nm_r (e' := upd a_queueLock WQ.length (nI l)) (by rw [cq]) (nm_r (e' := nI (WQ.length + 1)) (by rw [w1, nI_1]) ⟨vn, nm_r (e' := upd a_mode n 1) (by rw [hc1]) ?_⟩)⟩⟩⟩
        obtain ⟨Z1, hCK1, hOP1, hXR1, hLL1, hM1, hWT1, hMO1⟩ := J1
        refine ⟨rfl, zz_mk (C := C') (L := L') (WQ := WQ ++ [(n, l)]) (zz_JI ⟨Z1, zz_CK_up hCK1 (by omega), hOP1, hXR1, hLL1, hM1, lr_WT_add z2 hn hl c hWT1, ?_⟩ hY')⟩
        intro n' p' hn' hp' hmd
        by_cases e : n' = n
        · subst e; exact lr_on0 hon hp'
        · rw [pk_un e] at hmd; exact hMO1 n' p' hn' hp' hmd
      · have em : upd a_mode n 0 = a_mode := by
          funext i
          by_cases e : i = n
          · subst e; rw [pk_us, c]
          · rw [pk_un e]
        refine ⟨vl, br_f (by rw [hcl]; exact cg) (zz_grant (by rw [em]; exact J1) hl hn (by omega) hon ?_)⟩
        intro C2 Q2 cps2 qu2 qd2 cl2 cu2 tg2 J3 hYg
        refine yy_bN1 z2 hn (br_t rfl (yy_bL1 hl (br_t rfl (⟨vn, br_t (by rw [hc1]; exact c) ⟨vl, br_f (by rw [hcl]; exact ch) (hYend _ ?_)⟩⟩))))
        intro rc' rnd' rnm' rs' rno' rdf' hY'
        dsimp only
        refine ⟨vl, br_f (by rw [hcl]; exact cg) (hYg _ _ _ _ _ _ _ _ _ _ _ _ _ _ _ _ _ hY' ?_)⟩
        intro v' tk'
        exact ⟨rfl, zz_mk (zz_JI (zz_Jup J3 (by omega)) hY')⟩
  · refine br_f (by rw [hc1]; exact c) ?_
    exact yy_bN1 z2 hn (br_t rfl (yy_bL1 hl (br_t rfl (⟨vn, br_f (by rw [hc1]; exact c) ⟨rfl, J0⟩⟩))))
end
section
/-! release -/

theorem i_vc_release {k : Nat} {u : SX} {v : SY} (I : i_Rel k u v) (hk : k + 4 ≤ 2052) (v1 : Int32) (v2 : Int32) : wpX_release (fun r u' => wpY_release (fun r' v' => r' = r ∧ i_Rel (k + 4) u' v') v v1 v2) u v1 v2 := by
  refine zz_el (Pr := fun u v => wpX_release (fun r u' => wpY_release (fun r' v' => r' = r ∧ i_Rel (k + 4) u' v') v v1 v2) u v1 v2) ?_ I
  clear I u v
  intro N P B R C D LC L Q WQ f_openPages f_openNodes f_freeSlotCount f_retained f_freeEntry f_entriesUsed f_episodeCount a_copy a_twin a_opened a_openCount a_queue a_queued a_fetchCount a_clocks a_dropped a_slots a_freeSlots a_stamps a_sums a_notices a_chain a_entryAddr a_entryValue a_entryNext a_mode a_holders a_line a_lineLength a_lockClocks a_target a_cursor a_floor f_queueLen f_recCount a_copies a_queueNode a_queueLock a_recNode a_recNum a_recStamp a_recNotice a_recDiff a_v a_taken I
  have J0 : i_Rel (k + 4) (nI N, nI P, nI B, nI R, nI (P * B), f_openPages, f_openNodes, f_freeSlotCount, f_retained, f_freeEntry, f_entriesUsed, f_episodeCount, a_copy, a_twin, a_opened, a_openCount, a_queue, a_queued, a_fetchCount, a_clocks, a_dropped, a_slots, a_freeSlots, a_stamps, a_sums, a_notices, a_chain, a_entryAddr, a_entryValue, a_entryNext, a_mode, a_holders, a_line, a_lineLength, a_lockClocks, a_target, a_cursor, a_floor) (nI N, nI P, nI B, nI R, f_queueLen, f_episodeCount, f_recCount, a_copies, a_twin, a_opened, a_queued, a_clocks, a_fetchCount, a_mode, a_holders, a_lockClocks, a_queueNode, a_queueLock, a_recNode, a_recNum, a_recStamp, a_recNotice, a_recDiff, a_v, a_taken) := zz_mk (zz_up4 I)
  unfold wpX_release wpY_release; dsimp only
  obtain ⟨J, hYR⟩ := zz_IJ I
  obtain ⟨Z, hCK, hOP, hXR, hYR', ⟨l1, l2, l3, l4⟩, ⟨m1, m2, m3⟩, hWT, hMO⟩ := I
  have hPB := lr_PB Z
  have hL := lr_L4_32 Z l4
  have Z' := Z
  obtain ⟨z1, z2, z3, z4, z5, z6, z7, z8⟩ := Z
  rcases lr_arg v1 N (by omega) with ⟨n, hn, rfl⟩ | hb
  rotate_left
  · exact xx_bN0 hb (br_f (by decide) (yy_bN0 hb (br_f (by decide) ⟨rfl, J0⟩)))
  rcases lr_arg v2 4 (by omega) with ⟨l, hl, rfl⟩ | hb
  rotate_left
  · exact xx_bN1 z2 hn (br_t rfl (xx_bL0 hb (br_f (by decide) (yy_bN1 z2 hn (br_t rfl (yy_bL0 hb (br_f (by decide) ⟨rfl, J0⟩)))))))
  refine xx_bN1 z2 hn (br_t rfl (xx_bL1 hl (br_t rfl (?_))))
  have hc1 : (nI n).toNatClampNeg = n := lr_c1 (by omega)
  have hcl : (nI l).toNatClampNeg = l := lr_c1 (by omega)
  have vn : vp_in (nI n) 4 := lr_v1 (by omega) (by omega)
  have vl : vp_in (nI l) 4 := lr_v1 (by omega) (by omega)
  refine ⟨vn, ?_⟩
  by_cases c : a_mode n = 0
  rotate_left
  · refine br_f (by rw [hc1]; exact c) ?_
    exact yy_bN1 z2 hn (br_t rfl (yy_bL1 hl (br_t rfl (⟨vn, br_f (by rw [hc1]; exact c) ⟨rfl, J0⟩⟩))))
  refine br_t (by rw [hc1]; exact c) ⟨vl, ?_⟩
  by_cases ch : a_holders l = nI n
  rotate_left
  · refine br_f (by rw [hcl]; exact ch) ?_
    exact yy_bN1 z2 hn (br_t rfl (yy_bL1 hl (br_t rfl (⟨vn, br_t (by rw [hc1]; exact c) ⟨vl, br_f (by rw [hcl]; exact ch) ⟨rfl, J0⟩⟩⟩))))
  refine br_t (by rw [hcl]; exact ch) (zz_end (f_episodeCount := f_episodeCount) (a_holders := a_holders) (a_twin := a_twin) (a_v := a_v) (a_taken := a_taken) J hYR hn hk ?_)
  intro C' L' fop' fon' fsc' ret' fe' eu' op' oc' cl' sl' st' sm' no' ch' ea' ev' nx' J1 hon hYend
  dsimp only
  obtain ⟨Z1, hCK1, hOP1, hXR1, hLL1, hM1, hWT1, hMO1⟩ := J1
  have h4 := lr_WT_len z2 hWT1
  have hCK2 : lr_CK (k + 4) N C' D (fun l' m => if l' = l then C' n m else LC l' m) cl' a_dropped (lr_nt l n N cl' a_lockClocks) := by
    have hCK3 := zz_CK_up (k' := k + 4) hCK1 (by omega)
    refine ⟨hCK3.1, hCK3.2.1, ?_⟩
    intro l' m hl' hm
    by_cases e : l' = l
    · subst e
      rw [lr_nt_at z2 hm]
      show _ = nI (if l' = l' then C' n m else LC l' m) ∧ (if l' = l' then C' n m else LC l' m) ≤ _
      rw [if_pos rfl]
      exact ⟨(hCK1.1 n m hn hm).1, (hCK1.1 n m hn hm).2.1⟩
    · rw [lr_nt_ne (by omega)]
      show _ = nI (if l' = l then C' n m else LC l' m) ∧ (if l' = l then C' n m else LC l' m) ≤ _
      rw [if_neg e]
      exact hCK1.2.2 l' m hl' hm
  obtain ⟨⟨w1, w2⟩, w3, w4, w5, w6⟩ := hWT1
  have hg := lr_LL_len WQ l
  refine xx_release50 z2 hn hl (fun f => br_t (nI_le (Nat.le_refl _) (by omega)) ⟨vl, ?_⟩)
  have ell : a_lineLength (nI l).toNatClampNeg = nI (lr_LL WQ l).length := by rw [hcl, (w6 l hl).1]
  by_cases ce : (lr_LL WQ l).length = 0
  · refine br_t (by rw [ell, ce]; rfl) ⟨vl, nm_r (e' := upd a_holders l (-1)) (by rw [hcl]) ?_⟩
    refine yy_bN1 z2 hn (br_t rfl (yy_bL1 hl (br_t rfl (⟨vn, br_t (by rw [hc1]; exact c) ⟨vl, br_t (by rw [hcl]; exact ch) (hYend _ ?_)⟩⟩))))
    intro rc' rnd' rnm' rs' rno' rdf' hY'
    dsimp only
    refine yy_release52 z2 hn hl (fun f => br_t (nI_le (Nat.le_refl _) (by omega)) ?_)
    refine yy_findWaiter (WQ := WQ) (pl := 0) hl (by omega) h4 w1 (fun i z hi => (w2 i z hi).2) (fun z hz => (w4 z hz).2.1) ?_ ?_
    · intro a z b hW hz hc
      exfalso
      rw [hW, lr_LL_app, lr_LL_c1 hz, List.length_append, List.length_cons] at ce
      omega
    · intro _
      refine br_f (by decide) ⟨vl, nm_r (e' := upd a_holders l (-1)) (by rw [hcl]) ⟨rfl, zz_mk (C := C') (L := L') (zz_JI ⟨Z1, hCK2, hOP1, hXR1, hLL1, hM1, ⟨⟨w1, w2⟩, w3, w4, w5, w6⟩, hMO1⟩ hY')⟩⟩
  · have hg0 : (lr_LL WQ l)[0]? = some (lr_LL WQ l)[0] := List.getElem?_eq_getElem (by omega)
    obtain ⟨a, b, hW, hal⟩ := lr_LL_split hg0
    generalize hf : (lr_LL WQ l)[0] = f1 at hg0 hW
    have hfm : (f1, l) ∈ WQ := by rw [hW]; simp
    have hfN := (w4 _ hfm).1
    have hfmd : a_mode f1 = 1 := (w4 _ hfm).2.2
    have hfN' : f1 < N := hfN
    have hlast : (lr_LL WQ l).length - 1 + 1 = (lr_LL WQ l).length := by omega
    refine br_f (by rw [ell]; exact nI_ne0 (by omega) (by omega)) ⟨by rw [lr_m4]; exact lr_v1 (by omega) (by omega), nm_r (e' := nI f1) (by rw [lr_m4, lr_c1 (by omega)]; exact (w6 l hl).2 0 f1 hg0) ?_⟩
    refine xx_leaveLine (pl := 0) (last := (lr_LL WQ l).length - 1) hl (by omega) (by omega) (by rw [(w6 l hl).1, hlast]) ?_
    have hfo : ∀ p, p < P → op' (f1 * 4 + p) = 0 := fun p hp => hMO1 f1 p hfN' hp (by rw [hfmd]; decide)
    have honf : lr_on op' P f1 = 0 := lr_sum_z (fun p hp => lr_bit0 (hfo p hp))
    have hWTr : lr_WT N (a ++ b) (upd a_mode f1 0) (lr_sh l 0 ((lr_LL WQ l).length - 1) a_line) (upd a_lineLength l (nI ((lr_LL WQ l).length - 1))) (lr_sq a.length (WQ.length - 1) a_queueNode) (lr_sq a.length (WQ.length - 1) a_queueLock) (nI (WQ.length - 1)) := by
      have hWT2 : lr_WT N (a ++ (f1, l) :: b) a_mode a_line a_lineLength a_queueNode a_queueLock f_queueLen := by rw [← hW]; exact ⟨⟨w1, w2⟩, w3, w4, w5, w6⟩
      have h7 := lr_WT_rem z2 hl hWT2
      rw [hal, ← hW] at h7
      exact h7
    refine zz_grant (WQ := a ++ b) (f_queueLen := nI (WQ.length - 1)) (a_queueNode := lr_sq a.length (WQ.length - 1) a_queueNode) (a_queueLock := lr_sq a.length (WQ.length - 1) a_queueLock) ⟨Z1, hCK2, hOP1, hXR1, hLL1, hM1, hWTr, ?_⟩ hl hfN' (by omega) honf ?_
    · intro n' p' hn' hp' hmd
      by_cases e : n' = f1
      · subst e; exact hfo p' hp'
      · rw [pk_un e] at hmd; exact hMO1 n' p' hn' hp' hmd
    intro C2 Q2 cps2 qu2 qd2 cl2 cu2 tg2 J3 hYg
    refine yy_bN1 z2 hn (br_t rfl (yy_bL1 hl (br_t rfl (⟨vn, br_t (by rw [hc1]; exact c) ⟨vl, br_t (by rw [hcl]; exact ch) (hYend _ ?_)⟩⟩))))
    intro rc' rnd' rnm' rs' rno' rdf' hY'
    dsimp only
    refine yy_release52 z2 hn hl (fun f => br_t (nI_le (Nat.le_refl _) (by omega)) ?_)
    refine yy_findWaiter (WQ := WQ) (pl := 0) hl (by omega) h4 w1 (fun i z hi => (w2 i z hi).2) (fun z hz => (w4 z hz).2.1) ?_ ?_
    · intro a' z b' hW' hz hc
      have hzf : z.1 = f1 := by
        have h5 : (lr_LL WQ l)[0]? = some z.1 := by
          rw [hW', lr_LL_app, lr_LL_c1 hz, ← hc]; exact lr_spl_at
        rw [hg0] at h5
        exact (Option.some.inj h5).symm
      have hnd : ((a ++ (f1, l) :: b).map Prod.fst).Nodup := by rw [← hW]; exact w3
      obtain ⟨e1, e2, e3⟩ := lr_W1 hnd (hW.symm.trans hW') hzf
      subst e1 e2 e3
      have hat : WQ[a'.length]? = some (f1, l) := by rw [hW]; exact lr_spl_at
      have hlt := lr_at_lt hat
      refine br_t (nI_pos' (by omega)) ⟨lr_v1 (by omega) (by omega), nm_r (e' := nI f1) (by rw [lr_c1 (by omega), (w2 _ _ hat).1]) ?_⟩
      refine yy_unqueue (m := WQ.length - 1) (by omega) (by omega) (by rw [w1]; exact congrArg nI (by omega)) ?_
      refine hYg _ _ _ _ _ _ _ _ _ _ _ _ _ _ _ _ _ hY' ?_
      intro v' tk'
      exact ⟨rfl, zz_mk (zz_JI J3 hY')⟩
    · intro hc; omega
end
section
/-! barrier -/

theorem i_vc_barrier {k : Nat} {u : SX} {v : SY} (I : i_Rel k u v) (hk : k + 4 ≤ 2052) (v1 : Int32) : wpX_barrier (fun r u' => wpY_barrier (fun r' v' => r' = r ∧ i_Rel (k + 4) u' v') v v1) u v1 := by
  refine zz_el (Pr := fun u v => wpX_barrier (fun r u' => wpY_barrier (fun r' v' => r' = r ∧ i_Rel (k + 4) u' v') v v1) u v1) ?_ I
  clear I u v
  intro N P B R C D LC L Q WQ f_openPages f_openNodes f_freeSlotCount f_retained f_freeEntry f_entriesUsed f_episodeCount a_copy a_twin a_opened a_openCount a_queue a_queued a_fetchCount a_clocks a_dropped a_slots a_freeSlots a_stamps a_sums a_notices a_chain a_entryAddr a_entryValue a_entryNext a_mode a_holders a_line a_lineLength a_lockClocks a_target a_cursor a_floor f_queueLen f_recCount a_copies a_queueNode a_queueLock a_recNode a_recNum a_recStamp a_recNotice a_recDiff a_v a_taken I
  have J0 : i_Rel (k + 4) (nI N, nI P, nI B, nI R, nI (P * B), f_openPages, f_openNodes, f_freeSlotCount, f_retained, f_freeEntry, f_entriesUsed, f_episodeCount, a_copy, a_twin, a_opened, a_openCount, a_queue, a_queued, a_fetchCount, a_clocks, a_dropped, a_slots, a_freeSlots, a_stamps, a_sums, a_notices, a_chain, a_entryAddr, a_entryValue, a_entryNext, a_mode, a_holders, a_line, a_lineLength, a_lockClocks, a_target, a_cursor, a_floor) (nI N, nI P, nI B, nI R, f_queueLen, f_episodeCount, f_recCount, a_copies, a_twin, a_opened, a_queued, a_clocks, a_fetchCount, a_mode, a_holders, a_lockClocks, a_queueNode, a_queueLock, a_recNode, a_recNum, a_recStamp, a_recNotice, a_recDiff, a_v, a_taken) := zz_mk (zz_up4 I)
  unfold wpX_barrier wpY_barrier; dsimp only
  obtain ⟨J, hYR⟩ := zz_IJ I
  obtain ⟨Z, hCK, hOP, hXR, hYR', ⟨l1, l2, l3, l4⟩, ⟨m1, m2, m3⟩, hWT, hMO⟩ := I
  have hPB := lr_PB Z
  have hL := lr_L4_32 Z l4
  have Z' := Z
  obtain ⟨z1, z2, z3, z4, z5, z6, z7, z8⟩ := Z
  rcases lr_arg v1 N (by omega) with ⟨n, hn, rfl⟩ | hb
  rotate_left
  · exact xx_bN0 hb (br_f (by decide) (yy_bN0 hb (br_f (by decide) ⟨rfl, J0⟩)))
  refine xx_bN1 z2 hn (br_t rfl (?_))
  have hc1 : (nI n).toNatClampNeg = n := lr_c1 (by omega)
  have vn : vp_in (nI n) 4 := lr_v1 (by omega) (by omega)
  refine ⟨vn, ?_⟩
  by_cases c : a_mode n = 0
  rotate_left
  · refine br_f (by rw [hc1]; exact c) ?_
    exact yy_bN1 z2 hn (br_t rfl (⟨vn, br_f (by rw [hc1]; exact c) ⟨rfl, J0⟩⟩))
  refine br_t (by rw [hc1]; exact c) (zz_end (f_episodeCount := f_episodeCount) (a_holders := a_holders) (a_twin := a_twin) (a_v := a_v) (a_taken := a_taken) J hYR hn hk ?_)
  intro C' L' fop' fon' fsc' ret' fe' eu' op' oc' cl' sl' st' sm' no' ch' ea' ev' nx' J1 hon hYend
  dsimp only
  refine ⟨vn, nm_r (e' := upd a_mode n 2) (by rw [hc1]) ?_⟩
  obtain ⟨Z1, hCK1, hOP1, hXR1, hLL1, hM1, hWT1, hMO1⟩ := J1
  have hWT2 : lr_WT N WQ (upd a_mode n 2) a_line a_lineLength a_queueNode a_queueLock f_queueLen := by
    refine lr_WT_md hWT1 ?_
    intro n' hn'
    by_cases e : n' = n
    · subst e
      rw [pk_us, c]
      constructor
      · intro h; exact absurd h (by decide)
      · intro h; exact absurd h (by decide)
    · rw [pk_un e]
  have hMO2 : lr_MO N P (upd a_mode n 2) op' := by
    intro n' p' hn' hp' hmd
    by_cases e : n' = n
    · subst e; exact lr_on0 hon hp'
    · rw [pk_un e] at hmd; exact hMO1 n' p' hn' hp' hmd
  have J2 : zz_J (k + 1) N P B R C' D LC L' Q WQ fop' fon' fsc' ret' fe' eu' a_copy op' oc' a_queue a_queued cl' a_dropped sl' a_freeSlots st' sm' no' ch' ea' ev' nx' (upd a_mode n 2) a_line a_lineLength a_lockClocks f_queueLen a_copies a_queueNode a_queueLock := ⟨Z1, hCK1, hOP1, hXR1, hLL1, hM1, hWT2, hMO2⟩
  refine xx_bar36 z2 ?_ ?_
  · intro m hm hmd
    refine yy_bN1 z2 hn (br_t rfl (⟨vn, br_t (by rw [hc1]; exact c) (hYend _ ?_)⟩))
    intro rc' rnd' rnm' rs' rno' rdf' hY'
    dsimp only
    refine ⟨vn, nm_r (e' := upd a_mode n 2) (by rw [hc1]) (yy_bar36 z2 ?_ ?_)⟩
    · intro m' hm' hmd'
      exact ⟨rfl, zz_mk (zz_JI (zz_Jup J2 (by omega)) hY')⟩
    · intro hall
      exact absurd (hall m hm) hmd
  · intro hall f
    have honA : ∀ m, m < N → lr_on op' P m = 0 := fun m hm => lr_sum_z (fun p hp => lr_bit0 (hMO2 m p hm hp (by rw [hall m hm]; decide)))
    refine br_t (nI_le (Nat.le_refl _) (by omega)) (xx_bar2 (T := fun m => C' m m) z2 (fun m hm => (hCK1.1 m m hm hm).1) ?_)
    intro tg htg
    refine ⟨_, zz_bar (T := fun m => C' m m) (f_episodeCount := f_episodeCount) (a_twin := a_twin) (a_fetchCount := a_fetchCount) (a_holders := a_holders) (by omega) htg honA N 0 (by omega) C' Q a_copies a_queue a_queued cl' a_cursor J2 (fun m _ => rfl) ?_⟩
    intro C3 Q3 cps3 qu3 qd3 cl3 cu3 J3 hC3 hYb
    refine xx_bar55 z2 ?_
    refine yy_bN1 z2 hn (br_t rfl (⟨vn, br_t (by rw [hc1]; exact c) (hYend _ ?_)⟩))
    intro rc' rnd' rnm' rs' rno' rdf' hY'
    dsimp only
    refine ⟨vn, nm_r (e' := upd a_mode n 2) (by rw [hc1]) (yy_bar36 z2 ?_ ?_)⟩
    · intro m hm hmd
      exact absurd (hall m hm) hmd
    · intro _ f2
      refine br_t (nI_le (Nat.le_refl _) (by omega)) ⟨_, hYb _ _ _ _ _ _ _ a_v a_taken hY' ?_⟩
      intro v' tk' f3
      refine br_t (nI_le (Nat.le_refl _) (by omega)) (yy_bar117 z2 ⟨rfl, ?_⟩)
      obtain ⟨Z4, hCK4, hOP4, hXR4, hLL4, hM4, hWT4, hMO4⟩ := J3
      refine zz_mk (zz_JI ⟨Z4, zz_CK_up hCK4 (by omega), hOP4, hXR4, hLL4, hM4, lr_WT_md hWT4 ?_, ?_⟩ hY')
      · intro n' hn'
        rw [lr_m0_at hn', hall n' hn']
        constructor
        · intro h; exact absurd h (by decide)
        · intro h; exact absurd h (by decide)
      · intro n' p' hn' hp' hmd
        rw [lr_m0_at hn'] at hmd
        exact absurd rfl hmd
end
section
/-! collect -/
theorem lr_us_dp {A : Nat} {f : Nat → Nat} {L : List lr_R} : lr_us A (lr_dp f L) ≤ lr_us A L := by
  induction L with
  | nil => exact Nat.le_refl _
  | cons q L ih =>
    unfold lr_us lr_dp at *
    by_cases h : f (lr_n q) < lr_k q
    · rw [List.filter_cons_of_pos (by simpa using h), List.map_cons, List.map_cons, List.sum_cons, List.sum_cons]; omega
    · rw [List.filter_cons_of_neg (by simpa using h), List.map_cons, List.sum_cons]; omega
section
variable {N P B R : Nat} {f_openPages f_openNodes f_freeSlotCount f_retained f_freeEntry f_entriesUsed f_episodeCount : Int32} {a_copy a_twin a_opened a_openCount a_queue a_queued a_fetchCount a_clocks a_dropped a_slots a_freeSlots a_stamps a_sums a_notices a_chain a_entryAddr a_entryValue a_entryNext a_mode a_holders a_line a_lineLength a_lockClocks a_target a_cursor a_floor : Nat → Int32}
variable {k : Nat} {C LC : Nat → Nat → Nat} {D : Nat → Nat} {L : List lr_R} {Q : Nat → Nat → List lr_R} {WQ : List (Nat × Nat)}
variable {f_queueLen f_recCount : Int32} {a_copies a_queueNode a_queueLock a_recNode a_recNum a_recStamp a_recNotice a_recDiff a_v a_taken : Nat → Int32}
theorem zz_J_coll {Q' : Nat → Nat → List lr_R} {cp' qd' fs' no' ch' nx' dr' : Nat → Int32} {fsc' ret' fe' eu' : Int32} (J : zz_J k N P B R C D LC L Q' WQ f_openPages f_openNodes f_freeSlotCount f_retained f_freeEntry f_entriesUsed cp' a_opened a_openCount a_queue qd' a_clocks a_dropped a_slots a_freeSlots a_stamps a_sums a_notices a_chain a_entryAddr a_entryValue a_entryNext a_mode a_line a_lineLength a_lockClocks f_queueLen a_copies a_queueNode a_queueLock) (hE : lr_em N P Q' N 0)
    (X : lr_XR N P B (lr_dp (fun m => lr_ml C m N) L) fsc' ret' fe' eu' a_slots fs' a_stamps a_sums no' ch' a_entryAddr a_entryValue nx') (hdr : ∀ m, m < N → dr' m = nI (lr_ml C m N)) :
    zz_J (k + 4) N P B R C ((fun m => lr_ml C m N)) LC (lr_dp (fun m => lr_ml C m N) L) Q' WQ f_openPages f_openNodes fsc' ret' fe' eu' cp' a_opened a_openCount a_queue qd' a_clocks dr' a_slots fs' a_stamps a_sums no' ch' a_entryAddr a_entryValue nx' a_mode a_line a_lineLength a_lockClocks f_queueLen a_copies a_queueNode a_queueLock := by
  obtain ⟨Z, hCK, hOP, hXR, ⟨l1, l2, l3, l4⟩, ⟨m1, m2, m3⟩, hWT, hMO⟩ := J
  have hsub : ∀ q, q ∈ lr_dp (fun m => lr_ml C m N) L → q ∈ L := fun q hq => (lr_dp_mem.mp hq).1
  have hlen := lr_dp_len (f := fun m => lr_ml C m N) (L := L)
  have hus := lr_us_dp (A := P * B) (f := fun m => lr_ml C m N) (L := L)
  refine ⟨Z, ⟨?_, hdr, hCK.2.2⟩, hOP, X, ⟨⟨?_, ?_, ?_⟩, ⟨fun q hq => l2.1 q (hsub q hq), fun a b ha hb => l2.2 a b (hsub a ha) (hsub b hb)⟩, fun q p hq => l3 q p (hsub q hq), ?_, ?_⟩, ⟨?_, m2, m3⟩, hWT, hMO⟩
  · intro n m hn hm
    obtain ⟨h1, h2, h3, h4⟩ := hCK.1 n m hn hm
    exact ⟨h1, h2, (lr_ml_le (C := C) (m := m) (N := N)).2 n hn, by omega⟩
  · intro q hq
    obtain ⟨h1, h2⟩ := lr_dp_mem.mp hq
    obtain ⟨g1, g2, g3⟩ := l1.1 q h1
    exact ⟨g1, h2, g3⟩
  · intro m k0 hm h1 h2
    have hD : D m ≤ lr_ml C m N := lr_ml_ge (hCK.1 m m hm hm).2.2.1 (fun n hn => (hCK.1 n m hn hm).2.2.1)
    have h1' : lr_ml C m N < k0 := h1
    obtain ⟨q, g1, g2, g3⟩ := l1.2.1 m k0 hm (by omega) h2
    exact ⟨q, lr_dp_mem.mpr ⟨g1, by rw [g2, g3]; exact h1'⟩, g2, g3⟩
  · exact List.Nodup.sublist (List.Sublist.map _ List.filter_sublist) l1.2.2
  · have := l4.1; omega
  · have := l4.2; omega
  · intro n p hn hp
    obtain ⟨h1, h2, h3, h4⟩ := m1 n p hn hp
    have hq := hE n p hn hp (Or.inl hn)
    refine ⟨h1, ?_, h3, h4⟩
    intro q hqq
    rw [hq] at hqq
    cases hqq
end

theorem i_vc_collect {k : Nat} {u : SX} {v : SY} (I : i_Rel k u v) (hk : k + 4 ≤ 2052) : wpX_collect (fun r u' => wpY_collect (fun r' v' => r' = r ∧ i_Rel (k + 4) u' v') v) u := by
  refine zz_el (Pr := fun u v => wpX_collect (fun r u' => wpY_collect (fun r' v' => r' = r ∧ i_Rel (k + 4) u' v') v) u) ?_ I
  clear I u v
  intro N P B R C D LC L Q WQ f_openPages f_openNodes f_freeSlotCount f_retained f_freeEntry f_entriesUsed f_episodeCount a_copy a_twin a_opened a_openCount a_queue a_queued a_fetchCount a_clocks a_dropped a_slots a_freeSlots a_stamps a_sums a_notices a_chain a_entryAddr a_entryValue a_entryNext a_mode a_holders a_line a_lineLength a_lockClocks a_target a_cursor a_floor f_queueLen f_recCount a_copies a_queueNode a_queueLock a_recNode a_recNum a_recStamp a_recNotice a_recDiff a_v a_taken I
  have J0 : i_Rel (k + 4) (nI N, nI P, nI B, nI R, nI (P * B), f_openPages, f_openNodes, f_freeSlotCount, f_retained, f_freeEntry, f_entriesUsed, f_episodeCount, a_copy, a_twin, a_opened, a_openCount, a_queue, a_queued, a_fetchCount, a_clocks, a_dropped, a_slots, a_freeSlots, a_stamps, a_sums, a_notices, a_chain, a_entryAddr, a_entryValue, a_entryNext, a_mode, a_holders, a_line, a_lineLength, a_lockClocks, a_target, a_cursor, a_floor) (nI N, nI P, nI B, nI R, f_queueLen, f_episodeCount, f_recCount, a_copies, a_twin, a_opened, a_queued, a_clocks, a_fetchCount, a_mode, a_holders, a_lockClocks, a_queueNode, a_queueLock, a_recNode, a_recNum, a_recStamp, a_recNotice, a_recDiff, a_v, a_taken) := zz_mk (zz_up4 I)
  skip
  have I0 := I
  have J := (zz_IJ I).1
  obtain ⟨Z, hCK, hOP, hXR, hYR, ⟨l1, l2, l3, l4⟩, ⟨m1, m2, m3⟩, hWT, hMO⟩ := I
  have hPB := lr_PB Z
  have hL := lr_L4_32 Z l4
  have Z' := Z
  obtain ⟨z1, z2, z3, z4, z5, z6, z7, z8⟩ := Z
  have hC : ∀ n m, n < N → m < N → a_clocks (n * 4 + m) = nI (C n m) ∧ C n m < 10000 ∧ D m ≤ C n m := by
    intro n m hn hm
    obtain ⟨h1, h2, h3, h4⟩ := hCK.1 n m hn hm
    exact ⟨h1, by omega, h3⟩
  have hC2 : ∀ n m, n < N → m < N → a_clocks (n * 4 + m) = nI (C n m) ∧ C n m < 10000 := fun n m hn hm => ⟨(hC n m hn hm).1, (hC n m hn hm).2.1⟩
  have hcnt : (L.filter (fun q => decide (lr_k q ≤ lr_ml C (lr_n q) N))).length = lr_sum (fun m => lr_ml C m N - D m) N := lr_count (f := fun m => lr_ml C m N) l1 (fun m _ => lr_ml_le.1)
  refine xx_coll4 (C := C) (D := D) z2 hC hCK.2.1 ?_ ?_
  · intro fl h0
    refine yy_coll4 Z' hL hC2 l1 hYR (fun _ => ⟨rfl, zz_mk (zz_up4 I0)⟩) (fun h => absurd (hcnt.trans h0) h)
  · intro fl hfl hne
    refine ⟨_, zz_acc53 (f_recCount := f_recCount) (a_recNode := a_recNode) (a_recNum := a_recNum) (a_recStamp := a_recStamp) (a_recNotice := a_recNotice) (a_recDiff := a_recDiff) (a_v := a_v) (a_taken := a_taken) N 0 (by omega) Q a_copy a_fetchCount a_queued J (fun n' p' _ _ h => by omega) ?_⟩
    intro Q' cp' fc' qd' J2 hE2 hY2
    refine ⟨_, xx_coll91 (FL := fun m => lr_ml C m N) Z' l1 ?_ ?_ N 0 D (by omega) (fun m' h => by omega) (fun m' _ _ => rfl) f_freeSlotCount f_retained f_freeEntry f_entriesUsed a_freeSlots a_notices a_chain a_entryNext a_dropped (by rw [lr_dp_D l1]; exact hXR) hCK.2.1⟩
    · intro m hm
      exact ⟨hfl m hm, lr_ml_le.1, lr_ml_ge (hC m m hm hm).2.2 (fun n hn => (hC n m hn hm).2.2), (hC m m hm hm).2.1⟩
    · intro fsc' ret' fe' eu' fs' no' ch' nx' dr' hX' hdr'
      refine yy_coll4 Z' hL hC2 l1 hYR (fun h => absurd (hcnt.symm.trans h) hne) (fun _ => ⟨_, hY2 _ _ (yy_coll77 Z' hL hC2 l1 l3 hYR ?_)⟩)
      intro rc' rnd' rnm' rs' rno' rdf' hY'
      exact ⟨by rw [hcnt], zz_mk (zz_JI (zz_J_coll J2 hE2 hX' hdr') hY')⟩
end
section
/-! the constructors -/
def lr_clp (x : Int32) (lo hi : Nat) : Nat := if nI lo ≤ x then (if x ≤ nI hi then x.toNatClampNeg else hi) else lo
theorem lr_clp_s {x : Int32} {lo hi : Nat} (hb : hi < 100) (hl : lo ≤ hi) : lo ≤ lr_clp x lo hi ∧ lr_clp x lo hi ≤ hi ∧ (nI lo ≤ x → x ≤ nI hi → x = nI (lr_clp x lo hi)) := by
  unfold lr_clp
  by_cases h1 : nI lo ≤ x
  · rw [if_pos h1]
    by_cases h2 : x ≤ nI hi
    · rw [if_pos h2]
      have hx : ¬ x < 0 := by
        intro z
        have h3 : x < nI lo := Int32.lt_of_lt_of_le z (nI_pos' (by omega))
        exact absurd h1 (Int32.not_le.mpr h3)
      obtain ⟨j, hj, rfl⟩ := nI_of hx
      rw [lr_c1 hj]
      exact ⟨(nI_leI (by omega) (by omega)).mp h1, (nI_leI (by omega) (by omega)).mp h2, fun _ _ => rfl⟩
    · rw [if_neg h2]
      exact ⟨hl, Nat.le_refl _, fun _ z => absurd z h2⟩
  · rw [if_neg h1]
    exact ⟨Nat.le_refl _, hl, fun z => absurd z h1⟩
def lr_ini (g : Nat → Int32) (m : Nat) (f : Nat → Int32) : Nat → Int32 := fun i => if i < m then g i else f i
theorem lr_ini_0 {g f : Nat → Int32} : f = lr_ini g 0 f := by
  funext i
  show _ = (if i < 0 then g i else f i)
  rw [if_neg (by omega)]
theorem lr_ini_s {g f : Nat → Int32} {m : Nat} : upd (lr_ini g m f) m (g m) = lr_ini g (m + 1) f := by
  funext i
  by_cases e : i = m
  · subst e
    rw [pk_us]
    show _ = (if i < i + 1 then g i else f i)
    rw [if_pos (by omega)]
  · rw [pk_un e]
    show (if i < m then g i else f i) = (if i < m + 1 then g i else f i)
    by_cases h : i < m
    · rw [if_pos h, if_pos (by omega)]
    · rw [if_neg h, if_neg (by omega)]
theorem lr_ini_at {g f : Nat → Int32} {m i : Nat} (h : i < m) : lr_ini g m f i = g i := if_pos h
def lr_nx0 (i : Nat) : Int32 := if 64 ≤ i + 1 then -1 else nI (i + 1)
section
variable {N P B R : Nat} {f_openPages f_openNodes f_freeSlotCount f_retained f_freeEntry f_entriesUsed f_episodeCount : Int32} {a_copy a_twin a_opened a_openCount a_queue a_queued a_fetchCount a_clocks a_dropped a_slots a_freeSlots a_stamps a_sums a_notices a_chain a_entryAddr a_entryValue a_entryNext a_mode a_holders a_line a_lineLength a_lockClocks a_target a_cursor a_floor : Nat → Int32}
variable {a1 a2 a3 a4 a5 : Int32}
theorem xx_clamp {post : Int32 → Prop} {x y z : Int32} (lo hi : Nat) (hb : hi < 100) (hl : lo ≤ hi) (ey : y = nI lo) (ez : z = nI hi) (K : post (nI (lr_clp x lo hi))) : wpX_clamp post (a1, a2, a3, a4, a5, f_openPages, f_openNodes, f_freeSlotCount, f_retained, f_freeEntry, f_entriesUsed, f_episodeCount, a_copy, a_twin, a_opened, a_openCount, a_queue, a_queued, a_fetchCount, a_clocks, a_dropped, a_slots, a_freeSlots, a_stamps, a_sums, a_notices, a_chain, a_entryAddr, a_entryValue, a_entryNext, a_mode, a_holders, a_line, a_lineLength, a_lockClocks, a_target, a_cursor, a_floor) x y z := by
  subst ey ez
  have hs := (lr_clp_s (x := x) hb hl).2.2
  by_cases h1 : nI lo ≤ x
  · refine br_t h1 ?_
    by_cases h2 : x ≤ nI hi
    · refine br_t h2 ?_
      rw [← hs h1 h2] at K; exact K
    · refine br_f h2 ?_
      have e : lr_clp x lo hi = hi := by unfold lr_clp; rw [if_pos h1, if_neg h2]
      rw [e] at K; exact K
  · refine br_f h1 ?_
    have e : lr_clp x lo hi = lo := by unfold lr_clp; rw [if_neg h1]
    rw [e] at K; exact K
theorem xx_init377 {post : SX → Prop} (K : post (nI N, nI P, nI B, nI R, nI (P * B), f_openPages, f_openNodes, f_freeSlotCount, f_retained, f_freeEntry, f_entriesUsed, f_episodeCount, a_copy, a_twin, a_opened, a_openCount, a_queue, a_queued, a_fetchCount, a_clocks, a_dropped, a_slots, a_freeSlots, a_stamps, a_sums, a_notices, a_chain, a_entryAddr, a_entryValue, a_entryNext, a_mode, lr_ini (fun _ => -1) 4 a_holders, a_line, a_lineLength, a_lockClocks, a_target, a_cursor, a_floor)) : ∃ n377 : Nat, wX_init_377 post (nI N) (nI P) (nI B) (nI R) (nI (P * B)) f_openPages f_openNodes f_freeSlotCount f_retained f_freeEntry f_entriesUsed f_episodeCount n377 0 a_copy a_twin a_opened a_openCount a_queue a_queued a_fetchCount a_clocks a_dropped a_slots a_freeSlots a_stamps a_sums a_notices a_chain a_entryAddr a_entryValue a_entryNext a_mode a_holders a_line a_lineLength a_lockClocks a_target a_cursor a_floor := by
  refine loop_0 (fun f m s => wX_init_377 post (nI N) (nI P) (nI B) (nI R) (nI (P * B)) f_openPages f_openNodes f_freeSlotCount f_retained f_freeEntry f_entriesUsed f_episodeCount f (nI m) a_copy a_twin a_opened a_openCount a_queue a_queued a_fetchCount a_clocks a_dropped a_slots a_freeSlots a_stamps a_sums a_notices a_chain a_entryAddr a_entryValue a_entryNext a_mode s a_line a_lineLength a_lockClocks a_target a_cursor a_floor) (fun m s => s = lr_ini (fun _ => -1) m a_holders) 4 a_holders lr_ini_0 ?_ ?_
  · intro f s es
    subst es
    exact br_t (nI_le (b := 4) (Nat.le_refl _) (by omega)) K
  · intro f m s hm es ih
    subst es
    refine br_f (nI_ge (b := 4) hm (by omega)) ⟨lr_v1 hm (by omega), nm_e (nm_r (nI_1 m) (ih _ ?_))⟩
    rw [lr_c1 (by omega)]
    exact lr_ini_s (g := fun _ => -1)
theorem xx_init352 {post : SX → Prop} (K : post (nI N, nI P, nI B, nI R, nI (P * B), f_openPages, f_openNodes, f_freeSlotCount, f_retained, f_freeEntry, f_entriesUsed, f_episodeCount, a_copy, a_twin, a_opened, a_openCount, a_queue, a_queued, a_fetchCount, a_clocks, a_dropped, a_slots, a_freeSlots, a_stamps, a_sums, a_notices, lr_ini (fun _ => -1) 128 a_chain, a_entryAddr, a_entryValue, a_entryNext, a_mode, lr_ini (fun _ => -1) 4 a_holders, a_line, a_lineLength, a_lockClocks, a_target, a_cursor, a_floor)) : ∃ n352 : Nat, wX_init_352 post (nI N) (nI P) (nI B) (nI R) (nI (P * B)) f_openPages f_openNodes f_freeSlotCount f_retained f_freeEntry f_entriesUsed f_episodeCount n352 0 a_copy a_twin a_opened a_openCount a_queue a_queued a_fetchCount a_clocks a_dropped a_slots a_freeSlots a_stamps a_sums a_notices a_chain a_entryAddr a_entryValue a_entryNext a_mode a_holders a_line a_lineLength a_lockClocks a_target a_cursor a_floor := by
  refine loop_0 (fun f m s => wX_init_352 post (nI N) (nI P) (nI B) (nI R) (nI (P * B)) f_openPages f_openNodes f_freeSlotCount f_retained f_freeEntry f_entriesUsed f_episodeCount f (nI m) a_copy a_twin a_opened a_openCount a_queue a_queued a_fetchCount a_clocks a_dropped a_slots a_freeSlots a_stamps a_sums a_notices s a_entryAddr a_entryValue a_entryNext a_mode a_holders a_line a_lineLength a_lockClocks a_target a_cursor a_floor) (fun m s => s = lr_ini (fun _ => -1) m a_chain) 128 a_chain lr_ini_0 ?_ ?_
  · intro f s es
    subst es
    exact br_t (nI_le (b := 128) (Nat.le_refl _) (by omega)) (xx_init377 K)
  · intro f m s hm es ih
    subst es
    refine br_f (nI_ge (b := 128) hm (by omega)) ⟨lr_v1 hm (by omega), nm_e (nm_r (nI_1 m) (ih _ ?_))⟩
    rw [lr_c1 (by omega)]
    exact lr_ini_s (g := fun _ => -1)
theorem xx_init318 {post : SX → Prop} (K : post (nI N, nI P, nI B, nI R, nI (P * B), f_openPages, f_openNodes, 32, f_retained, f_freeEntry, f_entriesUsed, f_episodeCount, a_copy, a_twin, a_opened, a_openCount, a_queue, a_queued, a_fetchCount, a_clocks, a_dropped, a_slots, lr_ini (fun i => nI (31 - i)) 32 a_freeSlots, a_stamps, a_sums, a_notices, lr_ini (fun _ => -1) 128 a_chain, a_entryAddr, a_entryValue, a_entryNext, a_mode, lr_ini (fun _ => -1) 4 a_holders, a_line, a_lineLength, a_lockClocks, a_target, a_cursor, a_floor)) : ∃ n318 : Nat, wX_init_318 post (nI N) (nI P) (nI B) (nI R) (nI (P * B)) f_openPages f_openNodes f_freeSlotCount f_retained f_freeEntry f_entriesUsed f_episodeCount n318 0 a_copy a_twin a_opened a_openCount a_queue a_queued a_fetchCount a_clocks a_dropped a_slots a_freeSlots a_stamps a_sums a_notices a_chain a_entryAddr a_entryValue a_entryNext a_mode a_holders a_line a_lineLength a_lockClocks a_target a_cursor a_floor := by
  refine loop_0 (fun f m s => wX_init_318 post (nI N) (nI P) (nI B) (nI R) (nI (P * B)) f_openPages f_openNodes f_freeSlotCount f_retained f_freeEntry f_entriesUsed f_episodeCount f (nI m) a_copy a_twin a_opened a_openCount a_queue a_queued a_fetchCount a_clocks a_dropped a_slots s a_stamps a_sums a_notices a_chain a_entryAddr a_entryValue a_entryNext a_mode a_holders a_line a_lineLength a_lockClocks a_target a_cursor a_floor) (fun m s => s = lr_ini (fun i => nI (31 - i)) m a_freeSlots) 32 a_freeSlots lr_ini_0 ?_ ?_
  · intro f s es
    subst es
    exact br_t (nI_le (b := 32) (Nat.le_refl _) (by omega)) (xx_init352 K)
  · intro f m s hm es ih
    subst es
    have e31 : (31 : Int32) - nI m = nI (31 - m) := pk_sub (a := 31) (by omega)
    refine br_f (nI_ge (b := 32) hm (by omega)) ⟨lr_v1 hm (by omega), nm_e (nm_r (nI_1 m) (ih _ ?_))⟩
    rw [lr_c1 (by omega), e31]
    exact lr_ini_s (g := fun i => nI (31 - i))
theorem xx_init273 {post : SX → Prop} (K : post (nI N, nI P, nI B, nI R, nI (P * B), f_openPages, f_openNodes, 32, f_retained, 0, f_entriesUsed, f_episodeCount, a_copy, a_twin, a_opened, a_openCount, a_queue, a_queued, a_fetchCount, a_clocks, a_dropped, a_slots, lr_ini (fun i => nI (31 - i)) 32 a_freeSlots, a_stamps, a_sums, a_notices, lr_ini (fun _ => -1) 128 a_chain, a_entryAddr, a_entryValue, lr_ini lr_nx0 64 a_entryNext, a_mode, lr_ini (fun _ => -1) 4 a_holders, a_line, a_lineLength, a_lockClocks, a_target, a_cursor, a_floor)) : ∃ n273 : Nat, wX_init_273 post (nI N) (nI P) (nI B) (nI R) (nI (P * B)) f_openPages f_openNodes f_freeSlotCount f_retained f_freeEntry f_entriesUsed f_episodeCount n273 0 a_copy a_twin a_opened a_openCount a_queue a_queued a_fetchCount a_clocks a_dropped a_slots a_freeSlots a_stamps a_sums a_notices a_chain a_entryAddr a_entryValue a_entryNext a_mode a_holders a_line a_lineLength a_lockClocks a_target a_cursor a_floor := by
  refine loop_0 (fun f m s => wX_init_273 post (nI N) (nI P) (nI B) (nI R) (nI (P * B)) f_openPages f_openNodes f_freeSlotCount f_retained f_freeEntry f_entriesUsed f_episodeCount f (nI m) a_copy a_twin a_opened a_openCount a_queue a_queued a_fetchCount a_clocks a_dropped a_slots a_freeSlots a_stamps a_sums a_notices a_chain a_entryAddr a_entryValue s a_mode a_holders a_line a_lineLength a_lockClocks a_target a_cursor a_floor) (fun m s => s = lr_ini lr_nx0 m a_entryNext) 64 a_entryNext lr_ini_0 ?_ ?_
  · intro f s es
    subst es
    exact br_t (nI_le (b := 64) (Nat.le_refl _) (by omega)) (xx_init318 K)
  · intro f m s hm es ih
    subst es
    refine br_f (nI_ge (b := 64) hm (by omega)) ?_
    by_cases h : 64 ≤ m + 1
    · refine br_t (by rw [nI_1]; exact nI_le (a := 64) h (by omega)) ⟨lr_v1 hm (by omega), nm_e (nm_r (nI_1 m) (ih _ ?_))⟩
      have e : lr_nx0 m = -1 := if_pos h
      rw [lr_c1 (by omega), ← e]
      exact lr_ini_s
    · refine br_f (by rw [nI_1]; exact nI_ge (b := 64) (by omega) (by omega)) ⟨lr_v1 hm (by omega), nm_e (nm_r (nI_1 m) (ih _ ?_))⟩
      have e : lr_nx0 m = nI (m + 1) := if_neg h
      rw [lr_c1 (by omega), nI_1, ← e]
      exact lr_ini_s
end
section
variable {N P B R : Nat} {f_episodeCount f_queueLen f_recCount : Int32} {a_copies a_opened a_clocks a_holders a_queueNode a_queueLock a_recNode a_recNum a_recStamp a_recNotice a_recDiff a_v a_taken a_twin a_queued a_fetchCount a_mode a_lockClocks : Nat → Int32}
variable {k : Nat} {C LC : Nat → Nat → Nat} {D : Nat → Nat} {L : List lr_R} {Q : Nat → Nat → List lr_R} {WQ : List (Nat × Nat)}
variable {a1 a2 a3 a4 : Int32}
theorem yy_clamp {post : Int32 → Prop} {x y z : Int32} (lo hi : Nat) (hb : hi < 100) (hl : lo ≤ hi) (ey : y = nI lo) (ez : z = nI hi) (K : post (nI (lr_clp x lo hi))) : wpY_clamp post (a1, a2, a3, a4, f_queueLen, f_episodeCount, f_recCount, a_copies, a_twin, a_opened, a_queued, a_clocks, a_fetchCount, a_mode, a_holders, a_lockClocks, a_queueNode, a_queueLock, a_recNode, a_recNum, a_recStamp, a_recNotice, a_recDiff, a_v, a_taken) x y z := by
  subst ey ez
  have hs := (lr_clp_s (x := x) hb hl).2.2
  by_cases h1 : nI lo ≤ x
  · refine br_t h1 ?_
    by_cases h2 : x ≤ nI hi
    · refine br_t h2 ?_
      rw [← hs h1 h2] at K; exact K
    · refine br_f h2 ?_
      have e : lr_clp x lo hi = hi := by unfold lr_clp; rw [if_pos h1, if_neg h2]
      rw [e] at K; exact K
  · refine br_f h1 ?_
    have e : lr_clp x lo hi = lo := by unfold lr_clp; rw [if_neg h1]
    rw [e] at K; exact K
theorem yy_init197 {post : SY → Prop} (K : post (nI N, nI P, nI B, nI R, f_queueLen, f_episodeCount, f_recCount, a_copies, a_twin, a_opened, a_queued, a_clocks, a_fetchCount, a_mode, lr_ini (fun _ => -1) 4 a_holders, a_lockClocks, a_queueNode, a_queueLock, a_recNode, a_recNum, a_recStamp, a_recNotice, a_recDiff, a_v, a_taken)) : ∃ n197 : Nat, wY_init_197 post (nI N) (nI P) (nI B) (nI R) f_queueLen f_episodeCount f_recCount n197 0 a_copies a_twin a_opened a_queued a_clocks a_fetchCount a_mode a_holders a_lockClocks a_queueNode a_queueLock a_recNode a_recNum a_recStamp a_recNotice a_recDiff a_v a_taken := by
  refine loop_0 (fun f m s => wY_init_197 post (nI N) (nI P) (nI B) (nI R) f_queueLen f_episodeCount f_recCount f (nI m) a_copies a_twin a_opened a_queued a_clocks a_fetchCount a_mode s a_lockClocks a_queueNode a_queueLock a_recNode a_recNum a_recStamp a_recNotice a_recDiff a_v a_taken) (fun m s => s = lr_ini (fun _ => -1) m a_holders) 4 a_holders lr_ini_0 ?_ ?_
  · intro f s es
    subst es
    exact br_t (nI_le (b := 4) (Nat.le_refl _) (by omega)) K
  · intro f m s hm es ih
    subst es
    refine br_f (nI_ge (b := 4) hm (by omega)) ⟨lr_v1 hm (by omega), nm_e (nm_r (nI_1 m) (ih _ ?_))⟩
    rw [lr_c1 (by omega)]
    exact lr_ini_s (g := fun _ => -1)
end
theorem lr_lk0 {nx : Nat → Int32} (h : ∀ i, i < 64 → nx i = lr_nx0 i) : ∀ d i, i + d = 64 → lr_lk nx (List.range' i d) (if 64 ≤ i then -1 else nI i) := by
  intro d
  induction d with
  | zero =>
    intro i hi
    show (if 64 ≤ i then -1 else nI i) = -1
    rw [if_pos (by omega)]
  | succ d ih =>
    intro i hi
    rw [List.range'_succ]
    refine ⟨if_neg (by omega), by omega, ?_⟩
    rw [h i (by omega)]
    exact ih (i + 1) (by omega)
theorem lr_EH0 {ea ev nx ch : Nat → Int32} (h : ∀ i, i < 64 → nx i = lr_nx0 i) (hc : ∀ c, c < 128 → ch c = -1) : lr_EH ea ev nx ch 0 (fun _ => []) 64 (-1) [] := by
  refine ⟨List.range' 0 64, fun _ => [], fun _ => 0, ⟨?_, List.nodup_range', fun _ _ => rfl, List.length_range'⟩, ?_, ?_⟩
  · have := lr_lk0 h 64 0 (by omega)
    rw [if_neg (by omega)] at this
    exact this
  · intro c hc'
    exact ⟨hc c hc', List.nodup_nil, (fun e he => by cases he), rfl⟩
  · exact ⟨rfl, List.nodup_nil, fun e he => by cases he⟩
theorem lr_on_00 {P n : Nat} : lr_on (fun _ => 0) P n = 0 := lr_sum_z (fun _ _ => rfl)
theorem lr_XR0 {N P B : Nat} {sl fs st sm no ch ea ev nx : Nat → Int32} (h : ∀ i, i < 64 → nx i = lr_nx0 i) (hc : ∀ c, c < 128 → ch c = -1) (hf : ∀ i, i < 32 → fs i = nI (31 - i)) : lr_XR N P B [] 32 0 0 0 sl fs st sm no ch ea ev nx := by
  refine ⟨(List.range 32).map (fun i => 31 - i), fun _ => [], ⟨by rw [List.length_map, List.length_range]; rfl, rfl, rfl, Nat.zero_le _⟩, lr_EH0 h hc, (fun q hq => by cases hq), ?_, ?_, ?_, ?_⟩
  · decide
  · intro s hs
    obtain ⟨i, _, rfl⟩ := List.mem_map.mp hs
    omega
  · rw [List.length_map, List.length_range]; rfl
  · intro i s hi
    have hlt := lr_at_lt hi
    rw [List.length_map, List.length_range] at hlt
    rw [List.getElem?_map, List.getElem?_range hlt] at hi
    rw [hf i hlt, ← Option.some.inj hi]
theorem i_vc0 (k0 : Int32) (k1 : Int32) (k2 : Int32) (k3 : Int32) : wpX_init (fun u => wpY_init (fun v => i_Rel 4 u v) k0 k1 k2 k3) k0 k1 k2 k3 := by
  have c0 := lr_clp_s (x := k0) (lo := 2) (hi := 4) (by omega) (by omega)
  have c1 := lr_clp_s (x := k1) (lo := 1) (hi := 4) (by omega) (by omega)
  have c2 := lr_clp_s (x := k2) (lo := 1) (hi := 8) (by omega) (by omega)
  have c3 := lr_clp_s (x := k3) (lo := 4) (hi := 32) (by omega) (by omega)
  unfold wpX_init
  refine xx_clamp 2 4 (by omega) (by omega) rfl rfl ?_
  refine xx_clamp 1 4 (by omega) (by omega) rfl rfl ?_
  refine xx_clamp 1 8 (by omega) (by omega) rfl rfl ?_
  refine xx_clamp 4 32 (by omega) (by omega) rfl rfl ?_
  refine nm_r (pk_mul _ _) (xx_init273 ?_)
  unfold wpY_init
  refine yy_clamp 2 4 (by omega) (by omega) rfl rfl ?_
  refine yy_clamp 1 4 (by omega) (by omega) rfl rfl ?_
  refine yy_clamp 1 8 (by omega) (by omega) rfl rfl ?_
  refine yy_clamp 4 32 (by omega) (by omega) rfl rfl ?_
  refine yy_init197 (zz_mk (C := fun _ _ => 0) (D := fun _ => 0) (LC := fun _ _ => 0) (L := []) (Q := fun _ _ => []) (WQ := []) ⟨⟨c0.1, c0.2.1, c1.1, c1.2.1, c2.1, c2.2.1, c3.1, c3.2.1⟩, ?_, ?_, ?_, ?_, ⟨?_, ?_, ?_, ?_⟩, ⟨?_, ?_, ?_⟩, ?_, ?_⟩)
  · exact ⟨fun n m _ _ => ⟨rfl, Nat.le_refl _, Nat.le_refl _, Nat.zero_le _⟩, fun m _ => rfl, fun l m _ _ => ⟨rfl, Nat.le_refl _⟩⟩
  · refine ⟨fun n p _ _ => Or.inl rfl, ?_, ?_, ?_⟩
    · intro n _; rw [lr_on_00]; rfl
    · rw [lr_sum_z (fun i _ => lr_on_00)]; rfl
    · rw [lr_sum_z (fun i _ => lr_b10 lr_on_00)]; rfl
  · exact lr_XR0 (fun i hi => lr_ini_at hi) (fun c hc => lr_ini_at hc) (fun i hi => lr_ini_at hi)
  · exact ⟨rfl, fun i q hi => by simp at hi⟩
  · refine ⟨(fun q hq => by cases hq), ?_, List.nodup_nil⟩
    intro m k _ h1 h2
    have h1' : 0 < k := h1
    have h2' : k ≤ 0 := h2
    omega
  · exact ⟨(fun q hq => by cases hq), (fun q q' hq => by cases hq)⟩
  · exact fun q p hq => by cases hq
  · refine ⟨?_, ?_⟩
    · rw [lr_sum_z (fun i _ => lr_b10 lr_on_00)]; exact Nat.zero_le _
    · rw [lr_sum_z (fun i _ => lr_on_00)]; exact Nat.zero_le _
  · intro n p _ _
    exact ⟨rfl, (fun q hq => by cases hq), List.nodup_nil, fun _ => rfl⟩
  · intro n p i q _ _ hi
    simp at hi
  · intro n p w _ _ _
    exact ⟨rfl, show ¬ (0 : Int32) < 0 by decide⟩
  · refine ⟨⟨rfl, fun i z hi => by simp at hi⟩, List.nodup_nil, (fun z hz => by cases hz), ?_, ?_⟩
    · intro n _ h
      exact absurd h (show ¬ (0 : Int32) = 1 by decide)
    · intro l _
      exact ⟨rfl, fun i n hi => by simp [lr_LL] at hi⟩
  · intro n p _ _ h
    exact absurd rfl h
end
