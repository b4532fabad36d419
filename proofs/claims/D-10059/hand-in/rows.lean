section
/-! pure rows: clamps, indices, the script's cells -/
theorem qp_rd {f : Nat → Int32} {x y : Int32} (k : Nat) (hx : x = nI k) (h : f k = y) (hk : k < 2147483648 := by omega) : f x.toNatClampNeg = y := by
  rw [hx, nI_clamp hk]
  exact h
theorem qp_up {f : Nat → Int32} {x v w : Int32} (k : Nat) (hx : x = nI k) (hv : v = w) (hk : k < 2147483648 := by omega) : upd f x.toNatClampNeg v = upd f k w := by
  rw [hx, nI_clamp hk, hv]
theorem qp_us {f : Nat → Int32} {k j : Nat} {x : Int32} (h : j = k) : upd f k x j = x := by
  rw [h]
  exact pk_us
theorem qp_ix6 (r e c : Nat) : ((nI r * 144) + (nI e * 6)) + nI c = nI (r * 144 + e * 6 + c) := by
  rw [show (144 : Int32) = nI 144 from rfl, show (6 : Int32) = nI 6 from rfl, pk_mul, pk_mul, nI_add, nI_add]
theorem qp_ix30 (t e c : Nat) : ((nI t * 30) + (nI e * 3)) + nI c = nI (t * 30 + e * 3 + c) := by
  rw [show (30 : Int32) = nI 30 from rfl, show (3 : Int32) = nI 3 from rfl, pk_mul, pk_mul, nI_add, nI_add]
theorem qp_ix24 (r e : Nat) : (nI r * 24) + nI e = nI (r * 24 + e) := by
  rw [show (24 : Int32) = nI 24 from rfl, pk_mul, nI_add]
theorem qp_ix8 (r e : Nat) : (nI r * 8) + nI e = nI (r * 8 + e) := by
  rw [show (8 : Int32) = nI 8 from rfl, pk_mul, nI_add]
theorem qp_ixr (r c : Nat) : (nI r * 6) + nI c = nI (r * 6 + c) := by
  rw [show (6 : Int32) = nI 6 from rfl, pk_mul, nI_add]
theorem qp_ixt (t n : Nat) : (nI t * 30) + (nI n * 3) = nI (t * 30 + n * 3) := by
  rw [show (30 : Int32) = nI 30 from rfl, show (3 : Int32) = nI 3 from rfl, pk_mul, pk_mul, nI_add]
theorem qp_ixv (t i c : Nat) : ((5 + (nI t * 8)) + (nI i * 2)) + nI c = nI (5 + t * 8 + i * 2 + c) := by
  rw [show (8 : Int32) = nI 8 from rfl, show (2 : Int32) = nI 2 from rfl, show (5 : Int32) = nI 5 from rfl, pk_mul, pk_mul, nI_add, nI_add, nI_add]
/-- the script's cell k -/
def qp_cv (L : Nat) (xs : Nat → Int32) (k : Nat) : Int32 := if k < L then xs k else 0
/-- the value that the law reads for a table's row and column -/
def qp_V (L : Nat) (xs : Nat → Int32) (t i c : Nat) : Int32 :=
  if (qp_cv L xs 4 &&& 1) = 0 then qp_cv L xs (5 + t * 8 + i * 2 + c) &&& 3 else qp_cv L xs (5 + t * 8 + i * 2 + c)
theorem qp_cellL {post : Int32 → Prop} {L : Nat} {xs : Nat → Int32} {u : St2} {x : Int32} (k : Nat) (hL : L ≤ 260) (hx : x = nI k) (hk : k < 1000) (H : post (qp_cv L xs k)) : wpL_cell post L xs u x := by
  subst hx
  refine pk_le L k (fun z => ?_) (fun z => ⟨pk_in k L z, ?_⟩)
  · have e : qp_cv L xs k = 0 := if_neg (by omega)
    rw [e] at H
    exact H
  · have e : qp_cv L xs k = xs k := if_pos z
    rw [e] at H
    rw [nI_clamp (by omega)]
    exact H
theorem qp_value {post : Int32 → Prop} {L : Nat} {xs : Nat → Int32} {u : St2} {x y w : Int32} (t i c : Nat) (hL : L ≤ 260) (hx : x = nI t) (hy : y = nI i) (hw : w = nI c) (ht : t < 2) (hi : i < 10) (hc : c < 2) (H : post (qp_V L xs t i c)) : wpL_value post L xs u x y w := by
  subst hx hy hw
  refine qp_cellL (5 + t * 8 + i * 2 + c) hL (qp_ixv t i c) (by omega) (qp_cellL 4 hL rfl (by omega) (br_c (fun z => ?_) (fun z => ?_)))
  · have e : qp_V L xs t i c = qp_cv L xs (5 + t * 8 + i * 2 + c) &&& 3 := if_pos z
    rw [e] at H
    exact H
  · have e : qp_V L xs t i c = qp_cv L xs (5 + t * 8 + i * 2 + c) := if_neg z
    rw [e] at H
    exact H
theorem qp_mod5 (x : Int32) : ∃ n : Nat, n < 5 ∧ (x &&& 2147483647) - (x &&& 2147483647) / 5 * 5 = nI n := by
  obtain ⟨j, hj, e⟩ := pk_andE x (m := 2147483647) 31 (by decide)
  rw [e]
  exact ⟨j % 5, Nat.mod_lt _ (by omega), pk_rem (d := 5) hj (by decide) (by decide)⟩
theorem qp_bit (x : Int32) : ∃ n : Nat, n < 2 ∧ x &&& 1 = nI n := by
  obtain ⟨j, hj, e⟩ := pk_andE x (m := 1) 1 (by decide)
  exact ⟨j, by omega, e⟩
/-! the matching entries behind s, and the rows of the three joins -/
def qp_frm (f : Nat → Int32) (key : Int32) : Nat → Nat → List Nat
  | 0, _ => []
  | c + 1, s => if f s = key then s :: qp_frm f key c (s + 1) else qp_frm f key c (s + 1)
/-- a row of the join: left row i, right row e -/
def qp_row (A B : Nat → Nat → Int32) (i e j : Nat) : Int32 := if j = 0 then A i 0 else if j = 1 then A i 1 else if j = 2 then B e 0 else B e 1
def qp_zrow (A : Nat → Nat → Int32) (i j : Nat) : Int32 := if j = 0 then A i 0 else if j = 1 then A i 1 else 0
/-- the rows that left row i gives, of the matches l: kind 3 keeps a row without a match -/
def qp_one (kd : Nat) (A B : Nat → Nat → Int32) (i : Nat) (l : List Nat) : List (Nat → Int32) :=
  if l = [] ∧ kd = 3 then [qp_zrow A i] else l.map (qp_row A B i)
def qp_join (kd : Nat) (A B : Nat → Nat → Int32) (kl kr m : Nat) : Nat → Nat → List (Nat → Int32)
  | 0, _ => []
  | c + 1, i => qp_one kd A B i (qp_frm (fun e => B e kr) (A i kl) m 0) ++ qp_join kd A B kl kr m c (i + 1)
def qp_anti (A B : Nat → Nat → Int32) (kl kr m : Nat) : Nat → Nat → List (Nat → Int32)
  | 0, _ => []
  | c + 1, i => (if qp_frm (fun e => B e kr) (A i kl) m 0 = [] then [qp_zrow A i] else []) ++ qp_anti A B kl kr m c (i + 1)
theorem qp_frm_len (f : Nat → Int32) (key : Int32) : ∀ c s, (qp_frm f key c s).length ≤ c := by
  intro c
  induction c with
  | zero => intro s; exact Nat.le_refl 0
  | succ c ih =>
    intro s
    have h := ih (s + 1)
    show (if f s = key then s :: qp_frm f key c (s + 1) else qp_frm f key c (s + 1)).length ≤ c + 1
    by_cases e : f s = key
    · rw [if_pos e, List.length_cons]; omega
    · rw [if_neg e]; omega
theorem qp_frm_none (f : Nat → Int32) (key : Int32) : ∀ c s, (∀ e, s ≤ e → e < s + c → f e ≠ key) → qp_frm f key c s = [] := by
  intro c
  induction c with
  | zero => intro s _; rfl
  | succ c ih =>
    intro s h
    show (if f s = key then s :: qp_frm f key c (s + 1) else qp_frm f key c (s + 1)) = []
    rw [if_neg (h s (by omega) (by omega))]
    exact ih (s + 1) (fun e h1 h2 => h e (by omega) (by omega))
theorem qp_frm_some (f : Nat → Int32) (key : Int32) : ∀ c s e, s ≤ e → e < s + c → f e = key → (∀ e', s ≤ e' → e' < e → f e' ≠ key) → qp_frm f key c s = e :: qp_frm f key (s + c - (e + 1)) (e + 1) := by
  intro c
  induction c with
  | zero => intro s e h1 h2; omega
  | succ c ih =>
    intro s e h1 h2 h3 h4
    show (if f s = key then s :: qp_frm f key c (s + 1) else qp_frm f key c (s + 1)) = _
    by_cases g : s = e
    · subst g
      rw [if_pos h3, show s + (c + 1) - (s + 1) = c by omega]
    · rw [if_neg (h4 s (by omega) (by omega)), ih (s + 1) e (by omega) (by omega) h3 (fun e' g1 g2 => h4 e' (by omega) g2), show s + (c + 1) - (e + 1) = s + 1 + c - (e + 1) by omega]
theorem qp_frm_nil (f : Nat → Int32) (key : Int32) {c s : Nat} (h : qp_frm f key c s = []) : ∀ e, s ≤ e → e < s + c → f e ≠ key := by
  induction c generalizing s with
  | zero => intro e h1 h2; omega
  | succ c ih =>
    have h' : (if f s = key then s :: qp_frm f key c (s + 1) else qp_frm f key c (s + 1)) = [] := h
    intro e h1 h2
    by_cases g : f s = key
    · rw [if_pos g] at h'
      exact absurd h' (List.cons_ne_nil _ _)
    · rw [if_neg g] at h'
      by_cases k : e = s
      · rw [k]; exact g
      · exact ih h' e (by omega) (by omega)
theorem qp_one_len (kd : Nat) (A B : Nat → Nat → Int32) (i : Nat) (l : List Nat) : (qp_one kd A B i l).length ≤ max 1 l.length := by
  unfold qp_one
  by_cases h : l = [] ∧ kd = 3
  · rw [if_pos h]; exact Nat.le_max_left _ _
  · rw [if_neg h, List.length_map]; exact Nat.le_max_right _ _
theorem qp_join_len (kd : Nat) (A B : Nat → Nat → Int32) (kl kr m : Nat) (hm : m ≤ 4) : ∀ c i, (qp_join kd A B kl kr m c i).length ≤ 4 * c := by
  intro c
  induction c with
  | zero => intro i; exact Nat.le_refl 0
  | succ c ih =>
    intro i
    show (qp_one kd A B i (qp_frm (fun e => B e kr) (A i kl) m 0) ++ qp_join kd A B kl kr m c (i + 1)).length ≤ 4 * (c + 1)
    rw [List.length_append]
    have h1 := ih (i + 1)
    have h2 := qp_one_len kd A B i (qp_frm (fun e => B e kr) (A i kl) m 0)
    have h3 := qp_frm_len (fun e => B e kr) (A i kl) m 0
    omega
theorem qp_anti_len (A B : Nat → Nat → Int32) (kl kr m : Nat) : ∀ c i, (qp_anti A B kl kr m c i).length ≤ c := by
  intro c
  induction c with
  | zero => intro i; exact Nat.le_refl 0
  | succ c ih =>
    intro i
    show ((if qp_frm (fun e => B e kr) (A i kl) m 0 = [] then [qp_zrow A i] else []) ++ qp_anti A B kl kr m c (i + 1)).length ≤ c + 1
    rw [List.length_append]
    have h1 := ih (i + 1)
    by_cases h : qp_frm (fun e => B e kr) (A i kl) m 0 = []
    · rw [if_pos h]
      show 1 + _ ≤ _
      omega
    · rw [if_neg h]
      show 0 + _ ≤ _
      omega
/-- the outer join's rows are the inner's and the anti join's, by number -/
theorem qp_sum (A B : Nat → Nat → Int32) (kl kr m : Nat) : ∀ c i, (qp_join 3 A B kl kr m c i).length = (qp_join 0 A B kl kr m c i).length + (qp_anti A B kl kr m c i).length := by
  intro c
  induction c with
  | zero => intro i; rfl
  | succ c ih =>
    intro i
    show (qp_one 3 A B i (qp_frm (fun e => B e kr) (A i kl) m 0) ++ qp_join 3 A B kl kr m c (i + 1)).length = (qp_one 0 A B i (qp_frm (fun e => B e kr) (A i kl) m 0) ++ qp_join 0 A B kl kr m c (i + 1)).length + ((if qp_frm (fun e => B e kr) (A i kl) m 0 = [] then [qp_zrow A i] else []) ++ qp_anti A B kl kr m c (i + 1)).length
    rw [List.length_append, List.length_append, List.length_append, ih (i + 1)]
    unfold qp_one
    by_cases h : qp_frm (fun e => B e kr) (A i kl) m 0 = []
    · rw [h, if_pos ⟨rfl, rfl⟩, if_neg (fun z => absurd z.2 (by decide)), if_pos rfl]
      show 1 + _ = 0 + _ + (1 + _)
      omega
    · rw [if_neg (fun z => h z.1), if_neg (fun z => h z.1), if_neg h, List.length_map]
      show _ = _ + _ + (0 + _)
      omega
/-- a key that some right row has -/
def qp_M (B : Nat → Nat → Int32) (kr m : Nat) (key : Int32) : Bool := !(qp_frm (fun e => B e kr) key m 0).isEmpty
theorem qp_row_k (A B : Nat → Nat → Int32) (i e k : Nat) (hk : k < 2) : qp_row A B i e k = A i k := by
  have : k = 0 ∨ k = 1 := by omega
  rcases this with h | h <;> subst h <;> rfl
theorem qp_zrow_k (A : Nat → Nat → Int32) (i k : Nat) (hk : k < 2) : qp_zrow A i k = A i k := by
  have : k = 0 ∨ k = 1 := by omega
  rcases this with h | h <;> subst h <;> rfl
theorem qp_fil_all {α : Type} (p : α → Bool) (l : List α) (h : ∀ a, a ∈ l → p a = true) : l.filter p = l := List.filter_eq_self.mpr h
/-- the inner join's rows are the outer's whose key has a match -/
theorem qp_fil (A B : Nat → Nat → Int32) (kl kr m : Nat) (hk : kl < 2) : ∀ c i, (qp_join 3 A B kl kr m c i).filter (fun r => qp_M B kr m (r kl)) = qp_join 0 A B kl kr m c i := by
  intro c
  induction c with
  | zero => intro i; rfl
  | succ c ih =>
    intro i
    show (qp_one 3 A B i (qp_frm (fun e => B e kr) (A i kl) m 0) ++ qp_join 3 A B kl kr m c (i + 1)).filter (fun r => qp_M B kr m (r kl)) = qp_one 0 A B i (qp_frm (fun e => B e kr) (A i kl) m 0) ++ qp_join 0 A B kl kr m c (i + 1)
    rw [List.filter_append, ih (i + 1)]
    congr 1
    unfold qp_one
    by_cases h : qp_frm (fun e => B e kr) (A i kl) m 0 = []
    · have hM : qp_M B kr m (qp_zrow A i kl) = false := by
        unfold qp_M
        rw [qp_zrow_k A i kl hk, h]
        rfl
      rw [h, if_pos ⟨rfl, rfl⟩, if_neg (fun z => absurd z.2 (by decide)), List.filter_cons_of_neg (by rw [hM]; decide)]
      rfl
    · rw [if_neg (fun z => h z.1), if_neg (fun z => h z.1)]
      apply qp_fil_all
      intro r hr
      obtain ⟨e, he, rfl⟩ := List.mem_map.mp hr
      show qp_M B kr m (qp_row A B i e kl) = true
      rw [qp_row_k A B i e kl hk]
      unfold qp_M
      cases g : qp_frm (fun e => B e kr) (A i kl) m 0 with
      | nil => exact absurd g h
      | cons a l => rfl
end
section
/-! the constructor, the tables, the plan -/
theorem qp_noTable {post : Int32 → Prop} {f0 f1 f2 f3 f4 f5 f6 f7 f8 : Int32} {a1 a2 a3 a4 a5 a6 a7 a8 a9 a10 a11 a12 a13 a14 a15 a16 a17 a18 a19 a20 a21 a22 a23 a24 a25 a26 a27 a28 a29 a30 : Nat → Int32} {x : Int32} (t : Nat) (hx : x = nI t) (h0 : f0 = nI 2) (ht : t < 2) (H : post 0) : wpX_noTable post (f0, f1, f2, f3, f4, f5, f6, f7, f8, a1, a2, a3, a4, a5, a6, a7, a8, a9, a10, a11, a12, a13, a14, a15, a16, a17, a18, a19, a20, a21, a22, a23, a24, a25, a26, a27, a28, a29, a30) x := by
  subst hx h0
  exact br_f (nI_pos (by omega)) (br_t (nI_lt ht (by decide)) H)
theorem qp_addRow {post : Int32 → St1 → Prop} {f0 f1 f2 f3 f4 f5 f6 f7 f8 : Int32} {a1 a2 a3 a4 a5 a6 a7 a8 a9 a10 a11 a12 a13 a14 a15 a16 a17 a18 a19 a20 a21 a22 a23 a24 a25 a26 a27 a28 a29 a30 : Nat → Int32} {x p1 p2 p3 : Int32} (t n : Nat) (hx : x = nI t) (h0 : f0 = nI 2) (ht : t < 2) (hn : a2 t = nI n) (hn9 : n < 9)
    (H : post (nI n) (f0, f1, f2, f3, f4, f5, f6, f7, f8, a1, upd a2 t (nI (n + 1)), upd (upd (upd a3 (t * 30 + n * 3) p1) (t * 30 + n * 3 + 1) p2) (t * 30 + n * 3 + 2) p3, a4, a5, a6, a7, a8, a9, a10, a11, a12, a13, a14, a15, a16, a17, a18, a19, a20, a21, a22, a23, a24, a25, a26, a27, a28, a29, a30)) : wpX_addRow post (f0, f1, f2, f3, f4, f5, f6, f7, f8, a1, a2, a3, a4, a5, a6, a7, a8, a9, a10, a11, a12, a13, a14, a15, a16, a17, a18, a19, a20, a21, a22, a23, a24, a25, a26, a27, a28, a29, a30) x p1 p2 p3 := by
  subst hx
  unfold wpX_addRow
  refine qp_noTable t rfl h0 ht ?_
  refine br_t rfl ⟨pk_in t 4 (by omega), nm_r (qp_rd t rfl hn) ?_⟩
  refine pk_lt n 10 (fun _ => ?_) (fun z => absurd z (by omega))
  refine nm_r (qp_ixt t n) ⟨pk_in (t * 30 + n * 3) 120 (by omega), nm_r (qp_up (t * 30 + n * 3) rfl rfl) ?_⟩
  refine ⟨pk_in (t * 30 + n * 3 + 1) 120 (by omega) (nI_add _ 1), nm_r (qp_up (t * 30 + n * 3 + 1) (nI_add _ 1) rfl) ?_⟩
  refine ⟨pk_in (t * 30 + n * 3 + 2) 120 (by omega) (nI_add _ 2), nm_r (qp_up (t * 30 + n * 3 + 2) (nI_add _ 2) rfl) ?_⟩
  exact ⟨pk_in t 4 (by omega), nm_r (qp_up t rfl (nI_1 n)) H⟩
/-- table t holds the script's first r rows -/
def qp_T (L : Nat) (xs : Nat → Int32) (t r : Nat) (a2 a3 : Nat → Int32) : Prop :=
  a2 t = nI r ∧ ∀ i, i < r → a3 (t * 30 + i * 3 + 0) = qp_V L xs t i 0 ∧ a3 (t * 30 + i * 3 + 1) = qp_V L xs t i 1
theorem qp_fill {post : St1 → Prop} {L : Nat} {xs : Nat → Int32} {f0 f1 f2 f3 f4 f5 f6 f7 f8 : Int32} {a1 a2 a3 a4 a5 a6 a7 a8 a9 a10 a11 a12 a13 a14 a15 a16 a17 a18 a19 a20 a21 a22 a23 a24 a25 a26 a27 a28 a29 a30 : Nat → Int32} {x y : Int32} (t r : Nat) (hL : L ≤ 260) (hx : x = nI t) (hy : y = nI r) (h0 : f0 = nI 2) (ht : t < 2) (hr : r < 5) (hn : a2 t = nI 0)
    (H : ∀ b2 b3 : Nat → Int32, qp_T L xs t r b2 b3 → (∀ j, j ≠ t → b2 j = a2 j) → (∀ j, j < t * 30 → b3 j = a3 j) → post (f0, f1, f2, f3, f4, f5, f6, f7, f8, a1, b2, b3, a4, a5, a6, a7, a8, a9, a10, a11, a12, a13, a14, a15, a16, a17, a18, a19, a20, a21, a22, a23, a24, a25, a26, a27, a28, a29, a30)) : wpL_fill post L xs (f0, f1, f2, f3, f4, f5, f6, f7, f8, a1, a2, a3, a4, a5, a6, a7, a8, a9, a10, a11, a12, a13, a14, a15, a16, a17, a18, a19, a20, a21, a22, a23, a24, a25, a26, a27, a28, a29, a30) x y := by
  subst hx hy
  refine pk_loop (σ := (Nat → Int32) × (Nat → Int32)) (fun n i s => wL_fill_3 post L xs (nI t) (nI r) n (nI i) f0 f1 f2 f3 f4 f5 f6 f7 f8 a1 s.1 s.2 a4 a5 a6 a7 a8 a9 a10 a11 a12 a13 a14 a15 a16 a17 a18 a19 a20 a21 a22 a23 a24 a25 a26 a27 a28 a29 a30)
    (fun i s => qp_T L xs t i s.1 s.2 ∧ (∀ j, j ≠ t → s.1 j = a2 j) ∧ (∀ j, j < t * 30 → s.2 j = a3 j)) r 0 (a2, a3) (by omega)
    ⟨⟨hn, fun i hi => absurd hi (by omega)⟩, fun _ _ => rfl, fun _ _ => rfl⟩
    (fun n s h => pk_le r r (fun _ => H s.1 s.2 h.1 h.2.1 h.2.2) (fun z => absurd z (by omega))) ?_
  intro n i s hi h hw
  obtain ⟨⟨h1, h2⟩, h3, h4⟩ := h
  refine pk_le r i (fun z => absurd z (by omega)) (fun _ => ?_)
  refine qp_value t i 0 hL rfl rfl rfl ht (by omega) (by omega) ?_
  refine qp_value t i 1 hL rfl rfl rfl ht (by omega) (by omega) ?_
  refine qp_addRow t i rfl h0 ht h1 (by omega) ?_
  refine nm_r (nI_1 i) ?_
  refine hw (upd s.1 t (nI (i + 1)), upd (upd (upd s.2 (t * 30 + i * 3) (qp_V L xs t i 0)) (t * 30 + i * 3 + 1) (qp_V L xs t i 1)) (t * 30 + i * 3 + 2) 0) ⟨⟨pk_us, fun j hj => ?_⟩, fun j hj => ?_, fun j hj => ?_⟩
  · dsimp only
    by_cases e : j = i
    · subst e
      constructor
      · rw [pk_un (by omega), pk_un (by omega), qp_us (by omega)]
      · rw [pk_un (by omega), qp_us (by omega)]
    · obtain ⟨g1, g2⟩ := h2 j (by omega)
      constructor
      · rw [pk_un (by omega), pk_un (by omega), pk_un (by omega), g1]
      · rw [pk_un (by omega), pk_un (by omega), pk_un (by omega), g2]
  · show upd s.1 t (nI (i + 1)) j = a2 j
    rw [pk_un hj]
    exact h3 j hj
  · show upd (upd (upd s.2 _ _) _ _) _ _ j = a3 j
    rw [pk_un (by omega), pk_un (by omega), pk_un (by omega)]
    exact h4 j hj
/-! the plan -/
/-- three nodes from b on: two scans and their join, of kind kd, keys kl and kr, width w -/
def qp_PL (b kd kl kr w : Nat) (a4 a5 a6 a7 a8 a9 a10 a11 : Nat → Int32) : Prop :=
  (a4 b = 0 ∧ a4 (b + 1) = 0 ∧ a4 (b + 2) = 5) ∧ (a5 b = -1 ∧ a5 (b + 1) = -1 ∧ a5 (b + 2) = nI b) ∧ (a6 b = -1 ∧ a6 (b + 1) = -1 ∧ a6 (b + 2) = nI (b + 1)) ∧ (a7 b = nI (b + 2) ∧ a7 (b + 1) = nI (b + 2)) ∧ (a8 b = nI 0 ∧ a8 (b + 1) = nI 1 ∧ a8 (b + 2) = nI kd) ∧ a9 (b + 2) = nI kl ∧ a10 (b + 2) = nI kr ∧ (a11 b = nI 2 ∧ a11 (b + 1) = nI 2 ∧ a11 (b + 2) = nI w)
theorem qp_PL_keep {b kd kl kr w : Nat} {a4 a5 a6 a7 a8 a9 a10 a11 b4 b5 b6 b7 b8 b9 b10 b11 : Nat → Int32} (h : qp_PL b kd kl kr w a4 a5 a6 a7 a8 a9 a10 a11)
    (k : ∀ j, j < b + 3 → b4 j = a4 j ∧ b5 j = a5 j ∧ b6 j = a6 j ∧ b7 j = a7 j ∧ b8 j = a8 j ∧ b9 j = a9 j ∧ b10 j = a10 j ∧ b11 j = a11 j) : qp_PL b kd kl kr w b4 b5 b6 b7 b8 b9 b10 b11 := by
  obtain ⟨⟨h1, h2, h3⟩, ⟨h4, h5, h6⟩, ⟨h7, h8, h9⟩, ⟨h10, h11⟩, ⟨h12, h13, h14⟩, h15, h16, ⟨h17, h18, h19⟩⟩ := h
  obtain ⟨k1, k2, k3, k4, k5, k6, k7, k8⟩ := k b (by omega)
  obtain ⟨l1, l2, l3, l4, l5, l6, l7, l8⟩ := k (b + 1) (by omega)
  obtain ⟨m1, m2, m3, m4, m5, m6, m7, m8⟩ := k (b + 2) (by omega)
  exact ⟨⟨k1.trans h1, l1.trans h2, m1.trans h3⟩, ⟨k2.trans h4, l2.trans h5, m2.trans h6⟩, ⟨k3.trans h7, l3.trans h8, m3.trans h9⟩, ⟨k4.trans h10, l4.trans h11⟩, ⟨k5.trans h12, l5.trans h13, m5.trans h14⟩, m6.trans h15, m7.trans h16, ⟨k8.trans h17, l8.trans h18, m8.trans h19⟩⟩
theorem qp_params {post : St1 → Prop} {f0 f1 f2 f3 f4 f5 f6 f7 f8 : Int32} {a1 a2 a3 a4 a5 a6 a7 a8 a9 a10 a11 a12 a13 a14 a15 a16 a17 a18 a19 a20 a21 a22 a23 a24 a25 a26 a27 a28 a29 a30 : Nat → Int32} {x p1 p2 p3 : Int32} (n : Nat) (hx : x = nI n) (hn : n < 12) (H : post (f0, f1, f2, f3, f4, f5, f6, f7, f8, a1, a2, a3, a4, a5, a6, a7, upd a8 n p1, upd a9 n p2, upd a10 n p3, a11, a12, a13, a14, a15, a16, a17, a18, a19, a20, a21, a22, a23, a24, a25, a26, a27, a28, a29, a30)) : wpX_params post (f0, f1, f2, f3, f4, f5, f6, f7, f8, a1, a2, a3, a4, a5, a6, a7, a8, a9, a10, a11, a12, a13, a14, a15, a16, a17, a18, a19, a20, a21, a22, a23, a24, a25, a26, a27, a28, a29, a30) x p1 p2 p3 := by
  subst hx
  exact ⟨pk_in n 12 hn, nm_r (qp_up n rfl rfl) ⟨pk_in n 12 hn, nm_r (qp_up n rfl rfl) ⟨pk_in n 12 hn, nm_r (qp_up n rfl rfl) H⟩⟩⟩
theorem qp_add1 {post : Int32 → St1 → Prop} {f0 f1 f2 f3 f4 f5 f6 f7 f8 : Int32} {a1 a2 a3 a4 a5 a6 a7 a8 a9 a10 a11 a12 a13 a14 a15 a16 a17 a18 a19 a20 a21 a22 a23 a24 a25 a26 a27 a28 a29 a30 : Nat → Int32} {p0 p3 : Int32} (n : Nat) (h1 : f1 = nI n) (hn : n < 12)
    (H : post (nI n) (f0, nI (n + 1), f2, f3, f4, f5, f6, f7, f8, a1, a2, a3, upd a4 n p0, upd a5 n (-1), upd a6 n (-1), upd a7 n (-1), a8, a9, a10, upd a11 n p3, a12, a13, a14, a15, a16, a17, a18, a19, a20, a21, a22, a23, a24, a25, a26, a27, a28, a29, a30)) : wpX_add post (f0, f1, f2, f3, f4, f5, f6, f7, f8, a1, a2, a3, a4, a5, a6, a7, a8, a9, a10, a11, a12, a13, a14, a15, a16, a17, a18, a19, a20, a21, a22, a23, a24, a25, a26, a27, a28, a29, a30) p0 (-1) (-1) p3 := by
  subst h1
  refine ⟨pk_in n 12 hn, nm_r (qp_up n rfl rfl) ⟨pk_in n 12 hn, nm_r (qp_up n rfl rfl) ⟨pk_in n 12 hn, nm_r (qp_up n rfl rfl) ⟨pk_in n 12 hn, nm_r (qp_up n rfl rfl) ⟨pk_in n 12 hn, nm_r (qp_up n rfl rfl) ?_⟩⟩⟩⟩⟩
  exact br_t (by decide) (br_t (by decide) (nm_r (nI_1 n) H))
theorem qp_add2 {post : Int32 → St1 → Prop} {f0 f1 f2 f3 f4 f5 f6 f7 f8 : Int32} {a1 a2 a3 a4 a5 a6 a7 a8 a9 a10 a11 a12 a13 a14 a15 a16 a17 a18 a19 a20 a21 a22 a23 a24 a25 a26 a27 a28 a29 a30 : Nat → Int32} {p0 p3 : Int32} (n l r : Nat) (h1 : f1 = nI n) (hn : n < 12) (hl : l < 12) (hr : r < 12)
    (H : post (nI n) (f0, nI (n + 1), f2, f3, f4, f5, f6, f7, f8, a1, a2, a3, upd a4 n p0, upd a5 n (nI l), upd a6 n (nI r), upd (upd (upd a7 n (-1)) l (nI n)) r (nI n), a8, a9, a10, upd a11 n p3, a12, a13, a14, a15, a16, a17, a18, a19, a20, a21, a22, a23, a24, a25, a26, a27, a28, a29, a30)) : wpX_add post (f0, f1, f2, f3, f4, f5, f6, f7, f8, a1, a2, a3, a4, a5, a6, a7, a8, a9, a10, a11, a12, a13, a14, a15, a16, a17, a18, a19, a20, a21, a22, a23, a24, a25, a26, a27, a28, a29, a30) p0 (nI l) (nI r) p3 := by
  subst h1
  refine ⟨pk_in n 12 hn, nm_r (qp_up n rfl rfl) ⟨pk_in n 12 hn, nm_r (qp_up n rfl rfl) ⟨pk_in n 12 hn, nm_r (qp_up n rfl rfl) ⟨pk_in n 12 hn, nm_r (qp_up n rfl rfl) ⟨pk_in n 12 hn, nm_r (qp_up n rfl rfl) ?_⟩⟩⟩⟩⟩
  refine br_f (nI_pos (by omega)) ⟨pk_in l 12 hl, nm_r (qp_up l rfl rfl) ?_⟩
  exact br_f (nI_pos (by omega)) ⟨pk_in r 12 hr, nm_r (qp_up r rfl rfl) (nm_r (nI_1 n) H)⟩
theorem qp_scan {post : Int32 → St1 → Prop} {f0 f1 f2 f3 f4 f5 f6 f7 f8 : Int32} {a1 a2 a3 a4 a5 a6 a7 a8 a9 a10 a11 a12 a13 a14 a15 a16 a17 a18 a19 a20 a21 a22 a23 a24 a25 a26 a27 a28 a29 a30 : Nat → Int32} {x : Int32} (t n : Nat) (hx : x = nI t) (h0 : f0 = nI 2) (ht : t < 2) (h1 : f1 = nI n) (hn : n < 12) (hw : a1 t = nI 2)
    (H : post (nI n) (f0, nI (n + 1), f2, f3, f4, f5, f6, f7, f8, a1, a2, a3, upd a4 n 0, upd a5 n (-1), upd a6 n (-1), upd a7 n (-1), upd a8 n (nI t), upd a9 n 0, upd a10 n 0, upd a11 n (nI 2), a12, a13, a14, a15, a16, a17, a18, a19, a20, a21, a22, a23, a24, a25, a26, a27, a28, a29, a30)) : wpX_scan post (f0, f1, f2, f3, f4, f5, f6, f7, f8, a1, a2, a3, a4, a5, a6, a7, a8, a9, a10, a11, a12, a13, a14, a15, a16, a17, a18, a19, a20, a21, a22, a23, a24, a25, a26, a27, a28, a29, a30) x := by
  subst hx
  refine pk_lt n 12 (fun _ => ?_) (fun z => absurd z (by omega)) h1 rfl
  refine qp_noTable t rfl h0 ht ?_
  refine br_t rfl ⟨pk_in t 4 (by omega), ?_⟩
  rw [qp_rd t rfl hw]
  refine qp_add1 n h1 hn ?_
  exact qp_params n rfl hn H
theorem qp_noNode {post : Int32 → Prop} {f0 f1 f2 f3 f4 f5 f6 f7 f8 : Int32} {a1 a2 a3 a4 a5 a6 a7 a8 a9 a10 a11 a12 a13 a14 a15 a16 a17 a18 a19 a20 a21 a22 a23 a24 a25 a26 a27 a28 a29 a30 : Nat → Int32} {x : Int32} (k n : Nat) (hx : x = nI k) (h1 : f1 = nI n) (hk : k < n) (hn : n < 100) (H : post 0) : wpX_noNode post (f0, f1, f2, f3, f4, f5, f6, f7, f8, a1, a2, a3, a4, a5, a6, a7, a8, a9, a10, a11, a12, a13, a14, a15, a16, a17, a18, a19, a20, a21, a22, a23, a24, a25, a26, a27, a28, a29, a30) x := by
  subst hx h1
  exact br_f (nI_pos (by omega)) (br_t (nI_lt hk (by omega)) H)
theorem qp_noColumn {post : Int32 → Prop} {f0 f1 f2 f3 f4 f5 f6 f7 f8 : Int32} {a1 a2 a3 a4 a5 a6 a7 a8 a9 a10 a11 a12 a13 a14 a15 a16 a17 a18 a19 a20 a21 a22 a23 a24 a25 a26 a27 a28 a29 a30 : Nat → Int32} {x y : Int32} (k c w : Nat) (hx : x = nI k) (hy : y = nI c) (hk : k < 12) (hw : a11 k = nI w) (hc : c < w) (hw9 : w < 9) (H : post 0) : wpX_noColumn post (f0, f1, f2, f3, f4, f5, f6, f7, f8, a1, a2, a3, a4, a5, a6, a7, a8, a9, a10, a11, a12, a13, a14, a15, a16, a17, a18, a19, a20, a21, a22, a23, a24, a25, a26, a27, a28, a29, a30) x y := by
  subst hx hy
  refine br_f (nI_pos (by omega)) ⟨pk_in k 12 hk, ?_⟩
  exact br_t (by rw [qp_rd k rfl hw]; exact nI_lt hc (by omega)) H
theorem qp_pairFault {post : Int32 → Prop} {f0 f1 f2 f3 f4 f5 f6 f7 f8 : Int32} {a1 a2 a3 a4 a5 a6 a7 a8 a9 a10 a11 a12 a13 a14 a15 a16 a17 a18 a19 a20 a21 a22 a23 a24 a25 a26 a27 a28 a29 a30 : Nat → Int32} {x y : Int32} (n l r : Nat) (hx : x = nI l) (hy : y = nI r) (h1 : f1 = nI n) (hn : n < 12) (hl : l < n) (hr : r < n) (hlr : l ≠ r) (pl : a7 l = -1) (pr : a7 r = -1) (H : post 0) : wpX_pairFault post (f0, f1, f2, f3, f4, f5, f6, f7, f8, a1, a2, a3, a4, a5, a6, a7, a8, a9, a10, a11, a12, a13, a14, a15, a16, a17, a18, a19, a20, a21, a22, a23, a24, a25, a26, a27, a28, a29, a30) x y := by
  subst hx hy
  refine pk_lt n 12 (fun _ => ?_) (fun z => absurd z (by omega)) h1 rfl
  refine qp_noNode l n rfl h1 hl (by omega) (br_t rfl ?_)
  refine qp_noNode r n rfl h1 hr (by omega) (br_t rfl ?_)
  refine ⟨pk_in l 12 (by omega), br_f (by rw [qp_rd l rfl pl]; decide) ⟨pk_in r 12 (by omega), br_f (by rw [qp_rd r rfl pr]; decide) ?_⟩⟩
  exact pk_eq l r (fun z => absurd z hlr) (fun _ => H)
theorem qp_keyL : ∀ kl : Nat, kl < 2 → ∀ kr : Nat, kr < 2 → (nI kl + (8 * nI kr)) &&& 7 = nI kl ∧ ((nI kl + (8 * nI kr)) >>> ((3 : Int32) &&& 31)) &&& 7 = nI kr := by decide +kernel
def qp_w (kd : Nat) : Nat := if kd = 2 then 2 else 4
theorem qp_joinP {post : Int32 → St1 → Prop} {f0 f1 f2 f3 f4 f5 f6 f7 f8 : Int32} {a1 a2 a3 a4 a5 a6 a7 a8 a9 a10 a11 a12 a13 a14 a15 a16 a17 a18 a19 a20 a21 a22 a23 a24 a25 a26 a27 a28 a29 a30 : Nat → Int32} {x y z v : Int32} (b kd kl kr : Nat) (hx : x = nI b) (hy : y = nI (b + 1)) (hz : z = nI kl + (8 * nI kr)) (hv : v = nI kd) (h1 : f1 = nI (b + 2)) (hb : b ≤ 3) (hkd : kd = 0 ∨ kd = 2 ∨ kd = 3) (hkl : kl < 2) (hkr : kr < 2)
    (pl : a7 b = -1) (pr : a7 (b + 1) = -1) (wl : a11 b = nI 2) (wr : a11 (b + 1) = nI 2)
    (H : post (nI (b + 2)) (f0, nI (b + 3), f2, f3, f4, f5, f6, f7, f8, a1, a2, a3, upd a4 (b + 2) 5, upd a5 (b + 2) (nI b), upd a6 (b + 2) (nI (b + 1)), upd (upd (upd a7 (b + 2) (-1)) b (nI (b + 2))) (b + 1) (nI (b + 2)), upd a8 (b + 2) (nI kd), upd a9 (b + 2) (nI kl), upd a10 (b + 2) (nI kr), upd a11 (b + 2) (nI (qp_w kd)), a12, a13, a14, a15, a16, a17, a18, a19, a20, a21, a22, a23, a24, a25, a26, a27, a28, a29, a30)) : wpX_join post (f0, f1, f2, f3, f4, f5, f6, f7, f8, a1, a2, a3, a4, a5, a6, a7, a8, a9, a10, a11, a12, a13, a14, a15, a16, a17, a18, a19, a20, a21, a22, a23, a24, a25, a26, a27, a28, a29, a30) x y z v := by
  subst hx hy hz hv
  obtain ⟨k1, k2⟩ := qp_keyL kl hkl kr hkr
  unfold wpX_join
  refine qp_pairFault (b + 2) b (b + 1) rfl rfl h1 (by omega) (by omega) (by omega) (by omega) pl pr ?_
  refine br_t rfl (br_f (nI_pos (by omega)) (br_t (nI_le (b := 3) (by omega) (by decide)) (nm_r k1 (nm_r k2 ?_))))
  refine qp_noColumn b kl 2 rfl rfl (by omega) wl hkl (by omega) (br_t rfl ?_)
  refine qp_noColumn (b + 1) kr 2 rfl rfl (by omega) wr hkr (by omega) (br_t rfl ?_)
  refine ⟨pk_in b 12 (by omega), nm_r (qp_rd b rfl wl) ?_⟩
  have H4 : kd ≠ 2 → wX_join_86 post (nI b) (nI (b + 1)) (nI kd) (nI kl) (nI kr) (nI 2) f0 f1 f2 f3 f4 f5 f6 f7 f8 a1 a2 a3 a4 a5 a6 a7 a8 a9 a10 a11 a12 a13 a14 a15 a16 a17 a18 a19 a20 a21 a22 a23 a24 a25 a26 a27 a28 a29 a30 := by
    intro hk
    refine ⟨pk_in (b + 1) 12 (by omega), nm_r (e' := nI 4) (by rw [qp_rd (b + 1) rfl wr]; rfl) (br_t (by decide) ?_)⟩
    refine qp_add2 (b + 2) b (b + 1) h1 (by omega) (by omega) (by omega) ?_
    refine qp_params (b + 2) rfl (by omega) ?_
    have e : qp_w kd = 4 := if_neg hk
    rw [e] at H
    exact H
  rcases hkd with h | h | h
  · subst h
    exact br_t rfl (H4 (by decide))
  · subst h
    refine br_f (by decide) (br_f (by decide) (br_t (by decide) ?_))
    refine qp_add2 (b + 2) b (b + 1) h1 (by omega) (by omega) (by omega) ?_
    exact qp_params (b + 2) rfl (by omega) H
  · subst h
    exact br_f (by decide) (br_t rfl (H4 (by decide)))
theorem qp_plan {post : Int32 → St1 → Prop} {f0 f1 f2 f3 f4 f5 f6 f7 f8 : Int32} {a1 a2 a3 a4 a5 a6 a7 a8 a9 a10 a11 a12 a13 a14 a15 a16 a17 a18 a19 a20 a21 a22 a23 a24 a25 a26 a27 a28 a29 a30 : Nat → Int32} {z v : Int32} (b kd kl kr : Nat) (hz : z = nI kl + (8 * nI kr)) (hv : v = nI kd) (h0 : f0 = nI 2) (h1 : f1 = nI b) (hb : b ≤ 3) (hkd : kd = 0 ∨ kd = 2 ∨ kd = 3) (hkl : kl < 2) (hkr : kr < 2) (w0 : a1 0 = nI 2) (w1 : a1 1 = nI 2)
    (H : ∀ b4 b5 b6 b7 b8 b9 b10 b11 : Nat → Int32, qp_PL b kd kl kr (qp_w kd) b4 b5 b6 b7 b8 b9 b10 b11 → (∀ j, j < b → b4 j = a4 j ∧ b5 j = a5 j ∧ b6 j = a6 j ∧ b7 j = a7 j ∧ b8 j = a8 j ∧ b9 j = a9 j ∧ b10 j = a10 j ∧ b11 j = a11 j) → post (nI (b + 2)) (f0, nI (b + 3), f2, f3, f4, f5, f6, f7, f8, a1, a2, a3, b4, b5, b6, b7, b8, b9, b10, b11, a12, a13, a14, a15, a16, a17, a18, a19, a20, a21, a22, a23, a24, a25, a26, a27, a28, a29, a30)) : wpL_plan post (f0, f1, f2, f3, f4, f5, f6, f7, f8, a1, a2, a3, a4, a5, a6, a7, a8, a9, a10, a11, a12, a13, a14, a15, a16, a17, a18, a19, a20, a21, a22, a23, a24, a25, a26, a27, a28, a29, a30) z v := by
  unfold wpL_plan
  refine qp_scan 0 b rfl h0 (by omega) h1 (by omega) w0 ?_
  refine qp_scan 1 (b + 1) rfl h0 (by omega) rfl (by omega) w1 ?_
  refine qp_joinP b kd kl kr rfl rfl hz hv rfl hb hkd hkl hkr ?_ pk_us ?_ pk_us ?_
  · rw [pk_un (by omega)]; exact pk_us
  · rw [pk_un (by omega)]; exact pk_us
  · refine H _ _ _ _ _ _ _ _ ⟨⟨?_, ?_, pk_us⟩, ⟨?_, ?_, pk_us⟩, ⟨?_, ?_, pk_us⟩, ⟨?_, pk_us⟩, ⟨?_, ?_, pk_us⟩, pk_us, pk_us, ⟨?_, ?_, pk_us⟩⟩ (fun j hj => ⟨?_, ?_, ?_, ?_, ?_, ?_, ?_, ?_⟩)
    all_goals ((repeat rw [pk_un (by omega)]) <;> first | exact pk_us | rfl | skip)
end
section
/-! the constructor -/
theorem qp_init {post : St1 → Prop} {x : Int32} (hx : x = nI 2) (H : ∀ b1 : Nat → Int32, (∀ j, j < 4 → b1 j = nI 2) → post (nI 2, 0, 0, 0, 0, 0, 0, 0, 0, b1, fun _ => 0, fun _ => 0, fun _ => 0, fun _ => 0, fun _ => 0, fun _ => 0, fun _ => 0, fun _ => 0, fun _ => 0, fun _ => 0, fun _ => 0, fun _ => 0, fun _ => 0, fun _ => 0, fun _ => 0, fun _ => 0, fun _ => 0, fun _ => 0, fun _ => 0, fun _ => 0, fun _ => 0, fun _ => 0, fun _ => 0, fun _ => 0, fun _ => 0, fun _ => 0, fun _ => 0, fun _ => 0, fun _ => 0)) : wpX_init post 30 3652 (0, 0, 0, 0, 0, 0, 0, 0, 0) x := by
  subst hx
  have main : ∃ n, wX_init_273 post 30 3652 30 3652 2 0 0 0 0 0 0 0 0 n (nI 0) (fun _ => 0) (fun _ => 0) (fun _ => 0) (fun _ => 0) (fun _ => 0) (fun _ => 0) (fun _ => 0) (fun _ => 0) (fun _ => 0) (fun _ => 0) (fun _ => 0) (fun _ => 0) (fun _ => 0) (fun _ => 0) (fun _ => 0) (fun _ => 0) (fun _ => 0) (fun _ => 0) (fun _ => 0) (fun _ => 0) (fun _ => 0) (fun _ => 0) (fun _ => 0) (fun _ => 0) (fun _ => 0) (fun _ => 0) (fun _ => 0) (fun _ => 0) (fun _ => 0) (fun _ => 0) := by
    refine pk_loop (σ := Nat → Int32) (fun n i s => wX_init_273 post 30 3652 30 3652 2 0 0 0 0 0 0 0 0 n (nI i) s (fun _ => 0) (fun _ => 0) (fun _ => 0) (fun _ => 0) (fun _ => 0) (fun _ => 0) (fun _ => 0) (fun _ => 0) (fun _ => 0) (fun _ => 0) (fun _ => 0) (fun _ => 0) (fun _ => 0) (fun _ => 0) (fun _ => 0) (fun _ => 0) (fun _ => 0) (fun _ => 0) (fun _ => 0) (fun _ => 0) (fun _ => 0) (fun _ => 0) (fun _ => 0) (fun _ => 0) (fun _ => 0) (fun _ => 0) (fun _ => 0) (fun _ => 0) (fun _ => 0)) (fun i s => ∀ j, j < i → s j = nI 2) 4 0 _ (by omega) (fun j hj => absurd hj (by omega)) ?_ ?_
    · intro n s h
      exact pk_le 4 4 (fun _ => H s h) (fun z => absurd z (by omega))
    · intro n i s hi h hw
      refine pk_le 4 i (fun z => absurd z (by omega)) (fun _ => ⟨pk_in i 4 hi, nm_r (qp_up i rfl rfl) (nm_r (nI_1 i) (hw _ (fun j hj => ?_)))⟩)
      by_cases e : j = i
      · rw [e, pk_us]; rfl
      · rw [pk_un e]; exact h j (by omega)
  refine ⟨by decide, by decide, by decide, by decide, by decide, by decide, by decide, by decide, by decide, by decide, by decide, by decide, by decide, by decide, by decide, by decide, by decide, by decide, by decide, by decide, by decide, by decide, by decide, by decide, by decide, by decide, by decide, by decide, by decide, by decide, by decide, by decide, by decide, by decide, by decide, by decide, by decide, by decide, by decide, by decide, by decide, by decide, by decide, by decide, by decide, by decide, by decide, by decide, by decide, by decide, by decide, by decide, by decide, by decide, by decide, by decide, by decide, by decide, by decide, by decide, ?_⟩
  exact br_t (by decide) (br_t (by decide) main)
end
section
/-! the compiler -/
theorem qp_put0 {post : St1 → Prop} {f0 f1 f2 f3 f4 f5 f6 f7 f8 : Int32} {a1 a2 a3 a4 a5 a6 a7 a8 a9 a10 a11 a12 a13 a14 a15 a16 a17 a18 a19 a20 a21 a22 a23 a24 a25 a26 a27 a28 a29 a30 : Nat → Int32} {o x y z : Int32} (c : Nat) (h2 : f2 = nI c) (h6 : f6 = nI 0) (hc : c < 192)
    (H : post (f0, f1, nI (c + 1), f3, f4, f5, f6, f7, f8, a1, a2, a3, a4, a5, a6, a7, a8, a9, a10, a11, a12, a13, upd a14 c o, upd a15 c x, upd a16 c y, upd a17 c z, upd a18 c 0, a19, a20, a21, a22, a23, a24, a25, a26, a27, a28, a29, a30)) : wpX_put post (f0, f1, f2, f3, f4, f5, f6, f7, f8, a1, a2, a3, a4, a5, a6, a7, a8, a9, a10, a11, a12, a13, a14, a15, a16, a17, a18, a19, a20, a21, a22, a23, a24, a25, a26, a27, a28, a29, a30) o x y z := by
  subst h2 h6
  refine ⟨pk_in c 192 hc, nm_r (qp_up c rfl rfl) ⟨pk_in c 192 hc, nm_r (qp_up c rfl rfl) ⟨pk_in c 192 hc, nm_r (qp_up c rfl rfl) ⟨pk_in c 192 hc, nm_r (qp_up c rfl rfl) ?_⟩⟩⟩⟩
  exact br_t (by decide) ⟨pk_in c 192 hc, nm_r (qp_up c rfl rfl) (nm_r (nI_1 c) H)⟩
theorem qp_put1 {post : St1 → Prop} {f0 f1 f2 f3 f4 f5 f6 f7 f8 : Int32} {a1 a2 a3 a4 a5 a6 a7 a8 a9 a10 a11 a12 a13 a14 a15 a16 a17 a18 a19 a20 a21 a22 a23 a24 a25 a26 a27 a28 a29 a30 : Nat → Int32} {o x y z : Int32} (c l h : Nat) (h2 : f2 = nI c) (h6 : f6 = nI (l + 1)) (hc : c < 192) (hl : l < 8) (hh : a19 l = nI h)
    (H : post (f0, f1, nI (c + 1), f3, f4, f5, f6, f7, f8, a1, a2, a3, a4, a5, a6, a7, a8, a9, a10, a11, a12, a13, upd a14 c o, upd a15 c x, upd a16 c y, upd a17 c z, upd a18 c (nI h), a19, a20, a21, a22, a23, a24, a25, a26, a27, a28, a29, a30)) : wpX_put post (f0, f1, f2, f3, f4, f5, f6, f7, f8, a1, a2, a3, a4, a5, a6, a7, a8, a9, a10, a11, a12, a13, a14, a15, a16, a17, a18, a19, a20, a21, a22, a23, a24, a25, a26, a27, a28, a29, a30) o x y z := by
  subst h2 h6
  refine ⟨pk_in c 192 hc, nm_r (qp_up c rfl rfl) ⟨pk_in c 192 hc, nm_r (qp_up c rfl rfl) ⟨pk_in c 192 hc, nm_r (qp_up c rfl rfl) ⟨pk_in c 192 hc, nm_r (qp_up c rfl rfl) ?_⟩⟩⟩⟩
  refine br_f (nI_nle (by omega) (by omega)) ⟨pk_in l 8 hl (nI_pred l), ⟨pk_in c 192 hc, nm_r (qp_up c rfl (qp_rd l (nI_pred l) hh)) (nm_r (nI_1 c) H)⟩⟩
theorem qp_openL {post : St1 → Prop} {f0 f1 f2 f3 f4 f5 f6 f7 f8 : Int32} {a1 a2 a3 a4 a5 a6 a7 a8 a9 a10 a11 a12 a13 a14 a15 a16 a17 a18 a19 a20 a21 a22 a23 a24 a25 a26 a27 a28 a29 a30 : Nat → Int32} (l : Nat) (h6 : f6 = nI l) (hl : l < 8) (H : post (f0, f1, f2, f3, f4, f5, nI (l + 1), f7, f8, a1, a2, a3, a4, a5, a6, a7, a8, a9, a10, a11, a12, a13, a14, a15, a16, a17, a18, upd a19 l f2, a20, a21, a22, a23, a24, a25, a26, a27, a28, a29, a30)) : wpX_openLoop post (f0, f1, f2, f3, f4, f5, f6, f7, f8, a1, a2, a3, a4, a5, a6, a7, a8, a9, a10, a11, a12, a13, a14, a15, a16, a17, a18, a19, a20, a21, a22, a23, a24, a25, a26, a27, a28, a29, a30) := by
  subst h6
  exact ⟨pk_in l 8 hl, nm_r (qp_up l rfl rfl) (nm_r (nI_1 l) H)⟩
theorem qp_app2 {post : St1 → Prop} {f0 f1 f2 f3 f4 f5 f6 f7 f8 : Int32} {a1 a2 a3 a4 a5 a6 a7 a8 a9 a10 a11 a12 a13 a14 a15 a16 a17 a18 a19 a20 a21 a22 a23 a24 a25 a26 a27 a28 a29 a30 : Nat → Int32} {x : Int32} (hx : x = nI 2) (H : wX_appendColumns_2 post (nI 2) f0 f1 f2 f6 f7 f8 a1 a2 a3 a4 a5 a6 a7 a8 a9 a10 a11 a12 a13 a14 a15 a16 a17 a18 a19 a20 a21 a22 a23 a24 a25 a26 a27 a28 a29 a30 3 0 f3 f4 f5) : wpX_appendColumns post (f0, f1, f2, f3, f4, f5, f6, f7, f8, a1, a2, a3, a4, a5, a6, a7, a8, a9, a10, a11, a12, a13, a14, a15, a16, a17, a18, a19, a20, a21, a22, a23, a24, a25, a26, a27, a28, a29, a30) x := by
  subst hx
  exact ⟨3, H⟩
theorem qp_app2a {post : St1 → Prop} {f0 f1 f2 f3 f4 f5 f6 f7 f8 : Int32} {a1 a2 a3 a4 a5 a6 a7 a8 a9 a10 a11 a12 a13 a14 a15 a16 a17 a18 a19 a20 a21 a22 a23 a24 a25 a26 a27 a28 a29 a30 : Nat → Int32} {x : Int32} (hx : x = nI 2) (h3 : f3 = nI 0) (h4 : f4 = nI 0) (h5 : f5 = nI 0) (H : post (f0, f1, f2, nI 32, nI 2, nI 2, f6, f7, f8, a1, a2, a3, a4, a5, a6, a7, a8, a9, a10, a11, a12, a13, a14, a15, a16, a17, a18, a19, a20, a21, a22, a23, a24, a25, a26, a27, a28, a29, a30)) : wpX_appendColumns post (f0, f1, f2, f3, f4, f5, f6, f7, f8, a1, a2, a3, a4, a5, a6, a7, a8, a9, a10, a11, a12, a13, a14, a15, a16, a17, a18, a19, a20, a21, a22, a23, a24, a25, a26, a27, a28, a29, a30) x := by
  subst h3 h4 h5
  refine qp_app2 hx ?_
  refine br_f (by decide) (br_f (by decide) ?_)
  refine nm_r (e' := nI 1) (by decide) (nm_r (e' := nI 0) (by decide) (nm_r (e' := nI 1) (by decide) (nm_r (e' := nI 1) (by decide) ?_)))
  refine br_f (by decide) (br_f (by decide) ?_)
  refine nm_r (e' := nI 2) (by decide) (nm_r (e' := nI 32) (by decide) (nm_r (e' := nI 2) (by decide) (nm_r (e' := nI 2) (by decide) ?_)))
  exact br_t (by decide) H
theorem qp_app2b {post : St1 → Prop} {f0 f1 f2 f3 f4 f5 f6 f7 f8 : Int32} {a1 a2 a3 a4 a5 a6 a7 a8 a9 a10 a11 a12 a13 a14 a15 a16 a17 a18 a19 a20 a21 a22 a23 a24 a25 a26 a27 a28 a29 a30 : Nat → Int32} {x : Int32} (hx : x = nI 2) (h3 : f3 = nI 32) (h4 : f4 = nI 2) (h5 : f5 = nI 2) (H : post (f0, f1, f2, nI 100384, nI 4, nI 4, f6, f7, f8, a1, a2, a3, a4, a5, a6, a7, a8, a9, a10, a11, a12, a13, a14, a15, a16, a17, a18, a19, a20, a21, a22, a23, a24, a25, a26, a27, a28, a29, a30)) : wpX_appendColumns post (f0, f1, f2, f3, f4, f5, f6, f7, f8, a1, a2, a3, a4, a5, a6, a7, a8, a9, a10, a11, a12, a13, a14, a15, a16, a17, a18, a19, a20, a21, a22, a23, a24, a25, a26, a27, a28, a29, a30) x := by
  subst h3 h4 h5
  refine qp_app2 hx ?_
  refine br_f (by decide) (br_f (by decide) ?_)
  refine nm_r (e' := nI 3) (by decide) (nm_r (e' := nI 2080) (by decide) (nm_r (e' := nI 3) (by decide) (nm_r (e' := nI 1) (by decide) ?_)))
  refine br_f (by decide) (br_f (by decide) ?_)
  refine nm_r (e' := nI 4) (by decide) (nm_r (e' := nI 100384) (by decide) (nm_r (e' := nI 4) (by decide) (nm_r (e' := nI 2) (by decide) ?_)))
  exact br_t (by decide) H
theorem qp_closeL {post : St1 → Prop} {f0 f1 f2 f3 f4 f5 f6 f7 f8 : Int32} {a1 a2 a3 a4 a5 a6 a7 a8 a9 a10 a11 a12 a13 a14 a15 a16 a17 a18 a19 a20 a21 a22 a23 a24 a25 a26 a27 a28 a29 a30 : Nat → Int32} {x : Int32} (c i l h g : Nat) (hx : x = nI i) (h2 : f2 = nI c) (h6 : f6 = nI (l + 1)) (hc : c < 192) (hl : l < 8) (hi : i < 8) (hh : a19 i = nI h) (hg : a19 l = nI g) (hh2 : h < 192)
    (H : post (f0, f1, nI (c + 1), f3, f4, f5, f6, f7, f8, a1, a2, a3, a4, a5, a6, a7, a8, a9, a10, a11, a12, a13, upd a14 c 15, upd a15 c 0, upd a16 c 0, upd a17 c 0, upd (upd (upd a18 c (nI g)) c (nI h)) h (nI (c + 1)), a19, a20, a21, a22, a23, a24, a25, a26, a27, a28, a29, a30)) : wpX_closeLoop post (f0, f1, f2, f3, f4, f5, f6, f7, f8, a1, a2, a3, a4, a5, a6, a7, a8, a9, a10, a11, a12, a13, a14, a15, a16, a17, a18, a19, a20, a21, a22, a23, a24, a25, a26, a27, a28, a29, a30) x := by
  subst hx
  refine ⟨pk_in i 8 hi, nm_r (qp_rd i rfl hh) ?_⟩
  refine qp_put1 c l g h2 h6 hc hl hg ?_
  exact ⟨pk_in c 192 hc (nI_pred c), nm_r (qp_up c (nI_pred c) rfl) ⟨pk_in h 192 hh2, nm_r (qp_up h rfl rfl) H⟩⟩
end
section
/-! the two pipelines -/
/-- rows 0 to 3 of the program: the right table is kept -/
def qp_K4 (b : Nat) (c14 c15 c16 c17 c18 : Nat → Int32) : Prop :=
  (c14 0 = 1 ∧ c15 0 = nI 0) ∧ (c14 1 = 2 ∧ c15 1 = nI 0 ∧ c16 1 = nI (b + 1) ∧ c17 1 = nI 32 ∧ c18 1 = nI 4) ∧ (c14 2 = 11 ∧ c15 2 = nI (b + 2) ∧ c16 2 = nI 2 ∧ c17 2 = nI 32) ∧ (c14 3 = 15 ∧ c18 3 = nI 1)
/-- rows 4 and 5: the left table is fetched, then row x -/
def qp_K5 (b x : Nat) (c14 c15 c16 c17 c18 : Nat → Int32) : Prop :=
  (c14 4 = 1 ∧ c15 4 = nI 0) ∧ (c14 5 = 2 ∧ c15 5 = nI 0 ∧ c16 5 = nI b ∧ c17 5 = nI 32 ∧ c18 5 = nI x)
def qp_KM (b kl : Nat) (c14 c15 c16 c17 c18 : Nat → Int32) : Prop :=
  (c14 6 = 6 ∧ c15 6 = nI 1 ∧ c16 6 = nI (b + 2) ∧ c17 6 = nI kl) ∧ (c14 7 = 7 ∧ c15 7 = nI 1 ∧ c16 7 = nI (b + 2) ∧ c17 7 = nI 98 ∧ c18 7 = nI 10) ∧ (c14 8 = 14 ∧ c16 8 = nI 4 ∧ c17 8 = nI 100384) ∧ (c14 9 = 15 ∧ c18 9 = nI 7) ∧ (c14 10 = 15 ∧ c18 10 = nI 5)
def qp_KX (b kl : Nat) (c14 c15 c16 c17 c18 : Nat → Int32) : Prop :=
  (c14 6 = 8 ∧ c15 6 = nI (b + 2) ∧ c16 6 = nI kl ∧ c17 6 = 0 ∧ c18 6 = nI 5) ∧ (c14 7 = 14 ∧ c16 7 = nI 2 ∧ c17 7 = nI 32) ∧ (c14 8 = 15 ∧ c18 8 = nI 5)
def qp_lo (n : Nat) (a14 a15 a16 a17 a18 c14 c15 c16 c17 c18 : Nat → Int32) : Prop := ∀ j, j < n → c14 j = a14 j ∧ c15 j = a15 j ∧ c16 j = a16 j ∧ c17 j = a17 j ∧ c18 j = a18 j
theorem qp_lo_K4 {b n : Nat} {a14 a15 a16 a17 a18 c14 c15 c16 c17 c18 : Nat → Int32} (hn : 4 ≤ n) (h : qp_K4 b a14 a15 a16 a17 a18) (k : qp_lo n a14 a15 a16 a17 a18 c14 c15 c16 c17 c18) : qp_K4 b c14 c15 c16 c17 c18 := by
  obtain ⟨⟨h1, h2⟩, ⟨h3, h4, h5, h6, h7⟩, ⟨h8, h9, h10, h11⟩, ⟨h12, h13⟩⟩ := h
  obtain ⟨p1, p2, p3, p4, p5⟩ := k 0 (by omega)
  obtain ⟨q1, q2, q3, q4, q5⟩ := k 1 (by omega)
  obtain ⟨r1, r2, r3, r4, r5⟩ := k 2 (by omega)
  obtain ⟨s1, s2, s3, s4, s5⟩ := k 3 (by omega)
  exact ⟨⟨p1.trans h1, p2.trans h2⟩, ⟨q1.trans h3, q2.trans h4, q3.trans h5, q4.trans h6, q5.trans h7⟩, ⟨r1.trans h8, r2.trans h9, r3.trans h10, r4.trans h11⟩, ⟨s1.trans h12, s5.trans h13⟩⟩
theorem qp_un3 {f : Nat → Int32} {k j : Nat} {x : Int32} (h : j < k) : upd f k x j = f j := pk_un (by omega)
theorem qp_pipeK {post : St1 → Prop} {f0 f1 f2 f3 f4 f5 f6 f7 f8 : Int32} {a1 a2 a3 a4 a5 a6 a7 a8 a9 a10 a11 a12 a13 a14 a15 a16 a17 a18 a19 a20 a21 a22 a23 a24 a25 a26 a27 a28 a29 a30 : Nat → Int32} {x y z : Int32} (b kd kl kr w : Nat) (hx : x = nI (b + 1)) (hy : y = nI (b + 1)) (hz : z = nI (b + 2)) (hb : b ≤ 3) (h2 : f2 = nI 0) (hP : qp_PL b kd kl kr w a4 a5 a6 a7 a8 a9 a10 a11)
    (H : ∀ c14 c15 c16 c17 c18 c19 : Nat → Int32, qp_K4 b c14 c15 c16 c17 c18 → post (f0, f1, nI 4, nI 32, nI 2, nI 2, 0, f7, f8, a1, a2, a3, a4, a5, a6, a7, a8, a9, a10, a11, a12, a13, c14, c15, c16, c17, c18, c19, a20, a21, a22, a23, a24, a25, a26, a27, a28, a29, a30)) : wpX_pipeline post (f0, f1, f2, f3, f4, f5, f6, f7, f8, a1, a2, a3, a4, a5, a6, a7, a8, a9, a10, a11, a12, a13, a14, a15, a16, a17, a18, a19, a20, a21, a22, a23, a24, a25, a26, a27, a28, a29, a30) x y z := by
  subst hx hy hz
  obtain ⟨⟨h4a, h4b, h4c⟩, ⟨h5a, h5b, h5c⟩, ⟨h6a, h6b, h6c⟩, ⟨h7a, h7b⟩, ⟨h8a, h8b, h8c⟩, h9, h10, ⟨h11a, h11b, h11c⟩⟩ := hP
  unfold wpX_pipeline
  refine qp_put0 0 h2 rfl (by omega) ⟨pk_in (b + 1) 12 (by omega), ?_⟩
  refine qp_app2a (qp_rd (b + 1) rfl h11b) rfl rfl rfl ?_
  refine qp_openL 0 rfl (by omega) ?_
  refine qp_put1 1 0 1 rfl rfl (by omega) (by omega) pk_us ?_
  refine ⟨1, br_f (by decide) (br_t rfl ?_)⟩
  refine br_t (nI_pos' (by omega)) ⟨pk_in (b + 2) 12 (by omega), br_t (qp_rd (b + 2) rfl h4c) ?_⟩
  refine qp_put1 2 0 1 rfl rfl (by omega) (by omega) pk_us ?_
  refine nm_r (e' := nI 0) (by decide) ⟨2, br_f (by decide) ?_⟩
  refine qp_closeL 3 0 0 1 1 rfl rfl rfl (by omega) (by omega) (by omega) pk_us pk_us (by omega) ?_
  refine nm_r (e' := -1) (by decide) (br_t (by decide) ?_)
  exact H _ _ _ _ _ _ ⟨⟨rfl, rfl⟩, ⟨rfl, rfl, rfl, rfl, rfl⟩, ⟨rfl, rfl, rfl, rfl⟩, ⟨rfl, rfl⟩⟩
theorem qp_reg32 : ∀ k : Nat, k < 2 → ((nI 32) >>> ((5 * nI k) &&& 31)) &&& 31 = nI k := by decide +kernel
theorem qp_regOf {post : Int32 → Prop} {f0 f1 f2 f3 f4 f5 f6 f7 f8 : Int32} {a1 a2 a3 a4 a5 a6 a7 a8 a9 a10 a11 a12 a13 a14 a15 a16 a17 a18 a19 a20 a21 a22 a23 a24 a25 a26 a27 a28 a29 a30 : Nat → Int32} {x : Int32} (k : Nat) (hx : x = nI k) (h3 : f3 = nI 32) (hk : k < 2) (H : post (nI k)) : wpX_regOf post (f0, f1, f2, f3, f4, f5, f6, f7, f8, a1, a2, a3, a4, a5, a6, a7, a8, a9, a10, a11, a12, a13, a14, a15, a16, a17, a18, a19, a20, a21, a22, a23, a24, a25, a26, a27, a28, a29, a30) x := by
  subst hx h3
  show post (((nI 32) >>> ((5 * nI k) &&& 31)) &&& 31)
  rw [qp_reg32 k hk]
  exact H
theorem qp_isSrc1 {post : Int32 → Prop} {f0 f1 f2 f3 f4 f5 f6 f7 f8 : Int32} {a1 a2 a3 a4 a5 a6 a7 a8 a9 a10 a11 a12 a13 a14 a15 a16 a17 a18 a19 a20 a21 a22 a23 a24 a25 a26 a27 a28 a29 a30 : Nat → Int32} {x : Int32} (k : Nat) (hx : x = nI k) (hk : k < 12) (h4 : a4 k = 0) (H : post 1) : wpX_isSource post (f0, f1, f2, f3, f4, f5, f6, f7, f8, a1, a2, a3, a4, a5, a6, a7, a8, a9, a10, a11, a12, a13, a14, a15, a16, a17, a18, a19, a20, a21, a22, a23, a24, a25, a26, a27, a28, a29, a30) x := by
  subst hx
  exact ⟨pk_in k 12 hk, br_t (qp_rd k rfl h4) H⟩
theorem qp_isSrc0 {post : Int32 → Prop} {f0 f1 f2 f3 f4 f5 f6 f7 f8 : Int32} {a1 a2 a3 a4 a5 a6 a7 a8 a9 a10 a11 a12 a13 a14 a15 a16 a17 a18 a19 a20 a21 a22 a23 a24 a25 a26 a27 a28 a29 a30 : Nat → Int32} {x : Int32} (k : Nat) (hx : x = nI k) (hk : k < 12) (h4 : a4 k = 5) (H : post 0) : wpX_isSource post (f0, f1, f2, f3, f4, f5, f6, f7, f8, a1, a2, a3, a4, a5, a6, a7, a8, a9, a10, a11, a12, a13, a14, a15, a16, a17, a18, a19, a20, a21, a22, a23, a24, a25, a26, a27, a28, a29, a30) x := by
  subst hx
  refine ⟨pk_in k 12 hk, ?_⟩
  rw [qp_rd k rfl h4]
  exact br_f (by decide) ⟨pk_in k 12 hk, br_f (by decide) ⟨pk_in k 12 hk, br_f (by decide) H⟩⟩
/-- the join's operator: of kind 2 -/
theorem qp_opX {post : St1 → Prop} {f0 f1 f2 f3 f4 f5 f6 f7 f8 : Int32} {a1 a2 a3 a4 a5 a6 a7 a8 a9 a10 a11 a12 a13 a14 a15 a16 a17 a18 a19 a20 a21 a22 a23 a24 a25 a26 a27 a28 a29 a30 : Nat → Int32} {x : Int32} (b kl kr w : Nat) (hx : x = nI (b + 2)) (hb : b ≤ 3) (hkl : kl < 2) (hP : qp_PL b 2 kl kr w a4 a5 a6 a7 a8 a9 a10 a11) (h2 : f2 = nI 6) (h3 : f3 = nI 32) (h6 : f6 = nI 1) (h19 : a19 0 = nI 5)
    (H : post (f0, f1, nI 7, f3, f4, f5, f6, f7, f8, a1, a2, a3, a4, a5, a6, a7, a8, a9, a10, a11, a12, a13, upd a14 6 8, upd a15 6 (nI (b + 2)), upd a16 6 (nI kl), upd a17 6 0, upd a18 6 (nI 5), a19, a20, a21, a22, a23, a24, a25, a26, a27, a28, a29, a30)) : wpX_operator post (f0, f1, f2, f3, f4, f5, f6, f7, f8, a1, a2, a3, a4, a5, a6, a7, a8, a9, a10, a11, a12, a13, a14, a15, a16, a17, a18, a19, a20, a21, a22, a23, a24, a25, a26, a27, a28, a29, a30) x := by
  subst hx h3
  obtain ⟨⟨h4a, h4b, h4c⟩, ⟨h5a, h5b, h5c⟩, ⟨h6a, h6b, h6c⟩, ⟨h7a, h7b⟩, ⟨h8a, h8b, h8c⟩, h9, h10, ⟨h11a, h11b, h11c⟩⟩ := hP
  have i12 : vp_in (nI (b + 2)) 12 := pk_in (b + 2) 12 (by omega)
  refine ⟨i12, nm_r (qp_rd (b + 2) rfl h4c) ?_⟩
  refine br_f (by decide) (br_f (by decide) (br_f (by decide) (br_f (by decide) (br_f (by decide) (br_f (by decide) (br_t rfl ?_))))))
  have r8 := qp_rd (f := a8) (b + 2) rfl h8c
  have n1 : ¬ a8 (nI (b + 2)).toNatClampNeg = 1 := by rw [r8]; decide
  refine ⟨i12, qp_regOf kl (qp_rd (b + 2) rfl h9) rfl hkl ⟨i12, br_f n1 ⟨i12, br_t r8 ⟨i12, br_f n1 ?_⟩⟩⟩⟩
  exact qp_put1 6 0 5 h2 h6 (by omega) (by omega) h19 H
/-- the join's operator: of kind 0 or 3 -/
theorem qp_opM {post : St1 → Prop} {f0 f1 f2 f3 f4 f5 f6 f7 f8 : Int32} {a1 a2 a3 a4 a5 a6 a7 a8 a9 a10 a11 a12 a13 a14 a15 a16 a17 a18 a19 a20 a21 a22 a23 a24 a25 a26 a27 a28 a29 a30 : Nat → Int32} {x : Int32} (b kd kl kr w : Nat) (hx : x = nI (b + 2)) (hb : b ≤ 3) (hkl : kl < 2) (hkd : kd = 0 ∨ kd = 3) (hP : qp_PL b kd kl kr w a4 a5 a6 a7 a8 a9 a10 a11) (h2 : f2 = nI 6) (h3 : f3 = nI 32) (h4 : f4 = nI 2) (h5 : f5 = nI 2) (h6 : f6 = nI 1) (h19 : a19 0 = nI 5)
    (H : post (f0, f1, nI 8, nI 100384, nI 4, nI 4, nI 2, f7, f8, a1, a2, a3, a4, a5, a6, a7, a8, a9, a10, a11, a12, a13, upd (upd a14 6 6) 7 7, upd (upd a15 6 (nI 1)) 7 (nI 1), upd (upd a16 6 (nI (b + 2))) 7 (nI (b + 2)), upd (upd a17 6 (nI kl)) 7 (nI 98), upd (upd a18 6 (nI 5)) 7 (nI 7), upd a19 1 (nI 7), a20, a21, a22, a23, a24, a25, a26, a27, a28, a29, a30)) : wpX_operator post (f0, f1, f2, f3, f4, f5, f6, f7, f8, a1, a2, a3, a4, a5, a6, a7, a8, a9, a10, a11, a12, a13, a14, a15, a16, a17, a18, a19, a20, a21, a22, a23, a24, a25, a26, a27, a28, a29, a30) x := by
  subst hx h3 h4 h5 h6
  obtain ⟨⟨h4a, h4b, h4c⟩, ⟨h5a, h5b, h5c⟩, ⟨h6a, h6b, h6c⟩, ⟨h7a, h7b⟩, ⟨h8a, h8b, h8c⟩, h9, h10, ⟨h11a, h11b, h11c⟩⟩ := hP
  have i12 : vp_in (nI (b + 2)) 12 := pk_in (b + 2) 12 (by omega)
  have n1 : ¬ nI kd = 1 := by rcases hkd with h | h <;> subst h <;> decide
  have n2 : ¬ nI kd = 2 := by rcases hkd with h | h <;> subst h <;> decide
  refine ⟨i12, nm_r (qp_rd (b + 2) rfl h4c) ?_⟩
  refine br_f (by decide) (br_f (by decide) (br_f (by decide) (br_f (by decide) (br_f (by decide) (br_f (by decide) (br_t rfl ?_))))))
  have r8 := qp_rd (f := a8) (b + 2) rfl h8c
  refine ⟨i12, qp_regOf kl (qp_rd (b + 2) rfl h9) rfl hkl ⟨i12, br_f (by rw [r8]; exact n1) ⟨i12, br_f (by rw [r8]; exact n2) ?_⟩⟩⟩
  refine qp_put1 6 0 5 h2 rfl (by omega) (by omega) h19 ?_
  refine ⟨i12, pk_in (b + 1) 12 (by omega) (qp_rd (b + 2) rfl h6c), ?_⟩
  refine qp_app2b (qp_rd (b + 1) (qp_rd (b + 2) rfl h6c) h11b) rfl rfl rfl ?_
  refine qp_openL 1 rfl (by omega) ?_
  refine qp_put1 7 1 7 rfl rfl (by omega) (by omega) pk_us ?_
  rw [show (nI 100384 >>> ((5 * nI 2) &&& 31)) = nI 98 by decide]
  exact H
theorem qp_pipeX {post : St1 → Prop} {f0 f1 f2 f3 f4 f5 f6 f7 f8 : Int32} {a1 a2 a3 a4 a5 a6 a7 a8 a9 a10 a11 a12 a13 a14 a15 a16 a17 a18 a19 a20 a21 a22 a23 a24 a25 a26 a27 a28 a29 a30 : Nat → Int32} {x y z : Int32} (b kl kr w : Nat) (hx : x = nI b) (hy : y = nI (b + 2)) (hz : z = -1) (hb : b ≤ 3) (hkl : kl < 2) (h2 : f2 = nI 4) (hP : qp_PL b 2 kl kr w a4 a5 a6 a7 a8 a9 a10 a11)
    (H : ∀ c14 c15 c16 c17 c18 c19 : Nat → Int32, qp_lo 4 a14 a15 a16 a17 a18 c14 c15 c16 c17 c18 → qp_K5 b 9 c14 c15 c16 c17 c18 → qp_KX b kl c14 c15 c16 c17 c18 → post (f0, f1, nI 9, nI 32, nI 2, nI 2, 0, f7, f8, a1, a2, a3, a4, a5, a6, a7, a8, a9, a10, a11, a12, a13, c14, c15, c16, c17, c18, c19, a20, a21, a22, a23, a24, a25, a26, a27, a28, a29, a30)) : wpX_pipeline post (f0, f1, f2, f3, f4, f5, f6, f7, f8, a1, a2, a3, a4, a5, a6, a7, a8, a9, a10, a11, a12, a13, a14, a15, a16, a17, a18, a19, a20, a21, a22, a23, a24, a25, a26, a27, a28, a29, a30) x y z := by
  subst hx hy hz
  have hP0 := hP
  obtain ⟨⟨h4a, h4b, h4c⟩, ⟨h5a, h5b, h5c⟩, ⟨h6a, h6b, h6c⟩, ⟨h7a, h7b⟩, ⟨h8a, h8b, h8c⟩, h9, h10, ⟨h11a, h11b, h11c⟩⟩ := hP0
  unfold wpX_pipeline
  refine qp_put0 4 h2 rfl (by omega) ⟨pk_in b 12 (by omega), ?_⟩
  refine qp_app2a (qp_rd b rfl h11a) rfl rfl rfl ?_
  refine qp_openL 0 rfl (by omega) ?_
  refine qp_put1 5 0 5 rfl rfl (by omega) (by omega) pk_us ?_
  refine ⟨2, br_f (by decide) (pk_eq b (b + 2) (fun z => absurd z (by omega)) (fun _ => ⟨pk_in b 12 (by omega), nm_r (qp_rd b rfl h7a) ?_⟩))⟩
  refine qp_opX b kl kr w rfl hb hkl hP rfl rfl rfl pk_us ?_
  refine nm_r (e' := nI 1) (by decide) (br_f (by decide) (br_t rfl ?_))
  refine br_f (by decide) ?_
  refine qp_put1 7 0 5 rfl rfl (by omega) (by omega) pk_us ?_
  refine nm_r (e' := nI 0) (by decide) ⟨2, br_f (by decide) ?_⟩
  refine qp_closeL 8 0 0 5 5 rfl rfl rfl (by omega) (by omega) (by omega) pk_us pk_us (by omega) ?_
  refine nm_r (e' := -1) (by decide) (br_t (by decide) ?_)
  refine H _ _ _ _ _ _ (fun j hj => ⟨?_, ?_, ?_, ?_, ?_⟩) ⟨⟨rfl, rfl⟩, ⟨rfl, rfl, rfl, rfl, rfl⟩⟩ ⟨⟨rfl, rfl, rfl, rfl, rfl⟩, ⟨rfl, rfl, rfl⟩, ⟨rfl, rfl⟩⟩
  all_goals (repeat rw [pk_un (by omega)])
theorem qp_pipeM {post : St1 → Prop} {f0 f1 f2 f3 f4 f5 f6 f7 f8 : Int32} {a1 a2 a3 a4 a5 a6 a7 a8 a9 a10 a11 a12 a13 a14 a15 a16 a17 a18 a19 a20 a21 a22 a23 a24 a25 a26 a27 a28 a29 a30 : Nat → Int32} {x y z : Int32} (b kd kl kr w : Nat) (hx : x = nI b) (hy : y = nI (b + 2)) (hz : z = -1) (hb : b ≤ 3) (hkl : kl < 2) (hkd : kd = 0 ∨ kd = 3) (h2 : f2 = nI 4) (hP : qp_PL b kd kl kr w a4 a5 a6 a7 a8 a9 a10 a11)
    (H : ∀ c14 c15 c16 c17 c18 c19 : Nat → Int32, qp_lo 4 a14 a15 a16 a17 a18 c14 c15 c16 c17 c18 → qp_K5 b 11 c14 c15 c16 c17 c18 → qp_KM b kl c14 c15 c16 c17 c18 → post (f0, f1, nI 11, nI 100384, nI 4, nI 4, 0, f7, f8, a1, a2, a3, a4, a5, a6, a7, a8, a9, a10, a11, a12, a13, c14, c15, c16, c17, c18, c19, a20, a21, a22, a23, a24, a25, a26, a27, a28, a29, a30)) : wpX_pipeline post (f0, f1, f2, f3, f4, f5, f6, f7, f8, a1, a2, a3, a4, a5, a6, a7, a8, a9, a10, a11, a12, a13, a14, a15, a16, a17, a18, a19, a20, a21, a22, a23, a24, a25, a26, a27, a28, a29, a30) x y z := by
  subst hx hy hz
  have hP0 := hP
  obtain ⟨⟨h4a, h4b, h4c⟩, ⟨h5a, h5b, h5c⟩, ⟨h6a, h6b, h6c⟩, ⟨h7a, h7b⟩, ⟨h8a, h8b, h8c⟩, h9, h10, ⟨h11a, h11b, h11c⟩⟩ := hP0
  unfold wpX_pipeline
  refine qp_put0 4 h2 rfl (by omega) ⟨pk_in b 12 (by omega), ?_⟩
  refine qp_app2a (qp_rd b rfl h11a) rfl rfl rfl ?_
  refine qp_openL 0 rfl (by omega) ?_
  refine qp_put1 5 0 5 rfl rfl (by omega) (by omega) pk_us ?_
  refine ⟨2, br_f (by decide) (pk_eq b (b + 2) (fun z => absurd z (by omega)) (fun _ => ⟨pk_in b 12 (by omega), nm_r (qp_rd b rfl h7a) ?_⟩))⟩
  refine qp_opM b kd kl kr w rfl hb hkl hkd hP rfl rfl rfl rfl rfl pk_us ?_
  refine nm_r (e' := nI 1) (by decide) (br_f (by decide) (br_t rfl ?_))
  refine br_f (by decide) ?_
  refine qp_put1 8 1 7 rfl rfl (by omega) (by omega) pk_us ?_
  refine nm_r (e' := nI 1) (by decide) ⟨3, br_f (by decide) ?_⟩
  refine qp_closeL 9 1 1 7 7 rfl rfl rfl (by omega) (by omega) (by omega) pk_us pk_us (by omega) ?_
  refine nm_r (e' := nI 0) (by decide) (br_f (by decide) ?_)
  refine qp_closeL 10 0 1 5 7 rfl rfl rfl (by omega) (by omega) (by omega) rfl pk_us (by omega) ?_
  refine nm_r (e' := -1) (by decide) (br_t (by decide) ?_)
  refine H _ _ _ _ _ _ (fun j hj => ⟨?_, ?_, ?_, ?_, ?_⟩) ⟨⟨rfl, rfl⟩, ⟨rfl, rfl, rfl, rfl, rfl⟩⟩ ⟨⟨rfl, rfl, rfl, rfl⟩, ⟨rfl, rfl, rfl, rfl, rfl⟩, ⟨rfl, rfl, rfl⟩, ⟨rfl, rfl⟩, ⟨rfl, rfl⟩⟩
  all_goals (repeat rw [pk_un (by omega)])
end
section
/-! compileInto and compile -/
theorem qp_lo_K5 {b x n : Nat} {a14 a15 a16 a17 a18 c14 c15 c16 c17 c18 : Nat → Int32} (hn : 6 ≤ n) (h : qp_K5 b x a14 a15 a16 a17 a18) (k : qp_lo n a14 a15 a16 a17 a18 c14 c15 c16 c17 c18) : qp_K5 b x c14 c15 c16 c17 c18 := by
  obtain ⟨⟨h1, h2⟩, ⟨h3, h4, h5, h6, h7⟩⟩ := h
  obtain ⟨p1, p2, p3, p4, p5⟩ := k 4 (by omega)
  obtain ⟨q1, q2, q3, q4, q5⟩ := k 5 (by omega)
  exact ⟨⟨p1.trans h1, p2.trans h2⟩, ⟨q1.trans h3, q2.trans h4, q3.trans h5, q4.trans h6, q5.trans h7⟩⟩
theorem qp_lo_KM {b kl n : Nat} {a14 a15 a16 a17 a18 c14 c15 c16 c17 c18 : Nat → Int32} (hn : 11 ≤ n) (h : qp_KM b kl a14 a15 a16 a17 a18) (k : qp_lo n a14 a15 a16 a17 a18 c14 c15 c16 c17 c18) : qp_KM b kl c14 c15 c16 c17 c18 := by
  obtain ⟨⟨h1, h2, h3, h4⟩, ⟨h5, h6, h7, h8, h9⟩, ⟨h10, h11, h12⟩, ⟨h13, h14⟩, ⟨h15, h16⟩⟩ := h
  obtain ⟨p1, p2, p3, p4, p5⟩ := k 6 (by omega)
  obtain ⟨q1, q2, q3, q4, q5⟩ := k 7 (by omega)
  obtain ⟨r1, r2, r3, r4, r5⟩ := k 8 (by omega)
  obtain ⟨s1, s2, s3, s4, s5⟩ := k 9 (by omega)
  obtain ⟨t1, t2, t3, t4, t5⟩ := k 10 (by omega)
  exact ⟨⟨p1.trans h1, p2.trans h2, p3.trans h3, p4.trans h4⟩, ⟨q1.trans h5, q2.trans h6, q3.trans h7, q4.trans h8, q5.trans h9⟩, ⟨r1.trans h10, r3.trans h11, r4.trans h12⟩, ⟨s1.trans h13, s5.trans h14⟩, ⟨t1.trans h15, t5.trans h16⟩⟩
theorem qp_lo_KX {b kl n : Nat} {a14 a15 a16 a17 a18 c14 c15 c16 c17 c18 : Nat → Int32} (hn : 9 ≤ n) (h : qp_KX b kl a14 a15 a16 a17 a18) (k : qp_lo n a14 a15 a16 a17 a18 c14 c15 c16 c17 c18) : qp_KX b kl c14 c15 c16 c17 c18 := by
  obtain ⟨⟨h1, h2, h3, h4, h5⟩, ⟨h6, h7, h8⟩, ⟨h9, h10⟩⟩ := h
  obtain ⟨p1, p2, p3, p4, p5⟩ := k 6 (by omega)
  obtain ⟨q1, q2, q3, q4, q5⟩ := k 7 (by omega)
  obtain ⟨r1, r2, r3, r4, r5⟩ := k 8 (by omega)
  exact ⟨⟨p1.trans h1, p2.trans h2, p3.trans h3, p4.trans h4, p5.trans h5⟩, ⟨q1.trans h6, q3.trans h7, q4.trans h8⟩, ⟨r1.trans h9, r5.trans h10⟩⟩
theorem qp_lo_put {n : Nat} {a14 a15 a16 a17 a18 : Nat → Int32} {o x y z v : Int32} : qp_lo n a14 a15 a16 a17 a18 (upd a14 n o) (upd a15 n x) (upd a16 n y) (upd a17 n z) (upd a18 n v) :=
  fun j hj => ⟨pk_un (by omega), pk_un (by omega), pk_un (by omega), pk_un (by omega), pk_un (by omega)⟩
/-- the whole program of an inner or outer join -/
def qp_CM (b kl : Nat) (c14 c15 c16 c17 c18 : Nat → Int32) : Prop := qp_K4 b c14 c15 c16 c17 c18 ∧ qp_K5 b 11 c14 c15 c16 c17 c18 ∧ qp_KM b kl c14 c15 c16 c17 c18 ∧ c14 11 = 0
/-- the whole program of an anti join -/
def qp_CX (b kl : Nat) (c14 c15 c16 c17 c18 : Nat → Int32) : Prop := qp_K4 b c14 c15 c16 c17 c18 ∧ qp_K5 b 9 c14 c15 c16 c17 c18 ∧ qp_KX b kl c14 c15 c16 c17 c18 ∧ c14 9 = 0
def qp_CP (b kd kl : Nat) (c14 c15 c16 c17 c18 : Nat → Int32) : Prop := (kd = 2 → qp_CX b kl c14 c15 c16 c17 c18) ∧ (kd ≠ 2 → qp_CM b kl c14 c15 c16 c17 c18)
theorem qp_cIntoK {post : St1 → Prop} {f0 f1 f2 f3 f4 f5 f6 f7 f8 : Int32} {a1 a2 a3 a4 a5 a6 a7 a8 a9 a10 a11 a12 a13 a14 a15 a16 a17 a18 a19 a20 a21 a22 a23 a24 a25 a26 a27 a28 a29 a30 : Nat → Int32} {x y : Int32} (b kd kl kr w : Nat) (hx : x = nI (b + 2)) (hy : y = nI (b + 1)) (hb : b ≤ 3) (h2 : f2 = nI 0) (hP : qp_PL b kd kl kr w a4 a5 a6 a7 a8 a9 a10 a11)
    (H : ∀ c14 c15 c16 c17 c18 c19 c20 : Nat → Int32, qp_K4 b c14 c15 c16 c17 c18 → post (f0, f1, nI 4, nI 32, nI 2, nI 2, 0, f7, f8, a1, a2, a3, a4, a5, a6, a7, a8, a9, a10, a11, a12, a13, c14, c15, c16, c17, c18, c19, c20, a21, a22, a23, a24, a25, a26, a27, a28, a29, a30)) : wpX_compileInto post (f0, f1, f2, f3, f4, f5, f6, f7, f8, a1, a2, a3, a4, a5, a6, a7, a8, a9, a10, a11, a12, a13, a14, a15, a16, a17, a18, a19, a20, a21, a22, a23, a24, a25, a26, a27, a28, a29, a30) x y := by
  subst hx hy
  have hP0 := hP
  obtain ⟨⟨h4a, h4b, h4c⟩, ⟨h5a, h5b, h5c⟩, ⟨h6a, h6b, h6c⟩, ⟨h7a, h7b⟩, ⟨h8a, h8b, h8c⟩, h9, h10, ⟨h11a, h11b, h11c⟩⟩ := hP0
  refine nm_e ⟨2, br_f (by decide) (br_f (by decide) (nm_r (e' := nI 0) (by decide) ⟨pk_in 0 16 (by omega), nm_r (qp_rd 0 rfl pk_us) ?_⟩))⟩
  refine qp_isSrc1 (b + 1) rfl (by omega) h4b (br_f (by decide) ?_)
  refine qp_pipeK b kd kl kr w rfl rfl rfl hb h2 hP (fun c14 c15 c16 c17 c18 c19 hK => ?_)
  exact nm_r (e' := nI 1) (by decide) (br_f (by decide) (br_t (by decide) (H _ _ _ _ _ _ _ hK)))
theorem qp_cIntoJ {post : St1 → Prop} {f0 f1 f2 f3 f4 f5 f6 f7 f8 : Int32} {a1 a2 a3 a4 a5 a6 a7 a8 a9 a10 a11 a12 a13 a14 a15 a16 a17 a18 a19 a20 a21 a22 a23 a24 a25 a26 a27 a28 a29 a30 : Nat → Int32} {x y : Int32} (b kd kl kr w : Nat) (hx : x = -1) (hy : y = nI (b + 2)) (hb : b ≤ 3) (hkl : kl < 2) (hkd : kd = 0 ∨ kd = 2 ∨ kd = 3) (h2 : f2 = nI 4) (h6 : f6 = 0) (hP : qp_PL b kd kl kr w a4 a5 a6 a7 a8 a9 a10 a11) (hK : qp_K4 b a14 a15 a16 a17 a18)
    (H : ∀ (g2 g3 g4 g5 : Int32) (c14 c15 c16 c17 c18 c19 c20 : Nat → Int32), qp_CP b kd kl c14 c15 c16 c17 c18 → post (f0, f1, g2, g3, g4, g5, 0, f7, f8, a1, a2, a3, a4, a5, a6, a7, a8, a9, a10, a11, a12, a13, c14, c15, c16, c17, c18, c19, c20, a21, a22, a23, a24, a25, a26, a27, a28, a29, a30)) : wpX_compileInto (fun u => match u with | (f0, f1, f2, f3, f4, f5, f6, f7, f8, a1, a2, a3, a4, a5, a6, a7, a8, a9, a10, a11, a12, a13, a14, a15, a16, a17, a18, a19, a20, a21, a22, a23, a24, a25, a26, a27, a28, a29, a30) => wpX_put post (f0, f1, f2, f3, f4, f5, f6, f7, f8, a1, a2, a3, a4, a5, a6, a7, a8, a9, a10, a11, a12, a13, a14, a15, a16, a17, a18, a19, a20, a21, a22, a23, a24, a25, a26, a27, a28, a29, a30) 0 0 0 0) (f0, f1, f2, f3, f4, f5, f6, f7, f8, a1, a2, a3, a4, a5, a6, a7, a8, a9, a10, a11, a12, a13, a14, a15, a16, a17, a18, a19, a20, a21, a22, a23, a24, a25, a26, a27, a28, a29, a30) x y := by
  subst hx hy
  have hP0 := hP
  obtain ⟨⟨h4a, h4b, h4c⟩, ⟨h5a, h5b, h5c⟩, ⟨h6a, h6b, h6c⟩, ⟨h7a, h7b⟩, ⟨h8a, h8b, h8c⟩, h9, h10, ⟨h11a, h11b, h11c⟩⟩ := hP0
  refine nm_e ⟨3, br_f (by decide) (br_f (by decide) (nm_r (e' := nI 0) (by decide) ⟨pk_in 0 16 (by omega), nm_r (qp_rd 0 rfl pk_us) ?_⟩))⟩
  refine qp_isSrc0 (b + 2) rfl (by omega) h4c (br_t rfl ⟨pk_in (b + 2) 12 (by omega), br_f (by rw [qp_rd (b + 2) rfl h4c]; decide) ?_⟩)
  refine ⟨pk_in (b + 2) 12 (by omega), pk_in 0 16 (by omega), nm_r (qp_up 0 rfl (qp_rd (b + 2) rfl h5c)) (nm_r (e' := nI 1) (by decide) (nm_r (e' := nI 1) (by decide) ?_))⟩
  refine br_f (by decide) (br_f (by decide) (nm_r (e' := nI 0) (by decide) ⟨pk_in 0 16 (by omega), nm_r (qp_rd 0 rfl pk_us) ?_⟩))
  refine qp_isSrc1 b rfl (by omega) h4a (br_f (by decide) ?_)
  by_cases hk : kd = 2
  · subst hk
    refine qp_pipeX b kl kr w rfl rfl rfl hb hkl h2 hP (fun c14 c15 c16 c17 c18 c19 k1 k2 k3 => ?_)
    refine nm_r (e' := nI 2) (by decide) (br_f (by decide) (br_t (by decide) ?_))
    refine qp_put0 9 rfl rfl (by omega) ?_
    exact H _ _ _ _ _ _ _ _ _ _ _ ⟨fun _ => ⟨qp_lo_K4 (by omega) (qp_lo_K4 (by omega) hK k1) qp_lo_put, qp_lo_K5 (by omega) k2 qp_lo_put, qp_lo_KX (by omega) k3 qp_lo_put, pk_us⟩, fun z => absurd rfl z⟩
  · refine qp_pipeM b kd kl kr w rfl rfl rfl hb hkl (by omega) h2 hP (fun c14 c15 c16 c17 c18 c19 k1 k2 k3 => ?_)
    refine nm_r (e' := nI 2) (by decide) (br_f (by decide) (br_t (by decide) ?_))
    refine qp_put0 11 rfl rfl (by omega) ?_
    exact H _ _ _ _ _ _ _ _ _ _ _ ⟨fun z => absurd z hk, fun _ => ⟨qp_lo_K4 (by omega) (qp_lo_K4 (by omega) hK k1) qp_lo_put, qp_lo_K5 (by omega) k2 qp_lo_put, qp_lo_KM (by omega) k3 qp_lo_put, pk_us⟩⟩
/-! the loop over the nodes -/
theorem qp_c116s {post : St1 → Prop} {f0 f1 f2 f3 f4 f5 f6 f7 f8 : Int32} {a1 a2 a3 a4 a5 a6 a7 a8 a9 a10 a11 a12 a13 a14 a15 a16 a17 a18 a19 a20 a21 a22 a23 a24 a25 a26 a27 a28 a29 a30 : Nat → Int32} (b n : Nat) (hb : b ≤ 3) (h13 : ∀ j, j < b → a13 j = 0) (H : wX_compile_116 post (nI (b + 2)) n (nI b) f0 f1 f2 f3 f4 f5 f6 f7 f8 a1 a2 a3 a4 a5 a6 a7 a8 a9 a10 a11 a12 a13 a14 a15 a16 a17 a18 a19 a20 a21 a22 a23 a24 a25 a26 a27 a28 a29 a30) : ∀ k, k ≤ b → wX_compile_116 post (nI (b + 2)) (n + k) (nI (b - k)) f0 f1 f2 f3 f4 f5 f6 f7 f8 a1 a2 a3 a4 a5 a6 a7 a8 a9 a10 a11 a12 a13 a14 a15 a16 a17 a18 a19 a20 a21 a22 a23 a24 a25 a26 a27 a28 a29 a30 := by
  intro k
  induction k with
  | zero => intro _; exact H
  | succ k ih =>
    intro hk
    have g := ih (by omega)
    rw [show b - k = b - (k + 1) + 1 by omega] at g
    refine br_f (nI_nlt (by omega) (by omega)) ⟨pk_in (b - (k + 1)) 12 (by omega), br_t (qp_rd (b - (k + 1)) rfl (h13 _ (by omega))) (nm_r (nI_1 _) g)⟩
theorem qp_c116i {post : St1 → Prop} {f0 f1 f2 f3 f4 f5 f6 f7 f8 : Int32} {a1 a2 a3 a4 a5 a6 a7 a8 a9 a10 a11 a12 a13 a14 a15 a16 a17 a18 a19 a20 a21 a22 a23 a24 a25 a26 a27 a28 a29 a30 : Nat → Int32} (b n i : Nat) (hi : i < b + 2) (hb : b ≤ 3) (h13 : a13 i = 1) (h4 : a4 i = 0) (H : wX_compile_116 post (nI (b + 2)) n (nI (i + 1)) f0 f1 f2 f3 f4 f5 f6 f7 f8 a1 a2 a3 a4 a5 a6 a7 a8 a9 a10 a11 a12 a13 a14 a15 a16 a17 a18 a19 a20 a21 a22 a23 a24 a25 a26 a27 a28 a29 a30) : wX_compile_116 post (nI (b + 2)) (n + 1) (nI i) f0 f1 f2 f3 f4 f5 f6 f7 f8 a1 a2 a3 a4 a5 a6 a7 a8 a9 a10 a11 a12 a13 a14 a15 a16 a17 a18 a19 a20 a21 a22 a23 a24 a25 a26 a27 a28 a29 a30 := by
  have i12 : vp_in (nI i) 12 := pk_in i 12 (by omega)
  refine br_f (nI_nlt (by omega) (by omega)) ⟨i12, br_f (by rw [qp_rd i rfl h13]; decide) ⟨i12, ?_⟩⟩
  refine br_f (by rw [qp_rd i rfl h4]; decide) ⟨i12, br_f (by rw [qp_rd i rfl h4]; decide) ⟨i12, br_f (by rw [qp_rd i rfl h4]; decide) (nm_r (nI_1 i) H)⟩⟩
theorem qp_c116 {post : St1 → Prop} {f0 f1 f2 f3 f4 f5 f6 f7 f8 : Int32} {a1 a2 a3 a4 a5 a6 a7 a8 a9 a10 a11 a12 a13 a14 a15 a16 a17 a18 a19 a20 a21 a22 a23 a24 a25 a26 a27 a28 a29 a30 : Nat → Int32} (b kd kl kr w : Nat) (hb : b ≤ 3) (hkl : kl < 2) (hkd : kd = 0 ∨ kd = 2 ∨ kd = 3) (h2 : f2 = nI 0) (hP : qp_PL b kd kl kr w a4 a5 a6 a7 a8 a9 a10 a11) (h13 : ∀ j, j < b → a13 j = 0) (h13a : a13 b = 1) (h13b : a13 (b + 1) = 1) (h13c : a13 (b + 2) = 1)
    (H : ∀ (g2 g3 g4 g5 : Int32) (c14 c15 c16 c17 c18 c19 c20 : Nat → Int32), qp_CP b kd kl c14 c15 c16 c17 c18 → post (f0, f1, g2, g3, g4, g5, 0, f7, f8, a1, a2, a3, a4, a5, a6, a7, a8, a9, a10, a11, a12, a13, c14, c15, c16, c17, c18, c19, c20, a21, a22, a23, a24, a25, a26, a27, a28, a29, a30)) : ∃ n, wX_compile_116 post (nI (b + 2)) n 0 f0 f1 f2 f3 f4 f5 f6 f7 f8 a1 a2 a3 a4 a5 a6 a7 a8 a9 a10 a11 a12 a13 a14 a15 a16 a17 a18 a19 a20 a21 a22 a23 a24 a25 a26 a27 a28 a29 a30 := by
  have hP0 := hP
  obtain ⟨⟨h4a, h4b, h4c⟩, ⟨h5a, h5b, h5c⟩, ⟨h6a, h6b, h6c⟩, ⟨h7a, h7b⟩, ⟨h8a, h8b, h8c⟩, h9, h10, ⟨h11a, h11b, h11c⟩⟩ := hP0
  have i12 : vp_in (nI (b + 2)) 12 := pk_in (b + 2) 12 (by omega)
  have J : wX_compile_116 post (nI (b + 2)) 2 (nI (b + 2)) f0 f1 f2 f3 f4 f5 f6 f7 f8 a1 a2 a3 a4 a5 a6 a7 a8 a9 a10 a11 a12 a13 a14 a15 a16 a17 a18 a19 a20 a21 a22 a23 a24 a25 a26 a27 a28 a29 a30 := by
    refine br_f (nI_nlt (by omega) (by omega)) ⟨i12, br_f (by rw [qp_rd (b + 2) rfl h13c]; decide) ⟨i12, br_t (qp_rd (b + 2) rfl h4c) ⟨i12, ?_⟩⟩⟩
    rw [qp_rd (b + 2) rfl h6c]
    refine qp_cIntoK b kd kl kr w rfl rfl hb h2 hP (fun c14 c15 c16 c17 c18 c19 c20 hK => ?_)
    refine ⟨i12, br_f (by rw [qp_rd (b + 2) rfl h4c]; decide) ⟨i12, br_f (by rw [qp_rd (b + 2) rfl h4c]; decide) (nm_r (nI_1 _) ?_)⟩⟩
    refine br_t (nI_lt (by omega) (by omega)) ?_
    exact qp_cIntoJ b kd kl kr w rfl rfl hb hkl hkd rfl rfl hP hK H
  have g := qp_c116s b 4 hb h13 (qp_c116i b 3 b (by omega) hb h13a h4a (qp_c116i b 2 (b + 1) (by omega) hb h13b h4b J)) b (by omega)
  rw [Nat.sub_self] at g
  exact ⟨_, g⟩
theorem qp_c44s {post : St1 → Prop} {x1 : Int32} {f0 f1 f2 f3 f4 f5 f6 f7 f8 : Int32} {a1 a2 a3 a4 a5 a6 a7 a8 a9 a10 a11 a12 a13 a14 a15 a16 a17 a18 a19 a20 a21 a22 a23 a24 a25 a26 a27 a28 a29 a30 : Nat → Int32} (H : ∃ n, wX_compile_116 post x1 n 0 f0 f1 f2 f3 f4 f5 f6 f7 f8 a1 a2 a3 a4 a5 a6 a7 a8 a9 a10 a11 a12 a13 a14 a15 a16 a17 a18 a19 a20 a21 a22 a23 a24 a25 a26 a27 a28 a29 a30) : ∀ k, k ≤ 12 → (∀ j, j < k → a13 j = 0) → wX_compile_44 post x1 f0 f1 f2 f3 f4 f5 f6 f7 f8 (k + 1) (nI k + (-1)) a1 a2 a3 a4 a5 a6 a7 a8 a9 a10 a11 a12 a13 a14 a15 a16 a17 a18 a19 a20 a21 a22 a23 a24 a25 a26 a27 a28 a29 a30 := by
  intro k
  induction k with
  | zero => intro _ _; exact br_t (by decide) H
  | succ k ih =>
    intro hk h
    rw [pk_m1]
    have i12 : vp_in (nI k) 12 := pk_in k 12 (by omega)
    refine br_f (nI_pos (by omega)) ⟨i12, br_t (qp_rd k rfl (h k (by omega))) ?_⟩
    exact ⟨i12, br_t (qp_rd k rfl (h k (by omega))) (nm_e (ih (by omega) (fun j hj => h j (by omega))))⟩
theorem qp_c44i {post : St1 → Prop} {x1 : Int32} {f0 f1 f2 f3 f4 f5 f6 f7 f8 : Int32} {a1 a2 a3 a4 a5 a6 a7 a8 a9 a10 a11 a12 a13 a14 a15 a16 a17 a18 a19 a20 a21 a22 a23 a24 a25 a26 a27 a28 a29 a30 : Nat → Int32} (n i : Nat) (hi : i < 12) (h13 : a13 i = 1) (h5 : a5 i = -1) (h6 : a6 i = -1) (H : wX_compile_44 post x1 f0 f1 f2 f3 f4 f5 f6 f7 f8 n (nI i + (-1)) a1 a2 a3 a4 a5 a6 a7 a8 a9 a10 a11 a12 a13 a14 a15 a16 a17 a18 a19 a20 a21 a22 a23 a24 a25 a26 a27 a28 a29 a30) : wX_compile_44 post x1 f0 f1 f2 f3 f4 f5 f6 f7 f8 (n + 1) (nI i) a1 a2 a3 a4 a5 a6 a7 a8 a9 a10 a11 a12 a13 a14 a15 a16 a17 a18 a19 a20 a21 a22 a23 a24 a25 a26 a27 a28 a29 a30 := by
  have i12 : vp_in (nI i) 12 := pk_in i 12 hi
  refine br_f (nI_pos (by omega)) ⟨i12, br_f (by rw [qp_rd i rfl h13]; decide) ⟨i12, br_t (by rw [qp_rd i rfl h5]; decide) ?_⟩⟩
  exact ⟨i12, br_f (by rw [qp_rd i rfl h13]; decide) ⟨i12, br_t (by rw [qp_rd i rfl h6]; decide) (nm_e H)⟩⟩
theorem qp_c44 {post : St1 → Prop} {x1 : Int32} {f0 f1 f2 f3 f4 f5 f6 f7 f8 : Int32} {a1 a2 a3 a4 a5 a6 a7 a8 a9 a10 a11 a12 a13 a14 a15 a16 a17 a18 a19 a20 a21 a22 a23 a24 a25 a26 a27 a28 a29 a30 : Nat → Int32} (b kd kl kr w : Nat) (hx : x1 = nI (b + 2)) (hb : b ≤ 3) (hP : qp_PL b kd kl kr w a4 a5 a6 a7 a8 a9 a10 a11) (h13 : ∀ j, j < b + 2 → a13 j = 0) (h13c : a13 (b + 2) = 1)
    (H : ∀ c13 : Nat → Int32, (∀ j, j < b → c13 j = 0) → c13 b = 1 → c13 (b + 1) = 1 → c13 (b + 2) = 1 → ∃ n, wX_compile_116 post (nI (b + 2)) n 0 f0 f1 f2 f3 f4 f5 f6 f7 f8 a1 a2 a3 a4 a5 a6 a7 a8 a9 a10 a11 a12 c13 a14 a15 a16 a17 a18 a19 a20 a21 a22 a23 a24 a25 a26 a27 a28 a29 a30) : ∃ n, wX_compile_44 post x1 f0 f1 f2 f3 f4 f5 f6 f7 f8 n x1 a1 a2 a3 a4 a5 a6 a7 a8 a9 a10 a11 a12 a13 a14 a15 a16 a17 a18 a19 a20 a21 a22 a23 a24 a25 a26 a27 a28 a29 a30 := by
  subst hx
  obtain ⟨⟨h4a, h4b, h4c⟩, ⟨h5a, h5b, h5c⟩, ⟨h6a, h6b, h6c⟩, ⟨h7a, h7b⟩, ⟨h8a, h8b, h8c⟩, h9, h10, ⟨h11a, h11b, h11c⟩⟩ := hP
  have i12 : vp_in (nI (b + 2)) 12 := pk_in (b + 2) 12 (by omega)
  have e0 : ∀ j, j < b → upd (upd a13 b 1) (b + 1) 1 j = 0 := fun j hj => by rw [pk_un (by omega), pk_un (by omega)]; exact h13 j (by omega)
  have e1 : upd (upd a13 b 1) (b + 1) 1 b = 1 := by rw [pk_un (by omega)]; exact pk_us
  have e2 : upd (upd a13 b 1) (b + 1) 1 (b + 2) = 1 := by rw [pk_un (by omega), pk_un (by omega)]; exact h13c
  have g0 := qp_c44s (H (upd (upd a13 b 1) (b + 1) 1) e0 e1 pk_us e2) b (by omega) e0
  have g1 := qp_c44i (b + 1) b (by omega) e1 h5a h6a g0
  have g2 : wX_compile_44 post (nI (b + 2)) f0 f1 f2 f3 f4 f5 f6 f7 f8 (b + 2 + 1) (nI (b + 1)) a1 a2 a3 a4 a5 a6 a7 a8 a9 a10 a11 a12 (upd (upd a13 b 1) (b + 1) 1) a14 a15 a16 a17 a18 a19 a20 a21 a22 a23 a24 a25 a26 a27 a28 a29 a30 := qp_c44i (b + 2) (b + 1) (by omega) pk_us h5b h6b (by rw [pk_m1]; exact g1)
  refine ⟨b + 2 + 1 + 1, br_f (nI_pos (by omega)) ⟨i12, br_f (by rw [qp_rd (b + 2) rfl h13c]; decide) ⟨i12, br_f (by rw [qp_rd (b + 2) rfl h5c]; exact nI_pos (by omega)) ⟨i12, pk_in b 12 (by omega) (qp_rd (b + 2) rfl h5c), nm_r (qp_up b (qp_rd (b + 2) rfl h5c) rfl) ?_⟩⟩⟩⟩
  refine ⟨i12, br_f (by rw [qp_rd (f := upd a13 b 1) (y := 1) (b + 2) rfl (by rw [pk_un (by omega)]; exact h13c)]; decide) ⟨i12, br_f (by rw [qp_rd (b + 2) rfl h6c]; exact nI_pos (by omega)) ⟨i12, pk_in (b + 1) 12 (by omega) (qp_rd (b + 2) rfl h6c), nm_r (qp_up (b + 1) (qp_rd (b + 2) rfl h6c) rfl) (nm_r (pk_m1 (b + 1)) g2)⟩⟩⟩
theorem qp_compile {post : St1 → Prop} {f0 f1 f2 f3 f4 f5 f6 f7 f8 : Int32} {a1 a2 a3 a4 a5 a6 a7 a8 a9 a10 a11 a12 a13 a14 a15 a16 a17 a18 a19 a20 a21 a22 a23 a24 a25 a26 a27 a28 a29 a30 : Nat → Int32} {x : Int32} (b N kd kl kr w : Nat) (hx : x = nI (b + 2)) (h1 : f1 = nI N) (hN : N ≤ 12) (hbN : b + 2 < N) (hb : b ≤ 3) (hkl : kl < 2) (hkd : kd = 0 ∨ kd = 2 ∨ kd = 3) (hP : qp_PL b kd kl kr w a4 a5 a6 a7 a8 a9 a10 a11)
    (H : ∀ (g2 g3 g4 g5 : Int32) (c13 c14 c15 c16 c17 c18 c19 c20 : Nat → Int32), qp_CP b kd kl c14 c15 c16 c17 c18 → post (f0, f1, g2, g3, g4, g5, 0, f7, f8, a1, a2, a3, a4, a5, a6, a7, a8, a9, a10, a11, a12, c13, c14, c15, c16, c17, c18, c19, c20, a21, a22, a23, a24, a25, a26, a27, a28, a29, a30)) : wpX_compile post (f0, f1, f2, f3, f4, f5, f6, f7, f8, a1, a2, a3, a4, a5, a6, a7, a8, a9, a10, a11, a12, a13, a14, a15, a16, a17, a18, a19, a20, a21, a22, a23, a24, a25, a26, a27, a28, a29, a30) x := by
  subst hx h1
  refine pk_loop (σ := Nat → Int32) (fun n i s => wX_compile_12 post (nI (b + 2)) f0 (nI N) 0 f3 f4 f5 0 f7 f8 n (nI i) a1 a2 a3 a4 a5 a6 a7 a8 a9 a10 a11 a12 s a14 a15 a16 a17 a18 a19 a20 a21 a22 a23 a24 a25 a26 a27 a28 a29 a30) (fun i s => ∀ j, j < i → s j = if j = b + 2 then 1 else 0) N 0 a13 (by omega) (fun j hj => absurd hj (by omega)) ?_ ?_
  · intro n s h
    refine pk_le N N (fun _ => ?_) (fun z => absurd z (by omega))
    refine qp_c44 b kd kl kr w rfl hb hP (fun j hj => ?_) ?_ (fun c13 k1 k2 k3 k4 => ?_)
    · rw [h j (by omega)]; exact if_neg (by omega)
    · rw [h (b + 2) (by omega)]; exact if_pos rfl
    · exact qp_c116 b kd kl kr w hb hkl hkd rfl hP k1 k2 k3 k4 (fun g2 g3 g4 g5 c14 c15 c16 c17 c18 c19 c20 hC => H g2 g3 g4 g5 c13 c14 c15 c16 c17 c18 c19 c20 hC)
  · intro n i s hi h hw
    refine pk_le N i (fun z => absurd z (by omega)) (fun _ => ?_)
    refine pk_eq i (b + 2) (fun z => ?_) (fun z => ?_)
    · refine ⟨pk_in i 12 (by omega), nm_r (qp_up i rfl rfl) (nm_r (nI_1 i) (hw _ (fun j hj => ?_)))⟩
      by_cases e : j = i
      · rw [e, pk_us, if_pos z]
      · rw [pk_un e]; exact h j (by omega)
    · refine ⟨pk_in i 12 (by omega), nm_r (qp_up i rfl rfl) (nm_r (nI_1 i) (hw _ (fun j hj => ?_)))⟩
      by_cases e : j = i
      · rw [e, pk_us, if_neg z]
      · rw [pk_un e]; exact h j (by omega)
end
section
/-! the hash store: buckets, chains, seek, keep -/
def qp_b1 (h : Int32) : Int32 := h ^^^ ((h.toUInt32 >>> ((15 : Int32).toUInt32 &&& Int32.toUInt32 31)).toInt32)
def qp_b2 (x : Int32) : Int32 := (x * 73) + ((x.toUInt32 >>> ((7 : Int32).toUInt32 &&& Int32.toUInt32 31)).toInt32)
def qp_b3 (x : Int32) : Int32 := x ^^^ ((x.toUInt32 >>> ((11 : Int32).toUInt32 &&& Int32.toUInt32 31)).toInt32)
def qp_bk (key : Int32) : Nat := (qp_b3 (qp_b2 (qp_b1 key))).toBitVec.toNat % 2 ^ 3
theorem qp_bk_lt (key : Int32) : qp_bk key < 8 := Nat.mod_lt _ (by decide)
theorem qp_bucket {post : Int32 → Prop} {u : St2} {key : Int32} (H : post (nI (qp_bk key))) : wpX_bucket post u key := by
  have e : qp_b3 (qp_b2 (qp_b1 key)) &&& 7 = nI (qp_bk key) := pk_and _ 3 (by decide)
  have H' : post (qp_b3 (qp_b2 (qp_b1 key)) &&& 7) := by
    rw [e]
    exact H
  exact nm_e (nm_e H')
/-- v points to the first entry from s on, of m, that lies in bucket h -/
def qp_PT (bk : Nat → Nat) (m h s : Nat) (v : Int32) : Prop :=
  (v = -1 ∧ ∀ e, s ≤ e → e < m → bk e ≠ h) ∨ (∃ e, s ≤ e ∧ e < m ∧ v = nI e ∧ bk e = h ∧ ∀ e', s ≤ e' → e' < e → bk e' ≠ h)
theorem qp_PT_ne {bk : Nat → Nat} {m h s : Nat} {v : Int32} (p : qp_PT bk m h s v) (hk : bk m ≠ h) : qp_PT bk (m + 1) h s v := by
  rcases p with ⟨hv, p⟩ | ⟨e, h1, h2, h3, h4, h5⟩
  · refine Or.inl ⟨hv, fun e h1 h2 => ?_⟩
    by_cases g : e = m
    · rw [g]; exact hk
    · exact p e h1 (by omega)
  · exact Or.inr ⟨e, h1, by omega, h3, h4, h5⟩
theorem qp_PT_more {bk : Nat → Nat} {m h s t : Nat} {v : Int32} (p : qp_PT bk m h s v) (ht : s ≤ t) (ht2 : t < m) (hb : bk t = h) : qp_PT bk (m + 1) h s v := by
  rcases p with ⟨hv, p⟩ | ⟨e, h1, h2, h3, h4, h5⟩
  · exact absurd hb (p t ht ht2)
  · exact Or.inr ⟨e, h1, by omega, h3, h4, h5⟩
/-- the store of node R holds the first k rows of M, chained by the bucket of column kr -/
def qp_SI (R kr : Nat) (M : Nat → Nat → Int32) (k : Nat) (a25 a26 a27 a28 a29 : Nat → Int32) : Prop :=
  a26 R = nI k ∧ (∀ e, e < k → a25 (R * 144 + e * 6 + 0) = M e 0 ∧ a25 (R * 144 + e * 6 + 1) = M e 1) ∧
  (∀ h, h < 8 → qp_PT (fun e => qp_bk (M e kr)) k h 0 (a27 (R * 8 + h))) ∧
  (∀ e, e < k → qp_PT (fun e => qp_bk (M e kr)) k (qp_bk (M e kr)) (e + 1) (a29 (R * 24 + e))) ∧
  (∀ h, h < 8 → (∃ e, e < k ∧ qp_bk (M e kr) = h) → ∃ t, t < k ∧ a28 (R * 8 + h) = nI t ∧ qp_bk (M t kr) = h ∧ ∀ e, t < e → e < k → qp_bk (M e kr) ≠ h)
theorem qp_SI_0 {R kr : Nat} {M : Nat → Nat → Int32} {a25 a26 a27 a28 a29 : Nat → Int32} (h26 : a26 R = nI 0) (h27 : ∀ h, h < 8 → a27 (R * 8 + h) = -1) : qp_SI R kr M 0 a25 a26 a27 a28 a29 :=
  ⟨h26, fun e he => absurd he (by omega), fun h hh => Or.inl ⟨h27 h hh, fun e _ he => absurd he (by omega)⟩, fun e he => absurd he (by omega), fun h _ ⟨e, he, _⟩ => absurd he (by omega)⟩
theorem qp_SI_col {R kr k : Nat} {M : Nat → Nat → Int32} {a25 a26 a27 a28 a29 : Nat → Int32} (h : qp_SI R kr M k a25 a26 a27 a28 a29) {e c : Nat} (he : e < k) (hc : c < 2) : a25 (R * 144 + e * 6 + c) = M e c := by
  obtain ⟨g1, g2⟩ := h.2.1 e he
  have : c = 0 ∨ c = 1 := by omega
  rcases this with r | r
  · subst r; exact g1
  · subst r; exact g2
theorem qp_SI_rows {R k : Nat} {M : Nat → Nat → Int32} {a25 : Nat → Int32} {x y : Int32} (h : ∀ e, e < k → a25 (R * 144 + e * 6 + 0) = M e 0 ∧ a25 (R * 144 + e * 6 + 1) = M e 1) (hx : x = M k 0) (hy : y = M k 1) :
    ∀ e, e < k + 1 → upd (upd a25 (R * 144 + k * 6 + 0) x) (R * 144 + k * 6 + 1) y (R * 144 + e * 6 + 0) = M e 0 ∧ upd (upd a25 (R * 144 + k * 6 + 0) x) (R * 144 + k * 6 + 1) y (R * 144 + e * 6 + 1) = M e 1 := by
  intro e he
  by_cases g : e = k
  · subst g
    constructor
    · rw [pk_un (by omega), pk_us, hx]
    · rw [pk_us, hy]
  · obtain ⟨h1, h2⟩ := h e (by omega)
    constructor
    · rw [pk_un (by omega), pk_un (by omega), h1]
    · rw [pk_un (by omega), pk_un (by omega), h2]
theorem qp_tails {R kr k : Nat} {M : Nat → Nat → Int32} {a28 : Nat → Int32}
    (h : ∀ h, h < 8 → (∃ e, e < k ∧ qp_bk (M e kr) = h) → ∃ t, t < k ∧ a28 (R * 8 + h) = nI t ∧ qp_bk (M t kr) = h ∧ ∀ e, t < e → e < k → qp_bk (M e kr) ≠ h) :
    ∀ h, h < 8 → (∃ e, e < k + 1 ∧ qp_bk (M e kr) = h) → ∃ t, t < k + 1 ∧ upd a28 (R * 8 + qp_bk (M k kr)) (nI k) (R * 8 + h) = nI t ∧ qp_bk (M t kr) = h ∧ ∀ e, t < e → e < k + 1 → qp_bk (M e kr) ≠ h := by
  intro j hj hex
  by_cases g : j = qp_bk (M k kr)
  · subst g
    exact ⟨k, by omega, pk_us, rfl, fun e h1 h2 => absurd h2 (by omega)⟩
  · obtain ⟨e, he, hb⟩ := hex
    have he' : e ≠ k := fun z => g (by rw [← hb, z])
    obtain ⟨t, t1, t2, t3, t4⟩ := h j hj ⟨e, by omega, hb⟩
    refine ⟨t, by omega, by rw [pk_un (by omega)]; exact t2, t3, fun e' g1 g2 => ?_⟩
    by_cases q : e' = k
    · rw [q]; exact fun z => g z.symm
    · exact t4 e' g1 (by omega)
/-- a row whose bucket is still empty -/
theorem qp_SI_new {R kr k : Nat} {M : Nat → Nat → Int32} {a25 a26 a27 a28 a29 : Nat → Int32} {x y : Int32} (h : qp_SI R kr M k a25 a26 a27 a28 a29) (hx : x = M k 0) (hy : y = M k 1) (hn : ∀ e, e < k → qp_bk (M e kr) ≠ qp_bk (M k kr)) :
    qp_SI R kr M (k + 1) (upd (upd a25 (R * 144 + k * 6 + 0) x) (R * 144 + k * 6 + 1) y) (upd a26 R (nI (k + 1))) (upd a27 (R * 8 + qp_bk (M k kr)) (nI k)) (upd a28 (R * 8 + qp_bk (M k kr)) (nI k)) (upd a29 (R * 24 + k) (-1)) := by
  obtain ⟨h1, h2, h3, h4, h5⟩ := h
  refine ⟨pk_us, qp_SI_rows h2 hx hy, fun j hj => ?_, fun e he => ?_, qp_tails h5⟩
  · by_cases g : j = qp_bk (M k kr)
    · subst g
      rw [pk_us]
      exact Or.inr ⟨k, by omega, by omega, rfl, rfl, fun e' _ g2 => hn e' g2⟩
    · rw [pk_un (by omega)]
      exact qp_PT_ne (h3 j hj) (fun z => g z.symm)
  · by_cases g : e = k
    · subst g
      rw [pk_us]
      exact Or.inl ⟨rfl, fun e' g1 g2 => absurd g1 (by omega)⟩
    · rw [pk_un (by omega)]
      exact qp_PT_ne (h4 e (by omega)) (fun z => hn e (by omega) z.symm)
/-- a row whose bucket has the last entry t -/
theorem qp_SI_add {R kr k t : Nat} {M : Nat → Nat → Int32} {a25 a26 a27 a28 a29 : Nat → Int32} {x y : Int32} (h : qp_SI R kr M k a25 a26 a27 a28 a29) (hx : x = M k 0) (hy : y = M k 1) (ht : t < k) (hb : qp_bk (M t kr) = qp_bk (M k kr)) (hl : ∀ e, t < e → e < k → qp_bk (M e kr) ≠ qp_bk (M k kr)) :
    qp_SI R kr M (k + 1) (upd (upd a25 (R * 144 + k * 6 + 0) x) (R * 144 + k * 6 + 1) y) (upd a26 R (nI (k + 1))) a27 (upd a28 (R * 8 + qp_bk (M k kr)) (nI k)) (upd (upd a29 (R * 24 + k) (-1)) (R * 24 + t) (nI k)) := by
  obtain ⟨h1, h2, h3, h4, h5⟩ := h
  refine ⟨pk_us, qp_SI_rows h2 hx hy, fun j hj => ?_, fun e he => ?_, qp_tails h5⟩
  · by_cases g : j = qp_bk (M k kr)
    · subst g
      exact qp_PT_more (h3 _ hj) (Nat.zero_le t) ht hb
    · exact qp_PT_ne (h3 j hj) (fun z => g z.symm)
  · by_cases g : e = k
    · subst g
      rw [pk_un (by omega), pk_us]
      exact Or.inl ⟨rfl, fun e' g1 g2 => absurd g1 (by omega)⟩
    · by_cases q : e = t
      · subst q
        rw [pk_us]
        exact Or.inr ⟨k, by omega, by omega, rfl, hb.symm, fun e' g1 g2 => by dsimp only; rw [hb]; exact hl e' (by omega) g2⟩
      · rw [pk_un (by omega), pk_un (by omega)]
        by_cases s : qp_bk (M e kr) = qp_bk (M k kr)
        · have : e < t := by
            rcases Nat.lt_or_ge e t with z | z
            · exact z
            · exact absurd s (hl e (by omega) (by omega))
          exact qp_PT_more (h4 e (by omega)) (by omega) ht (hb.trans s.symm)
        · exact qp_PT_ne (h4 e (by omega)) (fun z => s z.symm)
/-- r is the first entry from s on whose key is the key sought -/
def qp_FR (f : Nat → Int32) (key : Int32) (m s : Nat) (r : Int32) : Prop :=
  (r = -1 ∧ ∀ e, s ≤ e → e < m → f e ≠ key) ∨ (∃ e, s ≤ e ∧ e < m ∧ r = nI e ∧ f e = key ∧ ∀ e', s ≤ e' → e' < e → f e' ≠ key)
theorem qp_seek7 {f0 f1 f2 f3 f4 f5 f6 f7 f8 : Int32} {a1 a2 a3 a4 a5 a6 a7 a8 a9 a10 a11 a12 a13 a14 a15 a16 a17 a18 a19 a20 a21 a22 a23 a24 a25 a26 a27 a28 a29 a30 : Nat → Int32} {key : Int32} {R kr m : Nat} {M : Nat → Nat → Int32} (hR : R < 12) (hkr : kr < 2) (hm : m ≤ 4) (hS : qp_SI R kr M m a25 a26 a27 a28 a29) : ∀ (k s i : Nat) (v : Int32), m - s ≤ k → i + k < 20 → qp_PT (fun e => qp_bk (M e kr)) m (qp_bk key) s v →
    ∃ r, qp_FR (fun e => M e kr) key m s r ∧ ∀ post : Int32 → Prop, post r → wX_seek_7 post (nI R) (nI kr) key f0 f1 f2 f3 f4 f5 f6 f7 f8 a1 a2 a3 a4 a5 a6 a7 a8 a9 a10 a11 a12 a13 a14 a15 a16 a17 a18 a19 a20 a21 a22 a23 a24 a25 a26 a27 a28 a29 a30 (k + 1) v (nI i) := by
  intro k
  induction k with
  | zero =>
    intro s i v h1 h2 hp
    rcases hp with ⟨hv, hp⟩ | ⟨e, e1, e2, e3, e4, e5⟩
    · subst hv
      exact ⟨-1, Or.inl ⟨rfl, fun e g1 g2 => absurd g2 (by omega)⟩, fun post H => br_f (nI_ge (b := 24) (by omega) (by decide)) (br_t (by decide) H)⟩
    · omega
  | succ k ih =>
    intro s i v h1 h2 hp
    rcases hp with ⟨hv, hp⟩ | ⟨e, e1, e2, e3, e4, e5⟩
    · subst hv
      exact ⟨-1, Or.inl ⟨rfl, fun e g1 g2 z => hp e g1 g2 (by dsimp only at z ⊢; rw [z])⟩, fun post H => br_f (nI_ge (b := 24) (by omega) (by decide)) (br_t (by decide) H)⟩
    · subst e3
      have ix : vp_in (((nI R * 144) + (nI e * 6)) + nI kr) 1728 := pk_in (R * 144 + e * 6 + kr) 1728 (by omega) (qp_ix6 R e kr)
      have iv : a25 (((nI R * 144) + (nI e * 6)) + nI kr).toNatClampNeg = M e kr := qp_rd (R * 144 + e * 6 + kr) (qp_ix6 R e kr) (qp_SI_col hS e2 hkr)
      by_cases g : M e kr = key
      · refine ⟨nI e, Or.inr ⟨e, e1, e2, rfl, g, fun e' g1 g2 z => e5 e' g1 g2 (by dsimp only at z ⊢; rw [z])⟩, fun post H => ?_⟩
        exact br_f (nI_ge (b := 24) (by omega) (by decide)) (br_f (nI_pos (by omega)) ⟨ix, br_t (iv.trans g) H⟩)
      · have hl := hS.2.2.2.1 e e2
        have e4' : qp_bk (M e kr) = qp_bk key := e4
        rw [e4'] at hl
        obtain ⟨r, r1, r2⟩ := ih (e + 1) (i + 1) _ (by omega) (by omega) hl
        refine ⟨r, ?_, fun post H => ?_⟩
        · have no : ∀ e', s ≤ e' → e' < e + 1 → M e' kr ≠ key := by
            intro e' g1 g2 z
            by_cases q : e' = e
            · exact g (by rw [← q]; exact z)
            · exact e5 e' g1 (by omega) (by dsimp only; rw [z])
          rcases r1 with ⟨q1, q2⟩ | ⟨e'', q1, q2, q3, q4, q5⟩
          · refine Or.inl ⟨q1, fun e' g1 g2 => ?_⟩
            by_cases q : e' < e + 1
            · exact no e' g1 q
            · exact q2 e' (by omega) g2
          · refine Or.inr ⟨e'', by omega, q2, q3, q4, fun e' g1 g2 => ?_⟩
            by_cases q : e' < e + 1
            · exact no e' g1 q
            · exact q5 e' (by omega) g2
        · refine br_f (nI_ge (b := 24) (by omega) (by decide)) (br_f (nI_pos (by omega)) ⟨ix, br_f (fun z => g (iv.symm.trans z)) ⟨pk_in (R * 24 + e) 288 (by omega) (qp_ix24 R e), ?_⟩⟩)
          exact nm_r (qp_rd (R * 24 + e) (qp_ix24 R e) rfl) (nm_r (nI_1 i) (r2 post H))
theorem qp_seek {f0 f1 f2 f3 f4 f5 f6 f7 f8 : Int32} {a1 a2 a3 a4 a5 a6 a7 a8 a9 a10 a11 a12 a13 a14 a15 a16 a17 a18 a19 a20 a21 a22 a23 a24 a25 a26 a27 a28 a29 a30 : Nat → Int32} {key v : Int32} {R kr m s : Nat} {M : Nat → Nat → Int32} (hR : R < 12) (hkr : kr < 2) (hm : m ≤ 4) (hS : qp_SI R kr M m a25 a26 a27 a28 a29) (hp : qp_PT (fun e => qp_bk (M e kr)) m (qp_bk key) s v) :
    ∃ r, qp_FR (fun e => M e kr) key m s r ∧ ∀ post : Int32 → Prop, post r → wpX_seek post (f0, f1, f2, f3, f4, f5, f6, f7, f8, a1, a2, a3, a4, a5, a6, a7, a8, a9, a10, a11, a12, a13, a14, a15, a16, a17, a18, a19, a20, a21, a22, a23, a24, a25, a26, a27, a28, a29, a30) (nI R) (nI kr) key v := by
  obtain ⟨r, r1, r2⟩ := qp_seek7 hR hkr hm hS 4 s 0 v (by omega) (by omega) hp
  exact ⟨r, r1, fun post H => ⟨5, r2 post H⟩⟩
end
section
/-! keep, and the machine's operations one by one -/
theorem qp_chainN {P : St1 → Prop} {f0 f1 f2 f3 f4 f5 f6 f7 f8 : Int32} {a1 a2 a3 a4 a5 a6 a7 a8 a9 a10 a11 a12 a13 a14 a15 a16 a17 a18 a19 a20 a21 a22 a23 a24 a25 a26 a27 a28 a29 a30 : Nat → Int32} {x y z : Int32} (R k h : Nat) (hx : x = nI R) (hy : y = nI k) (hz : z = nI h) (hR : R < 12) (hk : k < 24) (hh : h < 8) (hd : a27 (R * 8 + h) = -1)
    (H : P (f0, f1, f2, f3, f4, f5, f6, f7, f8, a1, a2, a3, a4, a5, a6, a7, a8, a9, a10, a11, a12, a13, a14, a15, a16, a17, a18, a19, a20, a21, a22, a23, a24, a25, upd a26 R (nI (k + 1)), upd a27 (R * 8 + h) (nI k), upd a28 (R * 8 + h) (nI k), upd a29 (R * 24 + k) (-1), a30)) : wpX_chain P (f0, f1, f2, f3, f4, f5, f6, f7, f8, a1, a2, a3, a4, a5, a6, a7, a8, a9, a10, a11, a12, a13, a14, a15, a16, a17, a18, a19, a20, a21, a22, a23, a24, a25, a26, a27, a28, a29, a30) x y z := by
  subst hx hy hz
  have i96 : vp_in (nI (R * 8 + h)) 96 := pk_in (R * 8 + h) 96 (by omega)
  refine nm_r (qp_ix8 R h) ⟨pk_in (R * 24 + k) 288 (by omega) (qp_ix24 R k), nm_r (qp_up (R * 24 + k) (qp_ix24 R k) rfl) ⟨i96, br_f ?_ ⟨i96, nm_r (qp_up (R * 8 + h) rfl rfl) ?_⟩⟩⟩
  · rw [qp_rd (R * 8 + h) rfl hd]; decide
  · exact ⟨i96, nm_r (qp_up (R * 8 + h) rfl rfl) ⟨pk_in R 12 hR, nm_r (qp_up R rfl (nI_1 k)) H⟩⟩
theorem qp_chainA {P : St1 → Prop} {f0 f1 f2 f3 f4 f5 f6 f7 f8 : Int32} {a1 a2 a3 a4 a5 a6 a7 a8 a9 a10 a11 a12 a13 a14 a15 a16 a17 a18 a19 a20 a21 a22 a23 a24 a25 a26 a27 a28 a29 a30 : Nat → Int32} {x y z : Int32} (R k h e t : Nat) (hx : x = nI R) (hy : y = nI k) (hz : z = nI h) (hR : R < 12) (hk : k < 24) (hh : h < 8) (ht : t < 24) (he : e < 24) (hd : a27 (R * 8 + h) = nI e) (hl : a28 (R * 8 + h) = nI t)
    (H : P (f0, f1, f2, f3, f4, f5, f6, f7, f8, a1, a2, a3, a4, a5, a6, a7, a8, a9, a10, a11, a12, a13, a14, a15, a16, a17, a18, a19, a20, a21, a22, a23, a24, a25, upd a26 R (nI (k + 1)), a27, upd a28 (R * 8 + h) (nI k), upd (upd a29 (R * 24 + k) (-1)) (R * 24 + t) (nI k), a30)) : wpX_chain P (f0, f1, f2, f3, f4, f5, f6, f7, f8, a1, a2, a3, a4, a5, a6, a7, a8, a9, a10, a11, a12, a13, a14, a15, a16, a17, a18, a19, a20, a21, a22, a23, a24, a25, a26, a27, a28, a29, a30) x y z := by
  subst hx hy hz
  have i96 : vp_in (nI (R * 8 + h)) 96 := pk_in (R * 8 + h) 96 (by omega)
  have ex : (nI R * 24) + (a28 (nI (R * 8 + h)).toNatClampNeg) = nI (R * 24 + t) := by
    rw [qp_rd (R * 8 + h) rfl hl]
    exact qp_ix24 R t
  refine nm_r (qp_ix8 R h) ⟨pk_in (R * 24 + k) 288 (by omega) (qp_ix24 R k), nm_r (qp_up (R * 24 + k) (qp_ix24 R k) rfl) ⟨i96, br_t ?_ ⟨i96, pk_in (R * 24 + t) 288 (by omega) ex, nm_r (qp_up (R * 24 + t) ex rfl) ?_⟩⟩⟩
  · rw [qp_rd (R * 8 + h) rfl hd]; exact nI_pos' (by omega)
  · exact ⟨i96, nm_r (qp_up (R * 8 + h) rfl rfl) ⟨pk_in R 12 hR, nm_r (qp_up R rfl (nI_1 k)) H⟩⟩
theorem qp_appd {P : St1 → Prop} {f0 f1 f2 f3 f4 f5 f6 f7 f8 : Int32} {a1 a2 a3 a4 a5 a6 a7 a8 a9 a10 a11 a12 a13 a14 a15 a16 a17 a18 a19 a20 a21 a22 a23 a24 a25 a26 a27 a28 a29 a30 : Nat → Int32} {x y z v : Int32} (R k : Nat) (hx : x = nI R) (hy : y = nI 2) (hz : z = nI 32) (hR : R < 12) (hk : k < 24) (h26 : a26 R = nI k)
    (H : wpX_chain P (f0, f1, f2, f3, f4, f5, f6, f7, f8, a1, a2, a3, a4, a5, a6, a7, a8, a9, a10, a11, a12, a13, a14, a15, a16, a17, a18, a19, a20, a21, a22, a23, a24, upd (upd a25 (R * 144 + k * 6 + 0) (a21 0)) (R * 144 + k * 6 + 1) (a21 1), a26, a27, a28, a29, a30) (nI R) (nI k) v) : wpX_append P (f0, f1, f2, f3, f4, f5, f6, f7, f8, a1, a2, a3, a4, a5, a6, a7, a8, a9, a10, a11, a12, a13, a14, a15, a16, a17, a18, a19, a20, a21, a22, a23, a24, a25, a26, a27, a28, a29, a30) x y z v := by
  subst hx hy hz
  refine ⟨pk_in R 12 hR, nm_r (qp_rd R rfl h26) (br_t (nI_lt (b := 24) hk (by decide)) ⟨3, ?_⟩)⟩
  refine br_f (by decide) ⟨pk_in 0 32 (by omega) (by decide), pk_in (R * 144 + k * 6 + 0) 1728 (by omega) (qp_ix6 R k 0), nm_r (qp_up (R * 144 + k * 6 + 0) (qp_ix6 R k 0) (qp_rd 0 (by decide) rfl)) (nm_r (e' := nI 1) (by decide) ?_)⟩
  refine br_f (by decide) ⟨pk_in 1 32 (by omega) (by decide), pk_in (R * 144 + k * 6 + 1) 1728 (by omega) (qp_ix6 R k 1), nm_r (qp_up (R * 144 + k * 6 + 1) (qp_ix6 R k 1) (qp_rd 1 (by decide) rfl)) (nm_r (e' := nI 2) (by decide) ?_)⟩
  exact br_t (by decide) H
theorem qp_keep {f0 f1 f2 f3 f4 f5 f6 f7 f8 : Int32} {a1 a2 a3 a4 a5 a6 a7 a8 a9 a10 a11 a12 a13 a14 a15 a16 a17 a18 a19 a20 a21 a22 a23 a24 a25 a26 a27 a28 a29 a30 : Nat → Int32} {R k kr : Nat} {M : Nat → Nat → Int32} (hR : R < 12) (hk : k < 4) (hkr : kr < 2) (hS : qp_SI R kr M k a25 a26 a27 a28 a29) (h10 : a10 R = nI kr) (h0 : a21 0 = M k 0) (h1 : a21 1 = M k 1) :
    ∃ c25 c26 c27 c28 c29, qp_SI R kr M (k + 1) c25 c26 c27 c28 c29 ∧ ∀ P : St1 → Prop, P (f0, f1, f2, f3, f4, f5, f6, f7, f8, a1, a2, a3, a4, a5, a6, a7, a8, a9, a10, a11, a12, a13, a14, a15, a16, a17, a18, a19, a20, a21, a22, a23, a24, c25, c26, c27, c28, c29, a30) → wpX_keep P (f0, f1, f2, f3, f4, f5, f6, f7, f8, a1, a2, a3, a4, a5, a6, a7, a8, a9, a10, a11, a12, a13, a14, a15, a16, a17, a18, a19, a20, a21, a22, a23, a24, a25, a26, a27, a28, a29, a30) (nI R) (nI 2) (nI 32) := by
  have hb := qp_bk_lt (M k kr)
  have hv : a21 kr = M k kr := by
    have : kr = 0 ∨ kr = 1 := by omega
    rcases this with r | r
    · subst r; exact h0
    · subst r; exact h1
  have hh := hS.2.2.1 (qp_bk (M k kr)) hb
  have ex : ((nI 32) >>> ((5 * (a10 (nI R).toNatClampNeg)) &&& 31)) &&& 31 = nI kr := by
    rw [qp_rd R rfl h10]
    exact qp_reg32 kr hkr
  have pre : ∀ P : St1 → Prop, wpX_append P (f0, f1, f2, f3, f4, f5, f6, f7, f8, a1, a2, a3, a4, a5, a6, a7, a8, a9, a10, a11, a12, a13, a14, a15, a16, a17, a18, a19, a20, a21, a22, a23, a24, a25, a26, a27, a28, a29, a30) (nI R) (nI 2) (nI 32) (nI (qp_bk (M k kr))) → wpX_keep P (f0, f1, f2, f3, f4, f5, f6, f7, f8, a1, a2, a3, a4, a5, a6, a7, a8, a9, a10, a11, a12, a13, a14, a15, a16, a17, a18, a19, a20, a21, a22, a23, a24, a25, a26, a27, a28, a29, a30) (nI R) (nI 2) (nI 32) := by
    intro P H
    refine ⟨pk_in R 12 hR, pk_in kr 32 (by omega) ex, nm_r (qp_rd kr ex hv) ?_⟩
    exact qp_bucket H
  rcases hh with ⟨hv1, hn⟩ | ⟨e, e1, e2, e3, e4, e5⟩
  · refine ⟨_, _, _, _, _, qp_SI_new hS h0 h1 (fun e he => hn e (Nat.zero_le e) he), fun P H => pre P ?_⟩
    exact qp_appd R k rfl rfl rfl hR (by omega) hS.1 (qp_chainN R k (qp_bk (M k kr)) rfl rfl rfl hR (by omega) hb hv1 H)
  · obtain ⟨t, t1, t2, t3, t4⟩ := hS.2.2.2.2 (qp_bk (M k kr)) hb ⟨e, e2, e4⟩
    refine ⟨_, _, _, _, _, qp_SI_add hS h0 h1 t1 t3 t4, fun P H => pre P ?_⟩
    exact qp_appd R k rfl rfl rfl hR (by omega) hS.1 (qp_chainA R k (qp_bk (M k kr)) e t rfl rfl rfl hR (by omega) hb (by omega) (by omega) e3 t2 H)
/-! fetch -/
theorem qp_fetchY {P : Int32 → St1 → Prop} {f0 f1 f2 f3 f4 f5 f6 f7 f8 : Int32} {a1 a2 a3 a4 a5 a6 a7 a8 a9 a10 a11 a12 a13 a14 a15 a16 a17 a18 a19 a20 a21 a22 a23 a24 a25 a26 a27 a28 a29 a30 : Nat → Int32} {x y z : Int32} (nd t i r : Nat) (hx : x = nI 0) (hy : y = nI nd) (hz : z = nI 32) (hnd : nd < 12) (ht : t < 2) (h22 : a22 0 = nI i) (h4 : a4 nd = 0) (h8 : a8 nd = nI t) (h2 : a2 t = nI r) (h11 : a11 nd = nI 2) (hi : i < r) (hr : r < 5)
    (H : P 1 (f0, f1, f2, f3, f4, f5, f6, f7, f8, a1, a2, a3, a4, a5, a6, a7, a8, a9, a10, a11, a12, a13, a14, a15, a16, a17, a18, a19, a20, upd (upd a21 0 (a3 (t * 30 + i * 3 + 0))) 1 (a3 (t * 30 + i * 3 + 1)), upd a22 0 (nI (i + 1)), a23, a24, a25, a26, a27, a28, a29, a30)) : wpX_fetch P (f0, f1, f2, f3, f4, f5, f6, f7, f8, a1, a2, a3, a4, a5, a6, a7, a8, a9, a10, a11, a12, a13, a14, a15, a16, a17, a18, a19, a20, a21, a22, a23, a24, a25, a26, a27, a28, a29, a30) x y z := by
  subst hx hy hz
  have i12 : vp_in (nI nd) 12 := pk_in nd 12 hnd
  have ex : ∀ c, (((a8 (nI nd).toNatClampNeg) * 30) + (nI i * 3)) + nI c = nI (t * 30 + i * 3 + c) := by
    intro c
    rw [qp_rd nd rfl h8]
    exact qp_ix30 t i c
  refine ⟨pk_in 0 8 (by omega), nm_r (qp_rd 0 rfl h22) ⟨i12, br_t (qp_rd nd rfl h4) ?_⟩⟩
  refine br_f (by decide) ⟨i12, pk_in t 4 (by omega) (qp_rd nd rfl h8), ?_⟩
  refine br_t (by rw [qp_rd t (qp_rd nd rfl h8) h2]; exact nI_lt hi (by omega)) ⟨3, i12, ?_⟩
  refine br_f (by rw [qp_rd nd rfl h11]; decide) (br_f (by decide) ⟨i12, pk_in (t * 30 + i * 3 + 0) 120 (by omega) (ex 0), ?_⟩)
  refine ⟨pk_in 0 32 (by omega) (by decide), nm_r (qp_up 0 (by decide) (qp_rd (t * 30 + i * 3 + 0) (ex 0) rfl)) (nm_r (e' := nI 1) (by decide) ⟨i12, ?_⟩)⟩
  refine br_f (by rw [qp_rd nd rfl h11]; decide) (br_f (by decide) ⟨i12, pk_in (t * 30 + i * 3 + 1) 120 (by omega) (ex 1), ?_⟩)
  refine ⟨pk_in 1 32 (by omega) (by decide), nm_r (qp_up 1 (by decide) (qp_rd (t * 30 + i * 3 + 1) (ex 1) rfl)) (nm_r (e' := nI 2) (by decide) ⟨i12, ?_⟩)⟩
  refine br_t (by rw [qp_rd nd rfl h11]; decide) ⟨pk_in 0 8 (by omega), nm_r (qp_up 0 rfl (nI_1 i)) H⟩
theorem qp_fetchN {P : Int32 → St1 → Prop} {f0 f1 f2 f3 f4 f5 f6 f7 f8 : Int32} {a1 a2 a3 a4 a5 a6 a7 a8 a9 a10 a11 a12 a13 a14 a15 a16 a17 a18 a19 a20 a21 a22 a23 a24 a25 a26 a27 a28 a29 a30 : Nat → Int32} {x y z : Int32} (nd t i r : Nat) (hx : x = nI 0) (hy : y = nI nd) (hz : z = nI 32) (hnd : nd < 12) (ht : t < 2) (h22 : a22 0 = nI i) (h4 : a4 nd = 0) (h8 : a8 nd = nI t) (h2 : a2 t = nI r) (hi : r ≤ i) (hr : i < 100)
    (H : P 0 (f0, f1, f2, f3, f4, f5, f6, f7, f8, a1, a2, a3, a4, a5, a6, a7, a8, a9, a10, a11, a12, a13, a14, a15, a16, a17, a18, a19, a20, a21, a22, a23, a24, a25, a26, a27, a28, a29, a30)) : wpX_fetch P (f0, f1, f2, f3, f4, f5, f6, f7, f8, a1, a2, a3, a4, a5, a6, a7, a8, a9, a10, a11, a12, a13, a14, a15, a16, a17, a18, a19, a20, a21, a22, a23, a24, a25, a26, a27, a28, a29, a30) x y z := by
  subst hx hy hz
  have i12 : vp_in (nI nd) 12 := pk_in nd 12 hnd
  refine ⟨pk_in 0 8 (by omega), nm_r (qp_rd 0 rfl h22) ⟨i12, br_t (qp_rd nd rfl h4) ?_⟩⟩
  refine br_f (by decide) ⟨i12, pk_in t 4 (by omega) (qp_rd nd rfl h8), ?_⟩
  exact br_f (by rw [qp_rd t (qp_rd nd rfl h8) h2]; exact nI_nlt hi (by omega)) H
/-! probe, match, exists, emit -/
theorem qp_probe {P : St1 → Prop} {f0 f1 f2 f3 f4 f5 f6 f7 f8 : Int32} {a1 a2 a3 a4 a5 a6 a7 a8 a9 a10 a11 a12 a13 a14 a15 a16 a17 a18 a19 a20 a21 a22 a23 a24 a25 a26 a27 a28 a29 a30 : Nat → Int32} {x y key : Int32} (R : Nat) (hx : x = nI 1) (hy : y = nI R) (hR : R < 12)
    (H : P (f0, f1, f2, f3, f4, f5, f6, f7, f8, a1, a2, a3, a4, a5, a6, a7, a8, a9, a10, a11, a12, a13, a14, a15, a16, a17, a18, a19, a20, a21, upd a22 1 (a27 (R * 8 + qp_bk key)), upd a23 1 key, upd a24 1 0, a25, a26, a27, a28, a29, a30)) : wpX_probe P (f0, f1, f2, f3, f4, f5, f6, f7, f8, a1, a2, a3, a4, a5, a6, a7, a8, a9, a10, a11, a12, a13, a14, a15, a16, a17, a18, a19, a20, a21, a22, a23, a24, a25, a26, a27, a28, a29, a30) x y key := by
  subst hx hy
  have hb := qp_bk_lt key
  unfold wpX_probe
  refine qp_bucket ⟨pk_in 1 8 (by omega), nm_r (qp_up 1 rfl rfl) ⟨pk_in (R * 8 + qp_bk key) 96 (by omega) (qp_ix8 R _), pk_in 1 8 (by omega), nm_r (qp_up 1 rfl (qp_rd (R * 8 + qp_bk key) (qp_ix8 R _) rfl)) ⟨pk_in 1 8 (by omega), nm_r (qp_up 1 rfl rfl) H⟩⟩⟩
theorem qp_matchS {P : Int32 → St1 → Prop} {f0 f1 f2 f3 f4 f5 f6 f7 f8 : Int32} {a1 a2 a3 a4 a5 a6 a7 a8 a9 a10 a11 a12 a13 a14 a15 a16 a17 a18 a19 a20 a21 a22 a23 a24 a25 a26 a27 a28 a29 a30 : Nat → Int32} {x y z key v : Int32} (R b kr e : Nat) (hx : x = nI 1) (hy : y = nI R) (hz : z = nI 98) (hR : R < 12) (hb : b < 12) (he : e < 24) (h10 : a10 R = nI kr) (h6 : a6 R = nI b) (h11 : a11 b = nI 2) (h23 : a23 1 = key) (h22 : a22 1 = v)
    (hs : ∀ Q : Int32 → Prop, Q (nI e) → wpX_seek Q (f0, f1, f2, f3, f4, f5, f6, f7, f8, a1, a2, a3, a4, a5, a6, a7, a8, a9, a10, a11, a12, a13, a14, a15, a16, a17, a18, a19, a20, a21, a22, a23, a24, a25, a26, a27, a28, a29, a30) (nI R) (nI kr) key v)
    (H : P 1 (f0, f1, f2, f3, f4, f5, f6, f7, f8, a1, a2, a3, a4, a5, a6, a7, a8, a9, a10, a11, a12, a13, a14, a15, a16, a17, a18, a19, a20, upd (upd a21 2 (a25 (R * 144 + e * 6 + 0))) 3 (a25 (R * 144 + e * 6 + 1)), upd a22 1 (a29 (R * 24 + e)), a23, upd a24 1 1, a25, a26, a27, a28, a29, a30)) : wpX_match P (f0, f1, f2, f3, f4, f5, f6, f7, f8, a1, a2, a3, a4, a5, a6, a7, a8, a9, a10, a11, a12, a13, a14, a15, a16, a17, a18, a19, a20, a21, a22, a23, a24, a25, a26, a27, a28, a29, a30) x y z := by
  subst hx hy hz
  have i12 : vp_in (nI R) 12 := pk_in R 12 hR
  have i8 : vp_in (nI 1) 8 := pk_in 1 8 (by omega)
  refine ⟨i12, i8, i8, ?_⟩
  rw [qp_rd R rfl h10, qp_rd 1 rfl h23, qp_rd 1 rfl h22]
  refine hs _ ⟨i12, pk_in b 12 hb (qp_rd R rfl h6), nm_r (qp_rd b (qp_rd R rfl h6) h11) (br_f (nI_pos (by omega)) ⟨3, ?_⟩)⟩
  refine br_f (by decide) ⟨pk_in (R * 144 + e * 6 + 0) 1728 (by omega) (qp_ix6 R e 0), pk_in 2 32 (by omega) (by decide), nm_r (qp_up 2 (by decide) (qp_rd (R * 144 + e * 6 + 0) (qp_ix6 R e 0) rfl)) (nm_r (e' := nI 1) (by decide) ?_)⟩
  refine br_f (by decide) ⟨pk_in (R * 144 + e * 6 + 1) 1728 (by omega) (qp_ix6 R e 1), pk_in 3 32 (by omega) (by decide), nm_r (qp_up 3 (by decide) (qp_rd (R * 144 + e * 6 + 1) (qp_ix6 R e 1) rfl)) (nm_r (e' := nI 2) (by decide) ?_)⟩
  exact br_t (by decide) ⟨pk_in (R * 24 + e) 288 (by omega) (qp_ix24 R e), i8, nm_r (qp_up 1 rfl (qp_rd (R * 24 + e) (qp_ix24 R e) rfl)) ⟨i8, nm_r (qp_up 1 rfl rfl) H⟩⟩
theorem qp_matchN {P : Int32 → St1 → Prop} {f0 f1 f2 f3 f4 f5 f6 f7 f8 : Int32} {a1 a2 a3 a4 a5 a6 a7 a8 a9 a10 a11 a12 a13 a14 a15 a16 a17 a18 a19 a20 a21 a22 a23 a24 a25 a26 a27 a28 a29 a30 : Nat → Int32} {x y z key v : Int32} (R b kr kd : Nat) (hx : x = nI 1) (hy : y = nI R) (hR : R < 12) (hb : b < 12) (hkd : kd < 4) (h8 : a8 R = nI kd) (h10 : a10 R = nI kr) (h6 : a6 R = nI b) (h11 : a11 b = nI 2) (h23 : a23 1 = key) (h22 : a22 1 = v)
    (hs : ∀ Q : Int32 → Prop, Q (-1) → wpX_seek Q (f0, f1, f2, f3, f4, f5, f6, f7, f8, a1, a2, a3, a4, a5, a6, a7, a8, a9, a10, a11, a12, a13, a14, a15, a16, a17, a18, a19, a20, a21, a22, a23, a24, a25, a26, a27, a28, a29, a30) (nI R) (nI kr) key v) (hn : kd ≠ 3 ∨ ¬ a24 1 = 0)
    (H : P 0 (f0, f1, f2, f3, f4, f5, f6, f7, f8, a1, a2, a3, a4, a5, a6, a7, a8, a9, a10, a11, a12, a13, a14, a15, a16, a17, a18, a19, a20, a21, upd a22 1 (-1), a23, a24, a25, a26, a27, a28, a29, a30)) : wpX_match P (f0, f1, f2, f3, f4, f5, f6, f7, f8, a1, a2, a3, a4, a5, a6, a7, a8, a9, a10, a11, a12, a13, a14, a15, a16, a17, a18, a19, a20, a21, a22, a23, a24, a25, a26, a27, a28, a29, a30) x y z := by
  subst hx hy
  have i12 : vp_in (nI R) 12 := pk_in R 12 hR
  have i8 : vp_in (nI 1) 8 := pk_in 1 8 (by omega)
  refine ⟨i12, i8, i8, ?_⟩
  rw [qp_rd R rfl h10, qp_rd 1 rfl h23, qp_rd 1 rfl h22]
  refine hs _ ⟨i12, pk_in b 12 hb (qp_rd R rfl h6), nm_r (qp_rd b (qp_rd R rfl h6) h11) (br_t (by decide) ⟨i8, nm_r (qp_up 1 rfl rfl) ⟨i12, ?_⟩⟩)⟩
  rw [qp_rd R rfl h8]
  refine pk_eq kd 3 (fun hk => ⟨i8, br_f ?_ H⟩) (fun _ => H)
  rcases hn with g | g
  · exact absurd hk g
  · exact g
theorem qp_matchZ {P : Int32 → St1 → Prop} {f0 f1 f2 f3 f4 f5 f6 f7 f8 : Int32} {a1 a2 a3 a4 a5 a6 a7 a8 a9 a10 a11 a12 a13 a14 a15 a16 a17 a18 a19 a20 a21 a22 a23 a24 a25 a26 a27 a28 a29 a30 : Nat → Int32} {x y z key v : Int32} (R b kr : Nat) (hx : x = nI 1) (hy : y = nI R) (hz : z = nI 98) (hR : R < 12) (hb : b < 12) (h8 : a8 R = nI 3) (h10 : a10 R = nI kr) (h6 : a6 R = nI b) (h11 : a11 b = nI 2) (h23 : a23 1 = key) (h22 : a22 1 = v) (h24 : a24 1 = 0)
    (hs : ∀ Q : Int32 → Prop, Q (-1) → wpX_seek Q (f0, f1, f2, f3, f4, f5, f6, f7, f8, a1, a2, a3, a4, a5, a6, a7, a8, a9, a10, a11, a12, a13, a14, a15, a16, a17, a18, a19, a20, a21, a22, a23, a24, a25, a26, a27, a28, a29, a30) (nI R) (nI kr) key v)
    (H : P 1 (f0, f1, f2, f3, f4, f5, f6, f7, f8, a1, a2, a3, a4, a5, a6, a7, a8, a9, a10, a11, a12, a13, a14, a15, a16, a17, a18, a19, a20, upd (upd a21 2 0) 3 0, upd a22 1 (-1), a23, upd a24 1 1, a25, a26, a27, a28, a29, a30)) : wpX_match P (f0, f1, f2, f3, f4, f5, f6, f7, f8, a1, a2, a3, a4, a5, a6, a7, a8, a9, a10, a11, a12, a13, a14, a15, a16, a17, a18, a19, a20, a21, a22, a23, a24, a25, a26, a27, a28, a29, a30) x y z := by
  subst hx hy hz
  have i12 : vp_in (nI R) 12 := pk_in R 12 hR
  have i8 : vp_in (nI 1) 8 := pk_in 1 8 (by omega)
  refine ⟨i12, i8, i8, ?_⟩
  rw [qp_rd R rfl h10, qp_rd 1 rfl h23, qp_rd 1 rfl h22]
  refine hs _ ⟨i12, pk_in b 12 hb (qp_rd R rfl h6), nm_r (qp_rd b (qp_rd R rfl h6) h11) (br_t (by decide) ⟨i8, nm_r (qp_up 1 rfl rfl) ⟨i12, br_t (qp_rd R rfl h8) ⟨i8, br_t h24 ⟨3, ?_⟩⟩⟩⟩)⟩
  refine br_f (by decide) ⟨pk_in 2 32 (by omega) (by decide), nm_r (qp_up 2 (by decide) rfl) (nm_r (e' := nI 1) (by decide) ?_)⟩
  refine br_f (by decide) ⟨pk_in 3 32 (by omega) (by decide), nm_r (qp_up 3 (by decide) rfl) (nm_r (e' := nI 2) (by decide) ?_)⟩
  exact br_t (by decide) ⟨i8, nm_r (qp_up 1 rfl rfl) H⟩
theorem qp_exists {P : Int32 → Prop} {f0 f1 f2 f3 f4 f5 f6 f7 f8 : Int32} {a1 a2 a3 a4 a5 a6 a7 a8 a9 a10 a11 a12 a13 a14 a15 a16 a17 a18 a19 a20 a21 a22 a23 a24 a25 a26 a27 a28 a29 a30 : Nat → Int32} {x key : Int32} {r : Int32} (R kr : Nat) (hx : x = nI R) (hR : R < 12) (h10 : a10 R = nI kr)
    (hs : ∀ Q : Int32 → Prop, Q r → wpX_seek Q (f0, f1, f2, f3, f4, f5, f6, f7, f8, a1, a2, a3, a4, a5, a6, a7, a8, a9, a10, a11, a12, a13, a14, a15, a16, a17, a18, a19, a20, a21, a22, a23, a24, a25, a26, a27, a28, a29, a30) (nI R) (nI kr) key (a27 (R * 8 + qp_bk key)))
    (H : (r < 0 → P 0) ∧ (¬ r < 0 → P 1)) : wpX_exists P (f0, f1, f2, f3, f4, f5, f6, f7, f8, a1, a2, a3, a4, a5, a6, a7, a8, a9, a10, a11, a12, a13, a14, a15, a16, a17, a18, a19, a20, a21, a22, a23, a24, a25, a26, a27, a28, a29, a30) x key := by
  subst hx
  have hb := qp_bk_lt key
  unfold wpX_exists
  refine qp_bucket ⟨pk_in R 12 hR, pk_in (R * 8 + qp_bk key) 96 (by omega) (qp_ix8 R _), ?_⟩
  rw [qp_rd R rfl h10, qp_rd (f := a27) (R * 8 + qp_bk key) (qp_ix8 R _) rfl]
  exact hs _ H
theorem qp_emit2 {P : St1 → Prop} {f0 f1 f2 f3 f4 f5 f6 f7 f8 : Int32} {a1 a2 a3 a4 a5 a6 a7 a8 a9 a10 a11 a12 a13 a14 a15 a16 a17 a18 a19 a20 a21 a22 a23 a24 a25 a26 a27 a28 a29 a30 : Nat → Int32} {x y : Int32} (l : Nat) (hx : x = nI 2) (hy : y = nI 32) (h7 : f7 = nI l) (hl : l < 24)
    (H : P (f0, f1, f2, f3, f4, f5, f6, nI (l + 1), f8, a1, a2, a3, a4, a5, a6, a7, a8, a9, a10, a11, a12, a13, a14, a15, a16, a17, a18, a19, a20, a21, a22, a23, a24, a25, a26, a27, a28, a29, upd (upd a30 (l * 6 + 0) (a21 0)) (l * 6 + 1) (a21 1))) : wpX_emitRow P (f0, f1, f2, f3, f4, f5, f6, f7, f8, a1, a2, a3, a4, a5, a6, a7, a8, a9, a10, a11, a12, a13, a14, a15, a16, a17, a18, a19, a20, a21, a22, a23, a24, a25, a26, a27, a28, a29, a30) x y := by
  subst hx hy h7
  refine br_t (nI_lt (b := 24) hl (by decide)) ⟨3, ?_⟩
  refine br_f (by decide) ⟨pk_in 0 32 (by omega) (by decide), pk_in (l * 6 + 0) 144 (by omega) (qp_ixr l 0), nm_r (qp_up (l * 6 + 0) (qp_ixr l 0) (qp_rd 0 (by decide) rfl)) (nm_r (e' := nI 1) (by decide) ?_)⟩
  refine br_f (by decide) ⟨pk_in 1 32 (by omega) (by decide), pk_in (l * 6 + 1) 144 (by omega) (qp_ixr l 1), nm_r (qp_up (l * 6 + 1) (qp_ixr l 1) (qp_rd 1 (by decide) rfl)) (nm_r (e' := nI 2) (by decide) ?_)⟩
  exact br_t (by decide) (nm_r (nI_1 l) H)
theorem qp_emit4 {P : St1 → Prop} {f0 f1 f2 f3 f4 f5 f6 f7 f8 : Int32} {a1 a2 a3 a4 a5 a6 a7 a8 a9 a10 a11 a12 a13 a14 a15 a16 a17 a18 a19 a20 a21 a22 a23 a24 a25 a26 a27 a28 a29 a30 : Nat → Int32} {x y : Int32} (l : Nat) (hx : x = nI 4) (hy : y = nI 100384) (h7 : f7 = nI l) (hl : l < 24)
    (H : P (f0, f1, f2, f3, f4, f5, f6, nI (l + 1), f8, a1, a2, a3, a4, a5, a6, a7, a8, a9, a10, a11, a12, a13, a14, a15, a16, a17, a18, a19, a20, a21, a22, a23, a24, a25, a26, a27, a28, a29, upd (upd (upd (upd a30 (l * 6 + 0) (a21 0)) (l * 6 + 1) (a21 1)) (l * 6 + 2) (a21 2)) (l * 6 + 3) (a21 3))) : wpX_emitRow P (f0, f1, f2, f3, f4, f5, f6, f7, f8, a1, a2, a3, a4, a5, a6, a7, a8, a9, a10, a11, a12, a13, a14, a15, a16, a17, a18, a19, a20, a21, a22, a23, a24, a25, a26, a27, a28, a29, a30) x y := by
  subst hx hy h7
  refine br_t (nI_lt (b := 24) hl (by decide)) ⟨5, ?_⟩
  refine br_f (by decide) ⟨pk_in 0 32 (by omega) (by decide), pk_in (l * 6 + 0) 144 (by omega) (qp_ixr l 0), nm_r (qp_up (l * 6 + 0) (qp_ixr l 0) (qp_rd 0 (by decide) rfl)) (nm_r (e' := nI 1) (by decide) ?_)⟩
  refine br_f (by decide) ⟨pk_in 1 32 (by omega) (by decide), pk_in (l * 6 + 1) 144 (by omega) (qp_ixr l 1), nm_r (qp_up (l * 6 + 1) (qp_ixr l 1) (qp_rd 1 (by decide) rfl)) (nm_r (e' := nI 2) (by decide) ?_)⟩
  refine br_f (by decide) ⟨pk_in 2 32 (by omega) (by decide), pk_in (l * 6 + 2) 144 (by omega) (qp_ixr l 2), nm_r (qp_up (l * 6 + 2) (qp_ixr l 2) (qp_rd 2 (by decide) rfl)) (nm_r (e' := nI 3) (by decide) ?_)⟩
  refine br_f (by decide) ⟨pk_in 3 32 (by omega) (by decide), pk_in (l * 6 + 3) 144 (by omega) (qp_ixr l 3), nm_r (qp_up (l * 6 + 3) (qp_ixr l 3) (qp_rd 3 (by decide) rfl)) (nm_r (e' := nI 4) (by decide) ?_)⟩
  exact br_t (by decide) (nm_r (nI_1 l) H)
end
section
/-! perform, and the machine's run -/
def qp_E (post : St1 → Prop) (pc st : Nat) (f0 f1 f2 f3 f4 f5 f6 f7 f8 : Int32) (a1 a2 a3 a4 a5 a6 a7 a8 a9 a10 a11 a12 a13 a14 a15 a16 a17 a18 a19 a20 a21 a22 a23 a24 a25 a26 a27 a28 a29 a30 : Nat → Int32) : Prop := ∃ n, wX_execute_51 post n (nI pc) (nI st) f0 f1 f2 f3 f4 f5 f6 f7 f8 a1 a2 a3 a4 a5 a6 a7 a8 a9 a10 a11 a12 a13 a14 a15 a16 a17 a18 a19 a20 a21 a22 a23 a24 a25 a26 a27 a28 a29 a30
theorem qp_Estep {post : St1 → Prop} {f0 f1 f2 f3 f4 f5 f6 f7 f8 : Int32} {a1 a2 a3 a4 a5 a6 a7 a8 a9 a10 a11 a12 a13 a14 a15 a16 a17 a18 a19 a20 a21 a22 a23 a24 a25 a26 a27 a28 a29 a30 : Nat → Int32} {g7 : Int32} {c21 c22 c23 c24 c25 c26 c27 c28 c29 c30 : Nat → Int32} {pc st pc' : Nat} {o : Int32} (hst : st < 100000) (hpc : pc < 192) (h14 : a14 pc = o) (ho : ¬ o = 0)
    (hp : ∀ P : Int32 → St1 → Prop, P (nI pc') (f0, f1, f2, f3, f4, f5, f6, g7, f8, a1, a2, a3, a4, a5, a6, a7, a8, a9, a10, a11, a12, a13, a14, a15, a16, a17, a18, a19, a20, c21, c22, c23, c24, c25, c26, c27, c28, c29, c30) → wpX_perform P (f0, f1, f2, f3, f4, f5, f6, f7, f8, a1, a2, a3, a4, a5, a6, a7, a8, a9, a10, a11, a12, a13, a14, a15, a16, a17, a18, a19, a20, a21, a22, a23, a24, a25, a26, a27, a28, a29, a30) (nI pc))
    (H : qp_E post pc' (st + 1) f0 f1 f2 f3 f4 f5 f6 g7 f8 a1 a2 a3 a4 a5 a6 a7 a8 a9 a10 a11 a12 a13 a14 a15 a16 a17 a18 a19 a20 c21 c22 c23 c24 c25 c26 c27 c28 c29 c30) : qp_E post pc st f0 f1 f2 f3 f4 f5 f6 f7 f8 a1 a2 a3 a4 a5 a6 a7 a8 a9 a10 a11 a12 a13 a14 a15 a16 a17 a18 a19 a20 a21 a22 a23 a24 a25 a26 a27 a28 a29 a30 := by
  obtain ⟨n, hn⟩ := H
  refine ⟨n + 1, br_f (nI_ge (b := 100000) hst (by decide)) ⟨pk_in pc 192 hpc, br_f (by rw [qp_rd pc rfl h14]; exact ho) ?_⟩⟩
  exact hp _ (nm_r (nI_1 st) hn)
theorem qp_Estop {post : St1 → Prop} {f0 f1 f2 f3 f4 f5 f6 f7 f8 : Int32} {a1 a2 a3 a4 a5 a6 a7 a8 a9 a10 a11 a12 a13 a14 a15 a16 a17 a18 a19 a20 a21 a22 a23 a24 a25 a26 a27 a28 a29 a30 : Nat → Int32} {pc st : Nat} (hst : st < 100000) (hpc : pc < 192) (h14 : a14 pc = 0) (H : post (f0, f1, f2, f3, f4, f5, f6, f7, f8, a1, a2, a3, a4, a5, a6, a7, a8, a9, a10, a11, a12, a13, a14, a15, a16, a17, a18, a19, a20, a21, a22, a23, a24, a25, a26, a27, a28, a29, a30)) : qp_E post pc st f0 f1 f2 f3 f4 f5 f6 f7 f8 a1 a2 a3 a4 a5 a6 a7 a8 a9 a10 a11 a12 a13 a14 a15 a16 a17 a18 a19 a20 a21 a22 a23 a24 a25 a26 a27 a28 a29 a30 :=
  ⟨1, br_f (nI_ge (b := 100000) hst (by decide)) ⟨pk_in pc 192 hpc, br_t (qp_rd pc rfl h14) H⟩⟩
theorem qp_on {P : Int32 → St1 → Prop} {f0 f1 f2 f3 f4 f5 f6 f7 f8 : Int32} {a1 a2 a3 a4 a5 a6 a7 a8 a9 a10 a11 a12 a13 a14 a15 a16 a17 a18 a19 a20 a21 a22 a23 a24 a25 a26 a27 a28 a29 a30 : Nat → Int32} (pc : Nat) (H : P (nI (pc + 1)) (f0, f1, f2, f3, f4, f5, f6, f7, f8, a1, a2, a3, a4, a5, a6, a7, a8, a9, a10, a11, a12, a13, a14, a15, a16, a17, a18, a19, a20, a21, a22, a23, a24, a25, a26, a27, a28, a29, a30)) : wX_perform_336 P (nI pc) 1 f0 f1 f2 f3 f4 f5 f6 f7 f8 a1 a2 a3 a4 a5 a6 a7 a8 a9 a10 a11 a12 a13 a14 a15 a16 a17 a18 a19 a20 a21 a22 a23 a24 a25 a26 a27 a28 a29 a30 := by
  refine br_f (by decide) ?_
  rw [nI_1 pc]
  exact H
theorem qp_off {P : Int32 → St1 → Prop} {f0 f1 f2 f3 f4 f5 f6 f7 f8 : Int32} {a1 a2 a3 a4 a5 a6 a7 a8 a9 a10 a11 a12 a13 a14 a15 a16 a17 a18 a19 a20 a21 a22 a23 a24 a25 a26 a27 a28 a29 a30 : Nat → Int32} (pc d : Nat) (hpc : pc < 192) (h18 : a18 pc = nI d) (H : P (nI d) (f0, f1, f2, f3, f4, f5, f6, f7, f8, a1, a2, a3, a4, a5, a6, a7, a8, a9, a10, a11, a12, a13, a14, a15, a16, a17, a18, a19, a20, a21, a22, a23, a24, a25, a26, a27, a28, a29, a30)) : wX_perform_336 P (nI pc) 0 f0 f1 f2 f3 f4 f5 f6 f7 f8 a1 a2 a3 a4 a5 a6 a7 a8 a9 a10 a11 a12 a13 a14 a15 a16 a17 a18 a19 a20 a21 a22 a23 a24 a25 a26 a27 a28 a29 a30 := by
  refine br_t rfl ⟨pk_in pc 192 hpc, ?_⟩
  rw [qp_rd pc rfl h18]
  exact H
theorem qp_pOpn {P : Int32 → St1 → Prop} {f0 f1 f2 f3 f4 f5 f6 f7 f8 : Int32} {a1 a2 a3 a4 a5 a6 a7 a8 a9 a10 a11 a12 a13 a14 a15 a16 a17 a18 a19 a20 a21 a22 a23 a24 a25 a26 a27 a28 a29 a30 : Nat → Int32} (pc : Nat) (hpc : pc < 192) (h14 : a14 pc = 1) (h15 : a15 pc = nI 0)
    (H : P (nI (pc + 1)) (f0, f1, f2, f3, f4, f5, f6, f7, f8, a1, a2, a3, a4, a5, a6, a7, a8, a9, a10, a11, a12, a13, a14, a15, a16, a17, a18, a19, a20, a21, upd a22 0 (nI 0), a23, a24, a25, a26, a27, a28, a29, a30)) : wpX_perform P (f0, f1, f2, f3, f4, f5, f6, f7, f8, a1, a2, a3, a4, a5, a6, a7, a8, a9, a10, a11, a12, a13, a14, a15, a16, a17, a18, a19, a20, a21, a22, a23, a24, a25, a26, a27, a28, a29, a30) (nI pc) := by
  have ip : vp_in (nI pc) 192 := pk_in pc 192 hpc
  refine ⟨ip, nm_r (qp_rd pc rfl h15) ⟨ip, nm_e ⟨ip, nm_e ⟨ip, nm_r (qp_rd pc rfl h14) (br_f (by decide) (br_f (by decide) (br_t rfl ?_)))⟩⟩⟩⟩
  exact ⟨pk_in 0 8 (by omega), nm_r (qp_up 0 rfl rfl) (qp_on pc H)⟩
theorem qp_pFetY {P : Int32 → St1 → Prop} {f0 f1 f2 f3 f4 f5 f6 f7 f8 : Int32} {a1 a2 a3 a4 a5 a6 a7 a8 a9 a10 a11 a12 a13 a14 a15 a16 a17 a18 a19 a20 a21 a22 a23 a24 a25 a26 a27 a28 a29 a30 : Nat → Int32} (pc : Nat) (hpc : pc < 192) (h14 : a14 pc = 2) (nd t i r : Nat) (h15 : a15 pc = nI 0) (h16 : a16 pc = nI nd) (h17 : a17 pc = nI 32) (hnd : nd < 12) (ht : t < 2) (h22 : a22 0 = nI i) (h4 : a4 nd = 0) (h8 : a8 nd = nI t) (h2 : a2 t = nI r) (h11 : a11 nd = nI 2) (hi : i < r) (hr : r < 5)
    (H : P (nI (pc + 1)) (f0, f1, f2, f3, f4, f5, f6, f7, f8, a1, a2, a3, a4, a5, a6, a7, a8, a9, a10, a11, a12, a13, a14, a15, a16, a17, a18, a19, a20, upd (upd a21 0 (a3 (t * 30 + i * 3 + 0))) 1 (a3 (t * 30 + i * 3 + 1)), upd a22 0 (nI (i + 1)), a23, a24, a25, a26, a27, a28, a29, a30)) : wpX_perform P (f0, f1, f2, f3, f4, f5, f6, f7, f8, a1, a2, a3, a4, a5, a6, a7, a8, a9, a10, a11, a12, a13, a14, a15, a16, a17, a18, a19, a20, a21, a22, a23, a24, a25, a26, a27, a28, a29, a30) (nI pc) := by
  have ip : vp_in (nI pc) 192 := pk_in pc 192 hpc
  refine ⟨ip, nm_r (qp_rd pc rfl h15) ⟨ip, nm_r (qp_rd pc rfl h16) ⟨ip, nm_r (qp_rd pc rfl h17) ⟨ip, nm_r (qp_rd pc rfl h14) (br_f (by decide) (br_f (by decide) (br_f (by decide) (br_t rfl ?_))))⟩⟩⟩⟩
  exact qp_fetchY nd t i r rfl rfl rfl hnd ht h22 h4 h8 h2 h11 hi hr (qp_on pc H)
theorem qp_pFetN {P : Int32 → St1 → Prop} {f0 f1 f2 f3 f4 f5 f6 f7 f8 : Int32} {a1 a2 a3 a4 a5 a6 a7 a8 a9 a10 a11 a12 a13 a14 a15 a16 a17 a18 a19 a20 a21 a22 a23 a24 a25 a26 a27 a28 a29 a30 : Nat → Int32} (pc : Nat) (hpc : pc < 192) (h14 : a14 pc = 2) (nd t i r d : Nat) (h15 : a15 pc = nI 0) (h16 : a16 pc = nI nd) (h17 : a17 pc = nI 32) (h18 : a18 pc = nI d) (hnd : nd < 12) (ht : t < 2) (h22 : a22 0 = nI i) (h4 : a4 nd = 0) (h8 : a8 nd = nI t) (h2 : a2 t = nI r) (hi : r ≤ i) (hr : i < 100)
    (H : P (nI (d)) (f0, f1, f2, f3, f4, f5, f6, f7, f8, a1, a2, a3, a4, a5, a6, a7, a8, a9, a10, a11, a12, a13, a14, a15, a16, a17, a18, a19, a20, a21, a22, a23, a24, a25, a26, a27, a28, a29, a30)) : wpX_perform P (f0, f1, f2, f3, f4, f5, f6, f7, f8, a1, a2, a3, a4, a5, a6, a7, a8, a9, a10, a11, a12, a13, a14, a15, a16, a17, a18, a19, a20, a21, a22, a23, a24, a25, a26, a27, a28, a29, a30) (nI pc) := by
  have ip : vp_in (nI pc) 192 := pk_in pc 192 hpc
  refine ⟨ip, nm_r (qp_rd pc rfl h15) ⟨ip, nm_r (qp_rd pc rfl h16) ⟨ip, nm_r (qp_rd pc rfl h17) ⟨ip, nm_r (qp_rd pc rfl h14) (br_f (by decide) (br_f (by decide) (br_f (by decide) (br_t rfl ?_))))⟩⟩⟩⟩
  exact qp_fetchN nd t i r rfl rfl rfl hnd ht h22 h4 h8 h2 hi hr (qp_off pc d hpc h18 H)
theorem qp_pPrb {P : Int32 → St1 → Prop} {f0 f1 f2 f3 f4 f5 f6 f7 f8 : Int32} {a1 a2 a3 a4 a5 a6 a7 a8 a9 a10 a11 a12 a13 a14 a15 a16 a17 a18 a19 a20 a21 a22 a23 a24 a25 a26 a27 a28 a29 a30 : Nat → Int32} {key : Int32} (pc : Nat) (hpc : pc < 192) (h14 : a14 pc = 6) (R kl : Nat) (h15 : a15 pc = nI 1) (h16 : a16 pc = nI R) (h17 : a17 pc = nI kl) (hR : R < 12) (hkl : kl < 2) (hkey : a21 kl = key)
    (H : P (nI (pc + 1)) (f0, f1, f2, f3, f4, f5, f6, f7, f8, a1, a2, a3, a4, a5, a6, a7, a8, a9, a10, a11, a12, a13, a14, a15, a16, a17, a18, a19, a20, a21, upd a22 1 (a27 (R * 8 + qp_bk key)), upd a23 1 key, upd a24 1 0, a25, a26, a27, a28, a29, a30)) : wpX_perform P (f0, f1, f2, f3, f4, f5, f6, f7, f8, a1, a2, a3, a4, a5, a6, a7, a8, a9, a10, a11, a12, a13, a14, a15, a16, a17, a18, a19, a20, a21, a22, a23, a24, a25, a26, a27, a28, a29, a30) (nI pc) := by
  have ip : vp_in (nI pc) 192 := pk_in pc 192 hpc
  refine ⟨ip, nm_r (qp_rd pc rfl h15) ⟨ip, nm_r (qp_rd pc rfl h16) ⟨ip, nm_r (qp_rd pc rfl h17) ⟨ip, nm_r (qp_rd pc rfl h14) (br_f (by decide) (br_f (by decide) (br_f (by decide) (br_f (by decide) (br_f (by decide) (br_f (by decide) (br_f (by decide) (br_t rfl ?_))))))))⟩⟩⟩⟩
  refine ⟨pk_in kl 32 (by omega), ?_⟩
  rw [qp_rd kl rfl hkey]
  exact qp_probe R rfl rfl hR (qp_on pc H)
theorem qp_pMatS {P : Int32 → St1 → Prop} {f0 f1 f2 f3 f4 f5 f6 f7 f8 : Int32} {a1 a2 a3 a4 a5 a6 a7 a8 a9 a10 a11 a12 a13 a14 a15 a16 a17 a18 a19 a20 a21 a22 a23 a24 a25 a26 a27 a28 a29 a30 : Nat → Int32} {key v : Int32} (pc : Nat) (hpc : pc < 192) (h14 : a14 pc = 7) (R b kr e : Nat) (h15 : a15 pc = nI 1) (h16 : a16 pc = nI R) (h17 : a17 pc = nI 98) (hR : R < 12) (hb : b < 12) (he : e < 24) (h10 : a10 R = nI kr) (h6 : a6 R = nI b) (h11 : a11 b = nI 2) (h23 : a23 1 = key) (h22 : a22 1 = v) (hs : ∀ Q : Int32 → Prop, Q (nI e) → wpX_seek Q (f0, f1, f2, f3, f4, f5, f6, f7, f8, a1, a2, a3, a4, a5, a6, a7, a8, a9, a10, a11, a12, a13, a14, a15, a16, a17, a18, a19, a20, a21, a22, a23, a24, a25, a26, a27, a28, a29, a30) (nI R) (nI kr) key v)
    (H : P (nI (pc + 1)) (f0, f1, f2, f3, f4, f5, f6, f7, f8, a1, a2, a3, a4, a5, a6, a7, a8, a9, a10, a11, a12, a13, a14, a15, a16, a17, a18, a19, a20, upd (upd a21 2 (a25 (R * 144 + e * 6 + 0))) 3 (a25 (R * 144 + e * 6 + 1)), upd a22 1 (a29 (R * 24 + e)), a23, upd a24 1 1, a25, a26, a27, a28, a29, a30)) : wpX_perform P (f0, f1, f2, f3, f4, f5, f6, f7, f8, a1, a2, a3, a4, a5, a6, a7, a8, a9, a10, a11, a12, a13, a14, a15, a16, a17, a18, a19, a20, a21, a22, a23, a24, a25, a26, a27, a28, a29, a30) (nI pc) := by
  have ip : vp_in (nI pc) 192 := pk_in pc 192 hpc
  refine ⟨ip, nm_r (qp_rd pc rfl h15) ⟨ip, nm_r (qp_rd pc rfl h16) ⟨ip, nm_r (qp_rd pc rfl h17) ⟨ip, nm_r (qp_rd pc rfl h14) (br_f (by decide) (br_f (by decide) (br_f (by decide) (br_f (by decide) (br_f (by decide) (br_f (by decide) (br_f (by decide) (br_f (by decide) (br_t rfl ?_)))))))))⟩⟩⟩⟩
  exact qp_matchS R b kr e rfl rfl rfl hR hb he h10 h6 h11 h23 h22 hs (qp_on pc H)
theorem qp_pMatZ {P : Int32 → St1 → Prop} {f0 f1 f2 f3 f4 f5 f6 f7 f8 : Int32} {a1 a2 a3 a4 a5 a6 a7 a8 a9 a10 a11 a12 a13 a14 a15 a16 a17 a18 a19 a20 a21 a22 a23 a24 a25 a26 a27 a28 a29 a30 : Nat → Int32} {key v : Int32} (pc : Nat) (hpc : pc < 192) (h14 : a14 pc = 7) (R b kr : Nat) (h15 : a15 pc = nI 1) (h16 : a16 pc = nI R) (h17 : a17 pc = nI 98) (hR : R < 12) (hb : b < 12) (h8 : a8 R = nI 3) (h10 : a10 R = nI kr) (h6 : a6 R = nI b) (h11 : a11 b = nI 2) (h23 : a23 1 = key) (h22 : a22 1 = v) (h24 : a24 1 = 0) (hs : ∀ Q : Int32 → Prop, Q (-1) → wpX_seek Q (f0, f1, f2, f3, f4, f5, f6, f7, f8, a1, a2, a3, a4, a5, a6, a7, a8, a9, a10, a11, a12, a13, a14, a15, a16, a17, a18, a19, a20, a21, a22, a23, a24, a25, a26, a27, a28, a29, a30) (nI R) (nI kr) key v)
    (H : P (nI (pc + 1)) (f0, f1, f2, f3, f4, f5, f6, f7, f8, a1, a2, a3, a4, a5, a6, a7, a8, a9, a10, a11, a12, a13, a14, a15, a16, a17, a18, a19, a20, upd (upd a21 2 0) 3 0, upd a22 1 (-1), a23, upd a24 1 1, a25, a26, a27, a28, a29, a30)) : wpX_perform P (f0, f1, f2, f3, f4, f5, f6, f7, f8, a1, a2, a3, a4, a5, a6, a7, a8, a9, a10, a11, a12, a13, a14, a15, a16, a17, a18, a19, a20, a21, a22, a23, a24, a25, a26, a27, a28, a29, a30) (nI pc) := by
  have ip : vp_in (nI pc) 192 := pk_in pc 192 hpc
  refine ⟨ip, nm_r (qp_rd pc rfl h15) ⟨ip, nm_r (qp_rd pc rfl h16) ⟨ip, nm_r (qp_rd pc rfl h17) ⟨ip, nm_r (qp_rd pc rfl h14) (br_f (by decide) (br_f (by decide) (br_f (by decide) (br_f (by decide) (br_f (by decide) (br_f (by decide) (br_f (by decide) (br_f (by decide) (br_t rfl ?_)))))))))⟩⟩⟩⟩
  exact qp_matchZ R b kr rfl rfl rfl hR hb h8 h10 h6 h11 h23 h22 h24 hs (qp_on pc H)
theorem qp_pMatN {P : Int32 → St1 → Prop} {f0 f1 f2 f3 f4 f5 f6 f7 f8 : Int32} {a1 a2 a3 a4 a5 a6 a7 a8 a9 a10 a11 a12 a13 a14 a15 a16 a17 a18 a19 a20 a21 a22 a23 a24 a25 a26 a27 a28 a29 a30 : Nat → Int32} {key v : Int32} (pc : Nat) (hpc : pc < 192) (h14 : a14 pc = 7) (R b kr kd d : Nat) (h15 : a15 pc = nI 1) (h16 : a16 pc = nI R) (h17 : a17 pc = nI 98) (h18 : a18 pc = nI d) (hR : R < 12) (hb : b < 12) (hkd : kd < 4) (h8 : a8 R = nI kd) (h10 : a10 R = nI kr) (h6 : a6 R = nI b) (h11 : a11 b = nI 2) (h23 : a23 1 = key) (h22 : a22 1 = v) (hs : ∀ Q : Int32 → Prop, Q (-1) → wpX_seek Q (f0, f1, f2, f3, f4, f5, f6, f7, f8, a1, a2, a3, a4, a5, a6, a7, a8, a9, a10, a11, a12, a13, a14, a15, a16, a17, a18, a19, a20, a21, a22, a23, a24, a25, a26, a27, a28, a29, a30) (nI R) (nI kr) key v) (hn : kd ≠ 3 ∨ ¬ a24 1 = 0)
    (H : P (nI (d)) (f0, f1, f2, f3, f4, f5, f6, f7, f8, a1, a2, a3, a4, a5, a6, a7, a8, a9, a10, a11, a12, a13, a14, a15, a16, a17, a18, a19, a20, a21, upd a22 1 (-1), a23, a24, a25, a26, a27, a28, a29, a30)) : wpX_perform P (f0, f1, f2, f3, f4, f5, f6, f7, f8, a1, a2, a3, a4, a5, a6, a7, a8, a9, a10, a11, a12, a13, a14, a15, a16, a17, a18, a19, a20, a21, a22, a23, a24, a25, a26, a27, a28, a29, a30) (nI pc) := by
  have ip : vp_in (nI pc) 192 := pk_in pc 192 hpc
  refine ⟨ip, nm_r (qp_rd pc rfl h15) ⟨ip, nm_r (qp_rd pc rfl h16) ⟨ip, nm_r (qp_rd pc rfl h17) ⟨ip, nm_r (qp_rd pc rfl h14) (br_f (by decide) (br_f (by decide) (br_f (by decide) (br_f (by decide) (br_f (by decide) (br_f (by decide) (br_f (by decide) (br_f (by decide) (br_t rfl ?_)))))))))⟩⟩⟩⟩
  exact qp_matchN R b kr kd rfl rfl hR hb hkd h8 h10 h6 h11 h23 h22 hs hn (qp_off pc d hpc h18 H)
theorem qp_pExN {P : Int32 → St1 → Prop} {f0 f1 f2 f3 f4 f5 f6 f7 f8 : Int32} {a1 a2 a3 a4 a5 a6 a7 a8 a9 a10 a11 a12 a13 a14 a15 a16 a17 a18 a19 a20 a21 a22 a23 a24 a25 a26 a27 a28 a29 a30 : Nat → Int32} {r key : Int32} (pc : Nat) (hpc : pc < 192) (h14 : a14 pc = 8) (R kl kr : Nat) (h15 : a15 pc = nI R) (h16 : a16 pc = nI kl) (h17 : a17 pc = 0) (hR : R < 12) (hkl : kl < 2) (h10 : a10 R = nI kr) (hkey : a21 kl = key) (hs : ∀ Q : Int32 → Prop, Q r → wpX_seek Q (f0, f1, f2, f3, f4, f5, f6, f7, f8, a1, a2, a3, a4, a5, a6, a7, a8, a9, a10, a11, a12, a13, a14, a15, a16, a17, a18, a19, a20, a21, a22, a23, a24, a25, a26, a27, a28, a29, a30) (nI R) (nI kr) key (a27 (R * 8 + qp_bk key))) (hr : r < 0)
    (H : P (nI (pc + 1)) (f0, f1, f2, f3, f4, f5, f6, f7, f8, a1, a2, a3, a4, a5, a6, a7, a8, a9, a10, a11, a12, a13, a14, a15, a16, a17, a18, a19, a20, a21, a22, a23, a24, a25, a26, a27, a28, a29, a30)) : wpX_perform P (f0, f1, f2, f3, f4, f5, f6, f7, f8, a1, a2, a3, a4, a5, a6, a7, a8, a9, a10, a11, a12, a13, a14, a15, a16, a17, a18, a19, a20, a21, a22, a23, a24, a25, a26, a27, a28, a29, a30) (nI pc) := by
  have ip : vp_in (nI pc) 192 := pk_in pc 192 hpc
  refine ⟨ip, nm_r (qp_rd pc rfl h15) ⟨ip, nm_r (qp_rd pc rfl h16) ⟨ip, nm_r (qp_rd pc rfl h17) ⟨ip, nm_r (qp_rd pc rfl h14) (br_f (by decide) (br_f (by decide) (br_f (by decide) (br_f (by decide) (br_f (by decide) (br_f (by decide) (br_f (by decide) (br_f (by decide) (br_f (by decide) (br_t rfl ?_))))))))))⟩⟩⟩⟩
  refine ⟨pk_in kl 32 (by omega), ?_⟩
  rw [qp_rd kl rfl hkey]
  exact qp_exists R kr rfl hR h10 hs (br_t hr (br_f (by decide) (br_t rfl (qp_on pc H))))
theorem qp_pExY {P : Int32 → St1 → Prop} {f0 f1 f2 f3 f4 f5 f6 f7 f8 : Int32} {a1 a2 a3 a4 a5 a6 a7 a8 a9 a10 a11 a12 a13 a14 a15 a16 a17 a18 a19 a20 a21 a22 a23 a24 a25 a26 a27 a28 a29 a30 : Nat → Int32} {r key : Int32} (pc : Nat) (hpc : pc < 192) (h14 : a14 pc = 8) (R kl kr d : Nat) (h15 : a15 pc = nI R) (h16 : a16 pc = nI kl) (h17 : a17 pc = 0) (hR : R < 12) (hkl : kl < 2) (h10 : a10 R = nI kr) (hkey : a21 kl = key) (hs : ∀ Q : Int32 → Prop, Q r → wpX_seek Q (f0, f1, f2, f3, f4, f5, f6, f7, f8, a1, a2, a3, a4, a5, a6, a7, a8, a9, a10, a11, a12, a13, a14, a15, a16, a17, a18, a19, a20, a21, a22, a23, a24, a25, a26, a27, a28, a29, a30) (nI R) (nI kr) key (a27 (R * 8 + qp_bk key))) (h18 : a18 pc = nI d) (hr : ¬ r < 0)
    (H : P (nI (d)) (f0, f1, f2, f3, f4, f5, f6, f7, f8, a1, a2, a3, a4, a5, a6, a7, a8, a9, a10, a11, a12, a13, a14, a15, a16, a17, a18, a19, a20, a21, a22, a23, a24, a25, a26, a27, a28, a29, a30)) : wpX_perform P (f0, f1, f2, f3, f4, f5, f6, f7, f8, a1, a2, a3, a4, a5, a6, a7, a8, a9, a10, a11, a12, a13, a14, a15, a16, a17, a18, a19, a20, a21, a22, a23, a24, a25, a26, a27, a28, a29, a30) (nI pc) := by
  have ip : vp_in (nI pc) 192 := pk_in pc 192 hpc
  refine ⟨ip, nm_r (qp_rd pc rfl h15) ⟨ip, nm_r (qp_rd pc rfl h16) ⟨ip, nm_r (qp_rd pc rfl h17) ⟨ip, nm_r (qp_rd pc rfl h14) (br_f (by decide) (br_f (by decide) (br_f (by decide) (br_f (by decide) (br_f (by decide) (br_f (by decide) (br_f (by decide) (br_f (by decide) (br_f (by decide) (br_t rfl ?_))))))))))⟩⟩⟩⟩
  refine ⟨pk_in kl 32 (by omega), ?_⟩
  rw [qp_rd kl rfl hkey]
  exact qp_exists R kr rfl hR h10 hs (br_f hr (br_f (by decide) (br_f (by decide) (qp_off pc d hpc h18 H))))
theorem qp_pKeep {f0 f1 f2 f3 f4 f5 f6 f7 f8 : Int32} {a1 a2 a3 a4 a5 a6 a7 a8 a9 a10 a11 a12 a13 a14 a15 a16 a17 a18 a19 a20 a21 a22 a23 a24 a25 a26 a27 a28 a29 a30 : Nat → Int32} (pc R kr k : Nat) {M : Nat → Nat → Int32} (hpc : pc < 192) (h14 : a14 pc = 11) (h15 : a15 pc = nI R) (h16 : a16 pc = nI 2) (h17 : a17 pc = nI 32) (hR : R < 12) (hk : k < 4) (hkr : kr < 2) (hS : qp_SI R kr M k a25 a26 a27 a28 a29) (h10 : a10 R = nI kr) (h0 : a21 0 = M k 0) (h1 : a21 1 = M k 1) :
    ∃ c25 c26 c27 c28 c29, qp_SI R kr M (k + 1) c25 c26 c27 c28 c29 ∧ ∀ P : Int32 → St1 → Prop, P (nI (pc + 1)) (f0, f1, f2, f3, f4, f5, f6, f7, f8, a1, a2, a3, a4, a5, a6, a7, a8, a9, a10, a11, a12, a13, a14, a15, a16, a17, a18, a19, a20, a21, a22, a23, a24, c25, c26, c27, c28, c29, a30) → wpX_perform P (f0, f1, f2, f3, f4, f5, f6, f7, f8, a1, a2, a3, a4, a5, a6, a7, a8, a9, a10, a11, a12, a13, a14, a15, a16, a17, a18, a19, a20, a21, a22, a23, a24, a25, a26, a27, a28, a29, a30) (nI pc) := by
  have ip : vp_in (nI pc) 192 := pk_in pc 192 hpc
  obtain ⟨c25, c26, c27, c28, c29, hC, hK⟩ := qp_keep hR hk hkr hS h10 h0 h1
  refine ⟨c25, c26, c27, c28, c29, hC, fun P H => ?_⟩
  refine ⟨ip, nm_r (qp_rd pc rfl h15) ⟨ip, nm_r (qp_rd pc rfl h16) ⟨ip, nm_r (qp_rd pc rfl h17) ⟨ip, nm_r (qp_rd pc rfl h14) (br_f (by decide) (br_f (by decide) (br_f (by decide) (br_f (by decide) (br_f (by decide) (br_f (by decide) (br_f (by decide) (br_f (by decide) (br_f (by decide) (br_f (by decide) (br_f (by decide) (br_f (by decide) (br_t rfl ?_)))))))))))))⟩⟩⟩⟩
  exact hK _ (qp_on pc H)
theorem qp_pEm2 {P : Int32 → St1 → Prop} {f0 f1 f2 f3 f4 f5 f6 f7 f8 : Int32} {a1 a2 a3 a4 a5 a6 a7 a8 a9 a10 a11 a12 a13 a14 a15 a16 a17 a18 a19 a20 a21 a22 a23 a24 a25 a26 a27 a28 a29 a30 : Nat → Int32} (pc : Nat) (hpc : pc < 192) (h14 : a14 pc = 14) (l : Nat) (h16 : a16 pc = nI 2) (h17 : a17 pc = nI 32) (h7 : f7 = nI l) (hl : l < 24)
    (H : P (nI (pc + 1)) (f0, f1, f2, f3, f4, f5, f6, nI (l + 1), f8, a1, a2, a3, a4, a5, a6, a7, a8, a9, a10, a11, a12, a13, a14, a15, a16, a17, a18, a19, a20, a21, a22, a23, a24, a25, a26, a27, a28, a29, upd (upd a30 (l * 6 + 0) (a21 0)) (l * 6 + 1) (a21 1))) : wpX_perform P (f0, f1, f2, f3, f4, f5, f6, f7, f8, a1, a2, a3, a4, a5, a6, a7, a8, a9, a10, a11, a12, a13, a14, a15, a16, a17, a18, a19, a20, a21, a22, a23, a24, a25, a26, a27, a28, a29, a30) (nI pc) := by
  have ip : vp_in (nI pc) 192 := pk_in pc 192 hpc
  refine ⟨ip, nm_e ⟨ip, nm_r (qp_rd pc rfl h16) ⟨ip, nm_r (qp_rd pc rfl h17) ⟨ip, nm_r (qp_rd pc rfl h14) (br_f (by decide) (br_f (by decide) (br_f (by decide) (br_f (by decide) (br_f (by decide) (br_f (by decide) (br_f (by decide) (br_f (by decide) (br_f (by decide) (br_f (by decide) (br_f (by decide) (br_f (by decide) (br_f (by decide) (br_f (by decide) (br_f (by decide) (br_t rfl ?_))))))))))))))))⟩⟩⟩⟩
  exact qp_emit2 l rfl rfl h7 hl (qp_on pc H)
theorem qp_pEm4 {P : Int32 → St1 → Prop} {f0 f1 f2 f3 f4 f5 f6 f7 f8 : Int32} {a1 a2 a3 a4 a5 a6 a7 a8 a9 a10 a11 a12 a13 a14 a15 a16 a17 a18 a19 a20 a21 a22 a23 a24 a25 a26 a27 a28 a29 a30 : Nat → Int32} (pc : Nat) (hpc : pc < 192) (h14 : a14 pc = 14) (l : Nat) (h16 : a16 pc = nI 4) (h17 : a17 pc = nI 100384) (h7 : f7 = nI l) (hl : l < 24)
    (H : P (nI (pc + 1)) (f0, f1, f2, f3, f4, f5, f6, nI (l + 1), f8, a1, a2, a3, a4, a5, a6, a7, a8, a9, a10, a11, a12, a13, a14, a15, a16, a17, a18, a19, a20, a21, a22, a23, a24, a25, a26, a27, a28, a29, upd (upd (upd (upd a30 (l * 6 + 0) (a21 0)) (l * 6 + 1) (a21 1)) (l * 6 + 2) (a21 2)) (l * 6 + 3) (a21 3))) : wpX_perform P (f0, f1, f2, f3, f4, f5, f6, f7, f8, a1, a2, a3, a4, a5, a6, a7, a8, a9, a10, a11, a12, a13, a14, a15, a16, a17, a18, a19, a20, a21, a22, a23, a24, a25, a26, a27, a28, a29, a30) (nI pc) := by
  have ip : vp_in (nI pc) 192 := pk_in pc 192 hpc
  refine ⟨ip, nm_e ⟨ip, nm_r (qp_rd pc rfl h16) ⟨ip, nm_r (qp_rd pc rfl h17) ⟨ip, nm_r (qp_rd pc rfl h14) (br_f (by decide) (br_f (by decide) (br_f (by decide) (br_f (by decide) (br_f (by decide) (br_f (by decide) (br_f (by decide) (br_f (by decide) (br_f (by decide) (br_f (by decide) (br_f (by decide) (br_f (by decide) (br_f (by decide) (br_f (by decide) (br_f (by decide) (br_t rfl ?_))))))))))))))))⟩⟩⟩⟩
  exact qp_emit4 l rfl rfl h7 hl (qp_on pc H)
theorem qp_pJmp {P : Int32 → St1 → Prop} {f0 f1 f2 f3 f4 f5 f6 f7 f8 : Int32} {a1 a2 a3 a4 a5 a6 a7 a8 a9 a10 a11 a12 a13 a14 a15 a16 a17 a18 a19 a20 a21 a22 a23 a24 a25 a26 a27 a28 a29 a30 : Nat → Int32} (pc : Nat) (hpc : pc < 192) (h14 : a14 pc = 15) (d : Nat) (h18 : a18 pc = nI d)
    (H : P (nI (d)) (f0, f1, f2, f3, f4, f5, f6, f7, f8, a1, a2, a3, a4, a5, a6, a7, a8, a9, a10, a11, a12, a13, a14, a15, a16, a17, a18, a19, a20, a21, a22, a23, a24, a25, a26, a27, a28, a29, a30)) : wpX_perform P (f0, f1, f2, f3, f4, f5, f6, f7, f8, a1, a2, a3, a4, a5, a6, a7, a8, a9, a10, a11, a12, a13, a14, a15, a16, a17, a18, a19, a20, a21, a22, a23, a24, a25, a26, a27, a28, a29, a30) (nI pc) := by
  have ip : vp_in (nI pc) 192 := pk_in pc 192 hpc
  refine ⟨ip, nm_e ⟨ip, nm_e ⟨ip, nm_e ⟨ip, nm_r (qp_rd pc rfl h14) (br_f (by decide) (br_t (by decide) ?_))⟩⟩⟩⟩
  exact qp_off pc d hpc h18 H
end
section
/-! the machine's loops -/
/-- the result holds the rows ls -/
def qp_RS (w : Nat) (ls : List (Nat → Int32)) (f7 : Int32) (a30 : Nat → Int32) : Prop :=
  f7 = nI ls.length ∧ ∀ (t : Nat) (r : Nat → Int32), ls[t]? = some r → ∀ j, j < w → a30 (t * 6 + j) = r j
theorem qp_RS_0 {w : Nat} {a30 : Nat → Int32} : qp_RS w [] 0 a30 := ⟨rfl, fun t r h => by simp at h⟩
theorem qp_get_app {α : Type} {ls : List α} {r r' : α} {t : Nat} (h : (ls ++ [r])[t]? = some r') : (t < ls.length ∧ ls[t]? = some r') ∨ (t = ls.length ∧ r' = r) := by
  by_cases g : t < ls.length
  · rw [List.getElem?_append_left g] at h
    exact Or.inl ⟨g, h⟩
  · rw [List.getElem?_append_right (by omega)] at h
    by_cases k : t = ls.length
    · subst k
      rw [Nat.sub_self] at h
      simp at h
      exact Or.inr ⟨rfl, h.symm⟩
    · have : [r][t - ls.length]? = none := List.getElem?_eq_none (by show 1 ≤ _; omega)
      rw [this] at h
      exact absurd h (by simp)
theorem qp_RS_2 {ls : List (Nat → Int32)} {f7 x y : Int32} {a30 r : Nat → Int32} (h : qp_RS 2 ls f7 a30) (h0 : x = r 0) (h1 : y = r 1) :
    qp_RS 2 (ls ++ [r]) (nI (ls.length + 1)) (upd (upd a30 (ls.length * 6 + 0) x) (ls.length * 6 + 1) y) := by
  refine ⟨by rw [List.length_append]; rfl, fun t r' ht j hj => ?_⟩
  rcases qp_get_app ht with ⟨g1, g2⟩ | ⟨g1, g2⟩
  · rw [pk_un (by omega), pk_un (by omega)]
    exact h.2 t r' g2 j hj
  · subst g1 g2
    have : j = 0 ∨ j = 1 := by omega
    rcases this with e | e <;> subst e
    · rw [pk_un (by omega), pk_us, h0]
    · rw [pk_us, h1]
theorem qp_RS_4 {ls : List (Nat → Int32)} {f7 x y z v : Int32} {a30 r : Nat → Int32} (h : qp_RS 4 ls f7 a30) (h0 : x = r 0) (h1 : y = r 1) (h2 : z = r 2) (h3 : v = r 3) :
    qp_RS 4 (ls ++ [r]) (nI (ls.length + 1)) (upd (upd (upd (upd a30 (ls.length * 6 + 0) x) (ls.length * 6 + 1) y) (ls.length * 6 + 2) z) (ls.length * 6 + 3) v) := by
  refine ⟨by rw [List.length_append]; rfl, fun t r' ht j hj => ?_⟩
  rcases qp_get_app ht with ⟨g1, g2⟩ | ⟨g1, g2⟩
  · rw [pk_un (by omega), pk_un (by omega), pk_un (by omega), pk_un (by omega)]
    exact h.2 t r' g2 j hj
  · subst g1 g2
    have : j = 0 ∨ j = 1 ∨ j = 2 ∨ j = 3 := by omega
    rcases this with e | e | e | e <;> subst e
    · rw [pk_un (by omega), pk_un (by omega), pk_un (by omega), pk_us, h0]
    · rw [pk_un (by omega), pk_un (by omega), pk_us, h1]
    · rw [pk_un (by omega), pk_us, h2]
    · rw [pk_us, h3]
/-- a table's rows as a picture -/
def qp_TA (t r : Nat) (M : Nat → Nat → Int32) (a2 a3 : Nat → Int32) : Prop := a2 t = nI r ∧ ∀ i, i < r → a3 (t * 30 + i * 3 + 0) = M i 0 ∧ a3 (t * 30 + i * 3 + 1) = M i 1
/-- rows 1 to 3: the right table goes to the store -/
theorem qp_build {post : St1 → Prop} {f0 f1 f2 f3 f4 f5 f6 f7 f8 : Int32} {a1 a2 a3 a4 a5 a6 a7 a8 a9 a10 a11 a12 a13 a14 a15 a16 a17 a18 a19 a20 a23 a24 a30 : Nat → Int32} (b kd kl kr w m : Nat) {M : Nat → Nat → Int32} (hb : b ≤ 3) (hkr : kr < 2) (hm : m ≤ 4) (hK : qp_K4 b a14 a15 a16 a17 a18) (hP : qp_PL b kd kl kr w a4 a5 a6 a7 a8 a9 a10 a11) (hT : qp_TA 1 m M a2 a3) :
    ∀ (d k st : Nat) (a21 a22 a25 a26 a27 a28 a29 : Nat → Int32), k + d = m → st + 3 * d + 3 ≤ 90000 → a22 0 = nI k → qp_SI (b + 2) kr M k a25 a26 a27 a28 a29 →
    (∀ (st' : Nat) (c21 c22 c25 c26 c27 c28 c29 : Nat → Int32), st' ≤ st + 3 * d + 1 → qp_SI (b + 2) kr M m c25 c26 c27 c28 c29 → qp_E post 4 st' f0 f1 f2 f3 f4 f5 f6 f7 f8 a1 a2 a3 a4 a5 a6 a7 a8 a9 a10 a11 a12 a13 a14 a15 a16 a17 a18 a19 a20 c21 c22 a23 a24 c25 c26 c27 c28 c29 a30) → qp_E post 1 st f0 f1 f2 f3 f4 f5 f6 f7 f8 a1 a2 a3 a4 a5 a6 a7 a8 a9 a10 a11 a12 a13 a14 a15 a16 a17 a18 a19 a20 a21 a22 a23 a24 a25 a26 a27 a28 a29 a30 := by
  obtain ⟨⟨k1, k2⟩, ⟨k3, k4, k5, k6, k7⟩, ⟨k8, k9, k10, k11⟩, ⟨k12, k13⟩⟩ := hK
  obtain ⟨⟨h4a, h4b, h4c⟩, ⟨h5a, h5b, h5c⟩, ⟨h6a, h6b, h6c⟩, ⟨h7a, h7b⟩, ⟨h8a, h8b, h8c⟩, h9, h10, ⟨h11a, h11b, h11c⟩⟩ := hP
  obtain ⟨t1, t2⟩ := hT
  intro d
  induction d with
  | zero =>
    intro k st a21 a22 a25 a26 a27 a28 a29 hk hst h22 hS H
    have hk' : k = m := by omega
    subst hk'
    refine qp_Estep (by omega) (by omega) k3 (by decide) (fun P hp => qp_pFetN 1 (by omega) k3 (b + 1) 1 k k 4 k4 k5 k6 k7 (by omega) (by omega) h22 h4b h8b t1 (by omega) (by omega) hp) ?_
    exact H _ _ _ _ _ _ _ _ (by omega) hS
  | succ d ih =>
    intro k st a21 a22 a25 a26 a27 a28 a29 hk hst h22 hS H
    obtain ⟨r0, r1⟩ := t2 k (by omega)
    refine qp_Estep (by omega) (by omega) k3 (by decide) (fun P hp => qp_pFetY 1 (by omega) k3 (b + 1) 1 k m k4 k5 k6 (by omega) (by omega) h22 h4b h8b t1 h11b (by omega) (by omega) hp) ?_
    rw [r0, r1]
    obtain ⟨c25, c26, c27, c28, c29, hC, hK⟩ := qp_pKeep (f0 := f0) (f1 := f1) (f2 := f2) (f3 := f3) (f4 := f4) (f5 := f5) (f6 := f6) (f7 := f7) (f8 := f8) (a1 := a1) (a2 := a2) (a3 := a3) (a4 := a4) (a5 := a5) (a6 := a6) (a7 := a7) (a8 := a8) (a9 := a9) (a10 := a10) (a11 := a11) (a12 := a12) (a13 := a13) (a14 := a14) (a15 := a15) (a16 := a16) (a17 := a17) (a18 := a18) (a19 := a19) (a20 := a20) (a21 := upd (upd a21 0 (M k 0)) 1 (M k 1)) (a22 := upd a22 0 (nI (k + 1))) (a23 := a23) (a24 := a24) (a25 := a25) (a26 := a26) (a27 := a27) (a28 := a28) (a29 := a29) (a30 := a30) 2 (b + 2) kr k (by omega) k8 k9 k10 k11 (by omega) (by omega) hkr hS h10 rfl rfl
    refine qp_Estep (by omega) (by omega) k8 (by decide) hK ?_
    refine qp_Estep (by omega) (by omega) k12 (by decide) (fun P hp => qp_pJmp 3 (by omega) k12 1 k13 hp) ?_
    refine ih (k + 1) (st + 1 + 1 + 1) _ _ _ _ _ _ _ (by omega) (by omega) pk_us hC ?_
    intro st' d21 d22 d25 d26 d27 d28 d29 hs' hS'
    exact H st' _ _ _ _ _ _ _ (by omega) hS'
end
section
/-! rows 5 to 10 of an inner or outer join -/
/-- one match: rows 7, 8, 9 -/
theorem qp_matIt {post : St1 → Prop} {f0 f1 f2 f3 f4 f5 f6 f7 f8 : Int32} {a1 a2 a3 a4 a5 a6 a7 a8 a9 a10 a11 a12 a13 a14 a15 a16 a17 a18 a19 a20 a21 a22 a23 a24 a25 a26 a27 a28 a29 a30 : Nat → Int32} {key v : Int32} {ls : List (Nat → Int32)} (b kd kl kr w m i e st : Nat) {A M : Nat → Nat → Int32} (hb : b ≤ 3) (hK : qp_KM b kl a14 a15 a16 a17 a18) (hP : qp_PL b kd kl kr w a4 a5 a6 a7 a8 a9 a10 a11) (hS : qp_SI (b + 2) kr M m a25 a26 a27 a28 a29) (hm : m ≤ 4) (he : e < m) (h23 : a23 1 = key) (h22 : a22 1 = v)
    (hs : ∀ Q : Int32 → Prop, Q (nI e) → wpX_seek Q (f0, f1, f2, f3, f4, f5, f6, f7, f8, a1, a2, a3, a4, a5, a6, a7, a8, a9, a10, a11, a12, a13, a14, a15, a16, a17, a18, a19, a20, a21, a22, a23, a24, a25, a26, a27, a28, a29, a30) (nI (b + 2)) (nI kr) key v) (hst : st < 90000) (hR : qp_RS 4 ls f7 a30) (hl : ls.length < 24) (g0 : a21 0 = A i 0) (g1 : a21 1 = A i 1)
    (H : ∀ (g7 : Int32) (c21 c30 : Nat → Int32), c21 0 = A i 0 → c21 1 = A i 1 → qp_RS 4 (ls ++ [qp_row A M i e]) g7 c30 → qp_E post 7 (st + 3) f0 f1 f2 f3 f4 f5 f6 g7 f8 a1 a2 a3 a4 a5 a6 a7 a8 a9 a10 a11 a12 a13 a14 a15 a16 a17 a18 a19 a20 c21 (upd a22 1 (a29 ((b + 2) * 24 + e))) a23 (upd a24 1 1) a25 a26 a27 a28 a29 c30) : qp_E post 7 st f0 f1 f2 f3 f4 f5 f6 f7 f8 a1 a2 a3 a4 a5 a6 a7 a8 a9 a10 a11 a12 a13 a14 a15 a16 a17 a18 a19 a20 a21 a22 a23 a24 a25 a26 a27 a28 a29 a30 := by
  obtain ⟨⟨k1, k2, k3, k4⟩, ⟨k5, k6, k7, k8, k9⟩, ⟨k10, k11, k12⟩, ⟨k13, k14⟩, ⟨k15, k16⟩⟩ := hK
  obtain ⟨⟨h4a, h4b, h4c⟩, ⟨h5a, h5b, h5c⟩, ⟨h6a, h6b, h6c⟩, ⟨h7a, h7b⟩, ⟨h8a, h8b, h8c⟩, h9, h10, ⟨h11a, h11b, h11c⟩⟩ := hP
  obtain ⟨r0, r1⟩ := hS.2.1 e he
  refine qp_Estep (by omega) (by omega) k5 (by decide) (fun P hp => qp_pMatS 7 (by omega) k5 (b + 2) (b + 1) kr e k6 k7 k8 (by omega) (by omega) (by omega) h10 h6c h11b h23 h22 hs hp) ?_
  refine qp_Estep (by omega) (by omega) k10 (by decide) (fun P hp => qp_pEm4 8 (by omega) k10 ls.length k11 k12 hR.1 hl hp) ?_
  refine qp_Estep (by omega) (by omega) k13 (by decide) (fun P hp => qp_pJmp 9 (by omega) k13 7 k14 hp) ?_
  refine H _ _ _ ?_ ?_ (qp_RS_4 hR ?_ ?_ ?_ ?_)
  · exact g0
  · exact g1
  · exact g0
  · exact g1
  · exact r0
  · exact r1
/-- an outer join's row without a match: rows 7, 8, 9 -/
theorem qp_matZr {post : St1 → Prop} {f0 f1 f2 f3 f4 f5 f6 f7 f8 : Int32} {a1 a2 a3 a4 a5 a6 a7 a8 a9 a10 a11 a12 a13 a14 a15 a16 a17 a18 a19 a20 a21 a22 a23 a24 a25 a26 a27 a28 a29 a30 : Nat → Int32} {key v : Int32} {ls : List (Nat → Int32)} (b kl kr w i st : Nat) {A : Nat → Nat → Int32} (hb : b ≤ 3) (hK : qp_KM b kl a14 a15 a16 a17 a18) (hP : qp_PL b 3 kl kr w a4 a5 a6 a7 a8 a9 a10 a11) (h23 : a23 1 = key) (h22 : a22 1 = v) (h24 : a24 1 = 0)
    (hs : ∀ Q : Int32 → Prop, Q (-1) → wpX_seek Q (f0, f1, f2, f3, f4, f5, f6, f7, f8, a1, a2, a3, a4, a5, a6, a7, a8, a9, a10, a11, a12, a13, a14, a15, a16, a17, a18, a19, a20, a21, a22, a23, a24, a25, a26, a27, a28, a29, a30) (nI (b + 2)) (nI kr) key v) (hst : st < 90000) (hR : qp_RS 4 ls f7 a30) (hl : ls.length < 24) (g0 : a21 0 = A i 0) (g1 : a21 1 = A i 1)
    (H : ∀ (g7 : Int32) (c21 c30 : Nat → Int32), c21 0 = A i 0 → c21 1 = A i 1 → qp_RS 4 (ls ++ [qp_zrow A i]) g7 c30 → qp_E post 7 (st + 3) f0 f1 f2 f3 f4 f5 f6 g7 f8 a1 a2 a3 a4 a5 a6 a7 a8 a9 a10 a11 a12 a13 a14 a15 a16 a17 a18 a19 a20 c21 (upd a22 1 (-1)) a23 (upd a24 1 1) a25 a26 a27 a28 a29 c30) : qp_E post 7 st f0 f1 f2 f3 f4 f5 f6 f7 f8 a1 a2 a3 a4 a5 a6 a7 a8 a9 a10 a11 a12 a13 a14 a15 a16 a17 a18 a19 a20 a21 a22 a23 a24 a25 a26 a27 a28 a29 a30 := by
  obtain ⟨⟨k1, k2, k3, k4⟩, ⟨k5, k6, k7, k8, k9⟩, ⟨k10, k11, k12⟩, ⟨k13, k14⟩, ⟨k15, k16⟩⟩ := hK
  obtain ⟨⟨h4a, h4b, h4c⟩, ⟨h5a, h5b, h5c⟩, ⟨h6a, h6b, h6c⟩, ⟨h7a, h7b⟩, ⟨h8a, h8b, h8c⟩, h9, h10, ⟨h11a, h11b, h11c⟩⟩ := hP
  refine qp_Estep (by omega) (by omega) k5 (by decide) (fun P hp => qp_pMatZ 7 (by omega) k5 (b + 2) (b + 1) kr k6 k7 k8 (by omega) (by omega) h8c h10 h6c h11b h23 h22 h24 hs hp) ?_
  refine qp_Estep (by omega) (by omega) k10 (by decide) (fun P hp => qp_pEm4 8 (by omega) k10 ls.length k11 k12 hR.1 hl hp) ?_
  refine qp_Estep (by omega) (by omega) k13 (by decide) (fun P hp => qp_pJmp 9 (by omega) k13 7 k14 hp) ?_
  refine H _ _ _ ?_ ?_ (qp_RS_4 hR ?_ ?_ ?_ ?_)
  · exact g0
  · exact g1
  · exact g0
  · exact g1
  · rfl
  · rfl
/-- no further match: row 7 goes on at row 10 -/
theorem qp_matEnd {post : St1 → Prop} {f0 f1 f2 f3 f4 f5 f6 f7 f8 : Int32} {a1 a2 a3 a4 a5 a6 a7 a8 a9 a10 a11 a12 a13 a14 a15 a16 a17 a18 a19 a20 a21 a22 a23 a24 a25 a26 a27 a28 a29 a30 : Nat → Int32} {key v : Int32} (b kd kl kr w st : Nat) (hb : b ≤ 3) (hkd : kd < 4) (hK : qp_KM b kl a14 a15 a16 a17 a18) (hP : qp_PL b kd kl kr w a4 a5 a6 a7 a8 a9 a10 a11) (h23 : a23 1 = key) (h22 : a22 1 = v) (hn : kd ≠ 3 ∨ ¬ a24 1 = 0)
    (hs : ∀ Q : Int32 → Prop, Q (-1) → wpX_seek Q (f0, f1, f2, f3, f4, f5, f6, f7, f8, a1, a2, a3, a4, a5, a6, a7, a8, a9, a10, a11, a12, a13, a14, a15, a16, a17, a18, a19, a20, a21, a22, a23, a24, a25, a26, a27, a28, a29, a30) (nI (b + 2)) (nI kr) key v) (hst : st < 90000)
    (H : qp_E post 10 (st + 1) f0 f1 f2 f3 f4 f5 f6 f7 f8 a1 a2 a3 a4 a5 a6 a7 a8 a9 a10 a11 a12 a13 a14 a15 a16 a17 a18 a19 a20 a21 (upd a22 1 (-1)) a23 a24 a25 a26 a27 a28 a29 a30) : qp_E post 7 st f0 f1 f2 f3 f4 f5 f6 f7 f8 a1 a2 a3 a4 a5 a6 a7 a8 a9 a10 a11 a12 a13 a14 a15 a16 a17 a18 a19 a20 a21 a22 a23 a24 a25 a26 a27 a28 a29 a30 := by
  obtain ⟨⟨k1, k2, k3, k4⟩, ⟨k5, k6, k7, k8, k9⟩, ⟨k10, k11, k12⟩, ⟨k13, k14⟩, ⟨k15, k16⟩⟩ := hK
  obtain ⟨⟨h4a, h4b, h4c⟩, ⟨h5a, h5b, h5c⟩, ⟨h6a, h6b, h6c⟩, ⟨h7a, h7b⟩, ⟨h8a, h8b, h8c⟩, h9, h10, ⟨h11a, h11b, h11c⟩⟩ := hP
  exact qp_Estep (by omega) (by omega) k5 (by decide) (fun P hp => qp_pMatN 7 (by omega) k5 (b + 2) (b + 1) kr kd 10 k6 k7 k8 k9 (by omega) (by omega) hkd h8c h10 h6c h11b h23 h22 hs hn hp) H
/-- the matches from entry s on, one met already -/
theorem qp_mat1 {post : St1 → Prop} {f0 f1 f2 f3 f4 f5 f6 f8 : Int32} {a1 a2 a3 a4 a5 a6 a7 a8 a9 a10 a11 a12 a13 a14 a15 a16 a17 a18 a19 a20 a23 a25 a26 a27 a28 a29 : Nat → Int32} (b kd kl kr w m i : Nat) {A M : Nat → Nat → Int32} (hb : b ≤ 3) (hkr : kr < 2) (hkd : kd < 4) (hm : m ≤ 4) (hK : qp_KM b kl a14 a15 a16 a17 a18) (hP : qp_PL b kd kl kr w a4 a5 a6 a7 a8 a9 a10 a11) (hS : qp_SI (b + 2) kr M m a25 a26 a27 a28 a29) (h23 : a23 1 = A i kl) :
    ∀ (d s st : Nat) (ls : List (Nat → Int32)) (f7 : Int32) (a21 a22 a24 a30 : Nat → Int32), m - s ≤ d → s ≤ m → st + 3 * d + 3 ≤ 80000 → a24 1 = 1 → qp_PT (fun e => qp_bk (M e kr)) m (qp_bk (A i kl)) s (a22 1) → a22 0 = nI (i + 1) → a21 0 = A i 0 → a21 1 = A i 1 → qp_RS 4 ls f7 a30 → ls.length + (qp_frm (fun e => M e kr) (A i kl) (m - s) s).length ≤ 24 →
    (∀ (st' : Nat) (g7 : Int32) (c21 c22 c24 c30 : Nat → Int32), st' ≤ st + 3 * d + 1 → c22 0 = nI (i + 1) → qp_RS 4 (ls ++ (qp_frm (fun e => M e kr) (A i kl) (m - s) s).map (qp_row A M i)) g7 c30 → qp_E post 10 st' f0 f1 f2 f3 f4 f5 f6 g7 f8 a1 a2 a3 a4 a5 a6 a7 a8 a9 a10 a11 a12 a13 a14 a15 a16 a17 a18 a19 a20 c21 c22 a23 c24 a25 a26 a27 a28 a29 c30) → qp_E post 7 st f0 f1 f2 f3 f4 f5 f6 f7 f8 a1 a2 a3 a4 a5 a6 a7 a8 a9 a10 a11 a12 a13 a14 a15 a16 a17 a18 a19 a20 a21 a22 a23 a24 a25 a26 a27 a28 a29 a30 := by
  intro d
  induction d with
  | zero =>
    intro s st ls f7 a21 a22 a24 a30 hd hsm hst h24 hp h22 g0 g1 hR hl H
    obtain ⟨r, hr, hs⟩ := qp_seek (f0 := f0) (f1 := f1) (f2 := f2) (f3 := f3) (f4 := f4) (f5 := f5) (f6 := f6) (f7 := f7) (f8 := f8) (a1 := a1) (a2 := a2) (a3 := a3) (a4 := a4) (a5 := a5) (a6 := a6) (a7 := a7) (a8 := a8) (a9 := a9) (a10 := a10) (a11 := a11) (a12 := a12) (a13 := a13) (a14 := a14) (a15 := a15) (a16 := a16) (a17 := a17) (a18 := a18) (a19 := a19) (a20 := a20) (a21 := a21) (a22 := a22) (a23 := a23) (a24 := a24) (a25 := a25) (a26 := a26) (a27 := a27) (a28 := a28) (a29 := a29) (a30 := a30) (by omega) hkr hm hS hp
    rcases hr with ⟨q1, q2⟩ | ⟨e, q1, q2, q3, q4, q5⟩
    · subst q1
      refine qp_matEnd b kd kl kr w st hb hkd hK hP h23 rfl (Or.inr (by rw [h24]; decide)) hs (by omega) ?_
      have nil : qp_frm (fun e => M e kr) (A i kl) (m - s) s = [] := qp_frm_none _ _ _ _ (fun e z1 z2 => q2 e z1 (by omega))
      rw [nil] at H
      refine H (st + 1) f7 a21 _ a24 a30 (by omega) h22 ?_
      rw [List.map_nil, List.append_nil]
      exact hR
    · omega
  | succ d ih =>
    intro s st ls f7 a21 a22 a24 a30 hd hsm hst h24 hp h22 g0 g1 hR hl H
    obtain ⟨r, hr, hs⟩ := qp_seek (f0 := f0) (f1 := f1) (f2 := f2) (f3 := f3) (f4 := f4) (f5 := f5) (f6 := f6) (f7 := f7) (f8 := f8) (a1 := a1) (a2 := a2) (a3 := a3) (a4 := a4) (a5 := a5) (a6 := a6) (a7 := a7) (a8 := a8) (a9 := a9) (a10 := a10) (a11 := a11) (a12 := a12) (a13 := a13) (a14 := a14) (a15 := a15) (a16 := a16) (a17 := a17) (a18 := a18) (a19 := a19) (a20 := a20) (a21 := a21) (a22 := a22) (a23 := a23) (a24 := a24) (a25 := a25) (a26 := a26) (a27 := a27) (a28 := a28) (a29 := a29) (a30 := a30) (by omega) hkr hm hS hp
    rcases hr with ⟨q1, q2⟩ | ⟨e, q1, q2, q3, q4, q5⟩
    · subst q1
      refine qp_matEnd b kd kl kr w st hb hkd hK hP h23 rfl (Or.inr (by rw [h24]; decide)) hs (by omega) ?_
      have nil : qp_frm (fun e => M e kr) (A i kl) (m - s) s = [] := qp_frm_none _ _ _ _ (fun e z1 z2 => q2 e z1 (by omega))
      rw [nil] at H
      refine H (st + 1) f7 a21 _ a24 a30 (by omega) h22 ?_
      rw [List.map_nil, List.append_nil]
      exact hR
    · subst q3
      have cons : qp_frm (fun e => M e kr) (A i kl) (m - s) s = e :: qp_frm (fun e => M e kr) (A i kl) (m - (e + 1)) (e + 1) := by
        have := qp_frm_some (fun e => M e kr) (A i kl) (m - s) s e q1 (by omega) q4 q5
        rw [show s + (m - s) - (e + 1) = m - (e + 1) by omega] at this
        exact this
      rw [cons] at H hl
      rw [List.length_cons] at hl
      refine qp_matIt b kd kl kr w m i e st hb hK hP hS hm q2 h23 rfl hs (by omega) hR (by omega) g0 g1 (fun g7 c21 c30 j0 j1 hR' => ?_)
      have hl' := hS.2.2.2.1 e q2
      have q4' : M e kr = A i kl := q4
      rw [q4'] at hl'
      refine ih (e + 1) (st + 3) _ g7 c21 _ _ c30 (by omega) (by omega) (by omega) pk_us hl' h22 j0 j1 hR' ?_ ?_
      · rw [List.length_append]
        show _ + 1 + _ ≤ _
        omega
      · intro st' g7' d21 d22 d24 d30 hs' j2 hR''
        refine H st' g7' d21 d22 d24 d30 (by omega) j2 ?_
        rw [List.map_cons]
        rw [List.append_assoc] at hR''
        exact hR''
/-- all that left row i gives -/
theorem qp_mat0 {post : St1 → Prop} {f0 f1 f2 f3 f4 f5 f6 f7 f8 : Int32} {a1 a2 a3 a4 a5 a6 a7 a8 a9 a10 a11 a12 a13 a14 a15 a16 a17 a18 a19 a20 a21 a22 a23 a24 a25 a26 a27 a28 a29 a30 : Nat → Int32} {ls : List (Nat → Int32)} (b kd kl kr w m i st : Nat) {A M : Nat → Nat → Int32} (hb : b ≤ 3) (hkr : kr < 2) (hkd : kd < 4) (hm : m ≤ 4) (hK : qp_KM b kl a14 a15 a16 a17 a18) (hP : qp_PL b kd kl kr w a4 a5 a6 a7 a8 a9 a10 a11) (hS : qp_SI (b + 2) kr M m a25 a26 a27 a28 a29) (h23 : a23 1 = A i kl)
    (hst : st + 20 ≤ 80000) (h24 : a24 1 = 0) (hp : qp_PT (fun e => qp_bk (M e kr)) m (qp_bk (A i kl)) 0 (a22 1)) (h22 : a22 0 = nI (i + 1)) (g0 : a21 0 = A i 0) (g1 : a21 1 = A i 1) (hR : qp_RS 4 ls f7 a30) (hl : ls.length + (qp_one kd A M i (qp_frm (fun e => M e kr) (A i kl) m 0)).length ≤ 24)
    (H : ∀ (st' : Nat) (g7 : Int32) (c21 c22 c24 c30 : Nat → Int32), st' ≤ st + 20 → c22 0 = nI (i + 1) → qp_RS 4 (ls ++ qp_one kd A M i (qp_frm (fun e => M e kr) (A i kl) m 0)) g7 c30 → qp_E post 10 st' f0 f1 f2 f3 f4 f5 f6 g7 f8 a1 a2 a3 a4 a5 a6 a7 a8 a9 a10 a11 a12 a13 a14 a15 a16 a17 a18 a19 a20 c21 c22 a23 c24 a25 a26 a27 a28 a29 c30) : qp_E post 7 st f0 f1 f2 f3 f4 f5 f6 f7 f8 a1 a2 a3 a4 a5 a6 a7 a8 a9 a10 a11 a12 a13 a14 a15 a16 a17 a18 a19 a20 a21 a22 a23 a24 a25 a26 a27 a28 a29 a30 := by
  obtain ⟨r, hr, hs⟩ := qp_seek (f0 := f0) (f1 := f1) (f2 := f2) (f3 := f3) (f4 := f4) (f5 := f5) (f6 := f6) (f7 := f7) (f8 := f8) (a1 := a1) (a2 := a2) (a3 := a3) (a4 := a4) (a5 := a5) (a6 := a6) (a7 := a7) (a8 := a8) (a9 := a9) (a10 := a10) (a11 := a11) (a12 := a12) (a13 := a13) (a14 := a14) (a15 := a15) (a16 := a16) (a17 := a17) (a18 := a18) (a19 := a19) (a20 := a20) (a21 := a21) (a22 := a22) (a23 := a23) (a24 := a24) (a25 := a25) (a26 := a26) (a27 := a27) (a28 := a28) (a29 := a29) (a30 := a30) (by omega) hkr hm hS hp
  rcases hr with ⟨q1, q2⟩ | ⟨e, q1, q2, q3, q4, q5⟩
  · subst q1
    have nil : qp_frm (fun e => M e kr) (A i kl) m 0 = [] := qp_frm_none _ _ _ _ (fun e z1 z2 => q2 e z1 (by omega))
    rw [nil] at H hl
    by_cases hk : kd = 3
    · subst hk
      have one : qp_one 3 A M i [] = [qp_zrow A i] := if_pos ⟨rfl, rfl⟩
      rw [one] at H hl
      have hl2 : ls.length + 1 ≤ 24 := hl
      refine qp_matZr b kl kr w i st hb hK hP h23 rfl h24 hs (by omega) hR (by omega) g0 g1 (fun g7 c21 c30 j0 j1 hR' => ?_)
      refine qp_mat1 b 3 kl kr w m i hb hkr (by omega) hm hK hP hS h23 0 m (st + 3) _ g7 c21 _ _ c30 (by omega) (by omega) (by omega) pk_us (Or.inl ⟨pk_us, fun e z1 z2 => absurd z2 (by omega)⟩) h22 j0 j1 hR' ?_ ?_
      · rw [Nat.sub_self, List.length_append]
        show _ + 1 + 0 ≤ _
        omega
      · intro st' g7' d21 d22 d24 d30 hs' j2 hR''
        rw [Nat.sub_self] at hR''
        refine H st' g7' d21 d22 d24 d30 (by omega) j2 ?_
        have e0 : (qp_frm (fun e => M e kr) (A i kl) 0 m).map (qp_row A M i) = [] := rfl
        rw [e0, List.append_nil] at hR''
        exact hR''
    · have one : qp_one kd A M i [] = [] := if_neg (fun z => hk z.2)
      rw [one, List.append_nil] at H
      refine qp_matEnd b kd kl kr w st hb hkd hK hP h23 rfl (Or.inl hk) hs (by omega) ?_
      exact H (st + 1) f7 a21 _ a24 a30 (by omega) h22 hR
  · subst q3
    have cons : qp_frm (fun e => M e kr) (A i kl) m 0 = e :: qp_frm (fun e => M e kr) (A i kl) (m - (e + 1)) (e + 1) := by
      have := qp_frm_some (fun e => M e kr) (A i kl) m 0 e q1 (by omega) q4 q5
      rw [Nat.zero_add] at this
      exact this
    have one : qp_one kd A M i (qp_frm (fun e => M e kr) (A i kl) m 0) = qp_row A M i e :: (qp_frm (fun e => M e kr) (A i kl) (m - (e + 1)) (e + 1)).map (qp_row A M i) := by
      rw [cons]
      exact if_neg (fun z => absurd z.1 (List.cons_ne_nil _ _))
    rw [one] at H hl
    rw [List.length_cons, List.length_map] at hl
    refine qp_matIt b kd kl kr w m i e st hb hK hP hS hm q2 h23 rfl hs (by omega) hR (by omega) g0 g1 (fun g7 c21 c30 j0 j1 hR' => ?_)
    have hl' := hS.2.2.2.1 e q2
    have q4' : M e kr = A i kl := q4
    rw [q4'] at hl'
    refine qp_mat1 b kd kl kr w m i hb hkr hkd hm hK hP hS h23 4 (e + 1) (st + 3) _ g7 c21 _ _ c30 (by omega) (by omega) (by omega) pk_us hl' h22 j0 j1 hR' ?_ ?_
    · rw [List.length_append]
      show _ + 1 + _ ≤ _
      omega
    · intro st' g7' d21 d22 d24 d30 hs' j2 hR''
      refine H st' g7' d21 d22 d24 d30 (by omega) j2 ?_
      rw [List.append_assoc] at hR''
      exact hR''
/-- the left table's loop -/
theorem qp_leftM {post : St1 → Prop} {f0 f1 f2 f3 f4 f5 f6 f8 : Int32} {a1 a2 a3 a4 a5 a6 a7 a8 a9 a10 a11 a12 a13 a14 a15 a16 a17 a18 a19 a20 a25 a26 a27 a28 a29 : Nat → Int32} (b kd kl kr w n m : Nat) {A M : Nat → Nat → Int32} (hb : b ≤ 3) (hkl : kl < 2) (hkr : kr < 2) (hkd : kd < 4) (hn : n ≤ 4) (hm : m ≤ 4) (hC : qp_CM b kl a14 a15 a16 a17 a18) (hP : qp_PL b kd kl kr w a4 a5 a6 a7 a8 a9 a10 a11) (hS : qp_SI (b + 2) kr M m a25 a26 a27 a28 a29) (hT : qp_TA 0 n A a2 a3) :
    ∀ (d i st : Nat) (ls : List (Nat → Int32)) (f7 : Int32) (a21 a22 a23 a24 a30 : Nat → Int32), i + d = n → st + 30 * d + 30 ≤ 70000 → a22 0 = nI i → qp_RS 4 ls f7 a30 → ls.length + (qp_join kd A M kl kr m d i).length ≤ 24 →
    (∀ (g7 : Int32) (c21 c22 c23 c24 c30 : Nat → Int32), qp_RS 4 (ls ++ qp_join kd A M kl kr m d i) g7 c30 → post (f0, f1, f2, f3, f4, f5, f6, g7, f8, a1, a2, a3, a4, a5, a6, a7, a8, a9, a10, a11, a12, a13, a14, a15, a16, a17, a18, a19, a20, c21, c22, c23, c24, a25, a26, a27, a28, a29, c30)) → qp_E post 5 st f0 f1 f2 f3 f4 f5 f6 f7 f8 a1 a2 a3 a4 a5 a6 a7 a8 a9 a10 a11 a12 a13 a14 a15 a16 a17 a18 a19 a20 a21 a22 a23 a24 a25 a26 a27 a28 a29 a30 := by
  obtain ⟨hK4, ⟨⟨l1, l2⟩, ⟨l3, l4, l5, l6, l7⟩⟩, hK, hstop⟩ := hC
  have hK0 := hK
  have hP0 := hP
  obtain ⟨⟨k1, k2, k3, k4⟩, ⟨k5, k6, k7, k8, k9⟩, ⟨k10, k11, k12⟩, ⟨k13, k14⟩, ⟨k15, k16⟩⟩ := hK0
  obtain ⟨⟨h4a, h4b, h4c⟩, ⟨h5a, h5b, h5c⟩, ⟨h6a, h6b, h6c⟩, ⟨h7a, h7b⟩, ⟨h8a, h8b, h8c⟩, h9, h10, ⟨h11a, h11b, h11c⟩⟩ := hP0
  obtain ⟨t1, t2⟩ := hT
  intro d
  induction d with
  | zero =>
    intro i st ls f7 a21 a22 a23 a24 a30 hi hst h22 hR hl H
    have hi' : i = n := by omega
    subst hi'
    refine qp_Estep (by omega) (by omega) l3 (by decide) (fun P hp => qp_pFetN 5 (by omega) l3 b 0 i i 11 l4 l5 l6 l7 (by omega) (by omega) h22 h4a h8a t1 (by omega) (by omega) hp) ?_
    refine qp_Estop (by omega) (by omega) hstop ?_
    refine H f7 a21 a22 a23 a24 a30 ?_
    show qp_RS 4 (ls ++ []) f7 a30
    rw [List.append_nil]
    exact hR
  | succ d ih =>
    intro i st ls f7 a21 a22 a23 a24 a30 hi hst h22 hR hl H
    obtain ⟨r0, r1⟩ := t2 i (by omega)
    have hj : qp_join kd A M kl kr m (d + 1) i = qp_one kd A M i (qp_frm (fun e => M e kr) (A i kl) m 0) ++ qp_join kd A M kl kr m d (i + 1) := rfl
    rw [hj] at H hl
    rw [List.length_append] at hl
    refine qp_Estep (by omega) (by omega) l3 (by decide) (fun P hp => qp_pFetY 5 (by omega) l3 b 0 i n l4 l5 l6 (by omega) (by omega) h22 h4a h8a t1 h11a (by omega) (by omega) hp) ?_
    rw [r0, r1]
    have hkey : upd (upd a21 0 (A i 0)) 1 (A i 1) kl = A i kl := by
      have : kl = 0 ∨ kl = 1 := by omega
      rcases this with r | r
      · subst r; rfl
      · subst r; rfl
    refine qp_Estep (by omega) (by omega) k1 (by decide) (fun P hp => qp_pPrb 6 (by omega) k1 (b + 2) kl k2 k3 k4 (by omega) hkl hkey hp) ?_
    refine qp_mat0 (A := A) (ls := ls) b kd kl kr w m i _ hb hkr hkd hm hK hP hS pk_us (by omega) pk_us ?_ ?_ rfl rfl hR (by omega) ?_
    · rw [pk_us]
      exact hS.2.2.1 _ (qp_bk_lt _)
    · rfl
    · intro st' g7 c21 c22 c24 c30 hs' j2 hR'
      refine qp_Estep (by omega) (by omega) k15 (by decide) (fun P hp => qp_pJmp 10 (by omega) k15 5 k16 hp) ?_
      refine ih (i + 1) (st' + 1) _ g7 c21 c22 _ c24 c30 (by omega) (by omega) j2 hR' ?_ ?_
      · rw [List.length_append]
        omega
      · intro g7' d21 d22 d23 d24 d30 hR''
        refine H g7' d21 d22 d23 d24 d30 ?_
        rw [List.append_assoc] at hR''
        exact hR''
/-! rows 5 to 8 of an anti join -/
theorem qp_leftX {post : St1 → Prop} {f0 f1 f2 f3 f4 f5 f6 f8 : Int32} {a1 a2 a3 a4 a5 a6 a7 a8 a9 a10 a11 a12 a13 a14 a15 a16 a17 a18 a19 a20 a23 a24 a25 a26 a27 a28 a29 : Nat → Int32} (b kl kr w n m : Nat) {A M : Nat → Nat → Int32} (hb : b ≤ 3) (hkl : kl < 2) (hkr : kr < 2) (hn : n ≤ 4) (hm : m ≤ 4) (hC : qp_CX b kl a14 a15 a16 a17 a18) (hP : qp_PL b 2 kl kr w a4 a5 a6 a7 a8 a9 a10 a11) (hS : qp_SI (b + 2) kr M m a25 a26 a27 a28 a29) (hT : qp_TA 0 n A a2 a3) :
    ∀ (d i st : Nat) (ls : List (Nat → Int32)) (f7 : Int32) (a21 a22 a30 : Nat → Int32), i + d = n → st + 30 * d + 30 ≤ 70000 → a22 0 = nI i → qp_RS 2 ls f7 a30 → ls.length + (qp_anti A M kl kr m d i).length ≤ 24 →
    (∀ (g7 : Int32) (c21 c22 c30 : Nat → Int32), qp_RS 2 (ls ++ qp_anti A M kl kr m d i) g7 c30 → post (f0, f1, f2, f3, f4, f5, f6, g7, f8, a1, a2, a3, a4, a5, a6, a7, a8, a9, a10, a11, a12, a13, a14, a15, a16, a17, a18, a19, a20, c21, c22, a23, a24, a25, a26, a27, a28, a29, c30)) → qp_E post 5 st f0 f1 f2 f3 f4 f5 f6 f7 f8 a1 a2 a3 a4 a5 a6 a7 a8 a9 a10 a11 a12 a13 a14 a15 a16 a17 a18 a19 a20 a21 a22 a23 a24 a25 a26 a27 a28 a29 a30 := by
  obtain ⟨hK4, ⟨⟨l1, l2⟩, ⟨l3, l4, l5, l6, l7⟩⟩, hK, hstop⟩ := hC
  obtain ⟨⟨k1, k2, k3, k4, k5⟩, ⟨k6, k7, k8⟩, ⟨k9, k10⟩⟩ := hK
  obtain ⟨⟨h4a, h4b, h4c⟩, ⟨h5a, h5b, h5c⟩, ⟨h6a, h6b, h6c⟩, ⟨h7a, h7b⟩, ⟨h8a, h8b, h8c⟩, h9, h10, ⟨h11a, h11b, h11c⟩⟩ := hP
  obtain ⟨t1, t2⟩ := hT
  intro d
  induction d with
  | zero =>
    intro i st ls f7 a21 a22 a30 hi hst h22 hR hl H
    have hi' : i = n := by omega
    subst hi'
    refine qp_Estep (by omega) (by omega) l3 (by decide) (fun P hp => qp_pFetN 5 (by omega) l3 b 0 i i 9 l4 l5 l6 l7 (by omega) (by omega) h22 h4a h8a t1 (by omega) (by omega) hp) ?_
    refine qp_Estop (by omega) (by omega) hstop ?_
    refine H f7 a21 a22 a30 ?_
    show qp_RS 2 (ls ++ []) f7 a30
    rw [List.append_nil]
    exact hR
  | succ d ih =>
    intro i st ls f7 a21 a22 a30 hi hst h22 hR hl H
    obtain ⟨r0, r1⟩ := t2 i (by omega)
    have hj : qp_anti A M kl kr m (d + 1) i = (if qp_frm (fun e => M e kr) (A i kl) m 0 = [] then [qp_zrow A i] else []) ++ qp_anti A M kl kr m d (i + 1) := rfl
    rw [hj] at H hl
    refine qp_Estep (by omega) (by omega) l3 (by decide) (fun P hp => qp_pFetY 5 (by omega) l3 b 0 i n l4 l5 l6 (by omega) (by omega) h22 h4a h8a t1 h11a (by omega) (by omega) hp) ?_
    rw [r0, r1]
    have hkey : upd (upd a21 0 (A i 0)) 1 (A i 1) kl = A i kl := by
      have : kl = 0 ∨ kl = 1 := by omega
      rcases this with r | r
      · subst r; rfl
      · subst r; rfl
    obtain ⟨r, hr, hs⟩ := qp_seek (f0 := f0) (f1 := f1) (f2 := f2) (f3 := f3) (f4 := f4) (f5 := f5) (f6 := f6) (f7 := f7) (f8 := f8) (a1 := a1) (a2 := a2) (a3 := a3) (a4 := a4) (a5 := a5) (a6 := a6) (a7 := a7) (a8 := a8) (a9 := a9) (a10 := a10) (a11 := a11) (a12 := a12) (a13 := a13) (a14 := a14) (a15 := a15) (a16 := a16) (a17 := a17) (a18 := a18) (a19 := a19) (a20 := a20) (a21 := upd (upd a21 0 (A i 0)) 1 (A i 1)) (a22 := upd a22 0 (nI (i + 1))) (a23 := a23) (a24 := a24) (a25 := a25) (a26 := a26) (a27 := a27) (a28 := a28) (a29 := a29) (a30 := a30) (key := A i kl) (by omega) hkr hm hS (hS.2.2.1 _ (qp_bk_lt _))
    rcases hr with ⟨q1, q2⟩ | ⟨e, q1, q2, q3, q4, q5⟩
    · subst q1
      have nil : qp_frm (fun e => M e kr) (A i kl) m 0 = [] := qp_frm_none _ _ _ _ (fun e z1 z2 => q2 e z1 (by omega))
      rw [if_pos nil] at H hl
      rw [List.length_append] at hl
      have hl2 : ls.length + (1 + (qp_anti A M kl kr m d (i + 1)).length) ≤ 24 := hl
      refine qp_Estep (by omega) (by omega) k1 (by decide) (fun P hp => qp_pExN 6 (by omega) k1 (b + 2) kl kr k2 k3 k4 (by omega) hkl h10 hkey hs (by decide) hp) ?_
      refine qp_Estep (by omega) (by omega) k6 (by decide) (fun P hp => qp_pEm2 7 (by omega) k6 ls.length k7 k8 hR.1 (by omega) hp) ?_
      refine qp_Estep (by omega) (by omega) k9 (by decide) (fun P hp => qp_pJmp 8 (by omega) k9 5 k10 hp) ?_
      refine ih (i + 1) (st + 1 + 1 + 1 + 1) _ _ _ _ _ (by omega) (by omega) pk_us (qp_RS_2 (r := qp_zrow A i) hR rfl rfl) ?_ ?_
      · rw [List.length_append]
        show _ + 1 + _ ≤ _
        omega
      · intro g7' d21 d22 d30 hR''
        refine H g7' d21 d22 d30 ?_
        rw [List.append_assoc] at hR''
        exact hR''
    · subst q3
      have cons : ¬ qp_frm (fun e => M e kr) (A i kl) m 0 = [] := by
        rw [qp_frm_some (fun e => M e kr) (A i kl) m 0 e q1 (by omega) q4 q5]
        exact List.cons_ne_nil _ _
      rw [if_neg cons, List.nil_append] at H hl
      refine qp_Estep (by omega) (by omega) k1 (by decide) (fun P hp => qp_pExY 6 (by omega) k1 (b + 2) kl kr 5 k2 k3 k4 (by omega) hkl h10 hkey hs k5 (nI_pos (by omega)) hp) ?_
      exact ih (i + 1) (st + 1 + 1) _ _ _ _ _ (by omega) (by omega) pk_us hR hl H
end
section
/-! execute and run -/
/-- the rows that a join of kind kd gives -/
def qp_res (kd : Nat) (A M : Nat → Nat → Int32) (kl kr m n : Nat) : List (Nat → Int32) := if kd = 2 then qp_anti A M kl kr m n 0 else qp_join kd A M kl kr m n 0
theorem qp_res_len (kd : Nat) (A M : Nat → Nat → Int32) (kl kr m n : Nat) (hm : m ≤ 4) (hn : n ≤ 4) : (qp_res kd A M kl kr m n).length ≤ 16 := by
  unfold qp_res
  by_cases h : kd = 2
  · rw [if_pos h]
    have := qp_anti_len A M kl kr m n 0
    omega
  · rw [if_neg h]
    have := qp_join_len kd A M kl kr m hm n 0
    omega
theorem qp_mach {post : St1 → Prop} {f0 f1 f2 f3 f4 f5 f6 f7 f8 : Int32} {a1 a2 a3 a4 a5 a6 a7 a8 a9 a10 a11 a12 a13 a14 a15 a16 a17 a18 a19 a20 a21 a22 a23 a24 a25 a26 a27 a28 a29 a30 : Nat → Int32} (b kd kl kr w n m : Nat) {A M : Nat → Nat → Int32} (hb : b ≤ 3) (hkl : kl < 2) (hkr : kr < 2) (hkd : kd < 4) (hn : n ≤ 4) (hm : m ≤ 4) (hC : qp_CP b kd kl a14 a15 a16 a17 a18) (hP : qp_PL b kd kl kr w a4 a5 a6 a7 a8 a9 a10 a11) (hT0 : qp_TA 0 n A a2 a3) (hT1 : qp_TA 1 m M a2 a3)
    (h7 : f7 = 0) (h26 : ∀ j, j < 12 → a26 j = 0) (h27 : ∀ j, j < 96 → a27 j = -1)
    (H : ∀ (g7 : Int32) (c21 c22 c23 c24 c25 c26 c27 c28 c29 c30 : Nat → Int32), qp_RS (qp_w kd) (qp_res kd A M kl kr m n) g7 c30 → post (f0, f1, f2, f3, f4, f5, f6, g7, f8, a1, a2, a3, a4, a5, a6, a7, a8, a9, a10, a11, a12, a13, a14, a15, a16, a17, a18, a19, a20, c21, c22, c23, c24, c25, c26, c27, c28, c29, c30)) : qp_E post 0 0 f0 f1 f2 f3 f4 f5 f6 f7 f8 a1 a2 a3 a4 a5 a6 a7 a8 a9 a10 a11 a12 a13 a14 a15 a16 a17 a18 a19 a20 a21 a22 a23 a24 a25 a26 a27 a28 a29 a30 := by
  have hlen := qp_res_len kd A M kl kr m n hm hn
  subst h7
  have hS0 : qp_SI (b + 2) kr M 0 a25 a26 a27 a28 a29 := qp_SI_0 (h26 (b + 2) (by omega)) (fun h hh => h27 _ (by omega))
  have h4 : qp_K4 b a14 a15 a16 a17 a18 := by
    by_cases hk : kd = 2
    · exact (hC.1 hk).1
    · exact (hC.2 hk).1
  have h40 := h4
  obtain ⟨⟨k1, k2⟩, _⟩ := h40
  refine qp_Estep (by omega) (by omega) k1 (by decide) (fun P hp => qp_pOpn 0 (by omega) k1 k2 hp) ?_
  refine qp_build b kd kl kr w m hb hkr hm h4 hP hT1 m 0 1 _ _ _ _ _ _ _ (by omega) (by omega) pk_us hS0 ?_
  intro st' c21 c22 c25 c26 c27 c28 c29 hs' hS
  by_cases hk : kd = 2
  · subst hk
    have hX := hC.1 rfl
    have hX0 := hX
    obtain ⟨_, ⟨⟨l1, l2⟩, _⟩, _, _⟩ := hX0
    have e2 : qp_res 2 A M kl kr m n = qp_anti A M kl kr m n 0 := if_pos rfl
    rw [e2] at H hlen
    refine qp_Estep (by omega) (by omega) l1 (by decide) (fun P hp => qp_pOpn 4 (by omega) l1 l2 hp) ?_
    refine qp_leftX b kl kr w n m hb hkl hkr hn hm hX hP hS hT0 n 0 (st' + 1) [] _ _ _ _ (by omega) (by omega) pk_us qp_RS_0 (by show 0 + _ ≤ _; omega) ?_
    intro g7 d21 d22 d30 hR
    exact H g7 d21 d22 _ _ _ _ _ _ _ d30 hR
  · have hX := hC.2 hk
    have hX0 := hX
    obtain ⟨_, ⟨⟨l1, l2⟩, _⟩, _, _⟩ := hX0
    have e2 : qp_res kd A M kl kr m n = qp_join kd A M kl kr m n 0 := if_neg hk
    have e3 : qp_w kd = 4 := if_neg hk
    rw [e2] at H hlen
    rw [e3] at H
    refine qp_Estep (by omega) (by omega) l1 (by decide) (fun P hp => qp_pOpn 4 (by omega) l1 l2 hp) ?_
    refine qp_leftM b kd kl kr w n m hb hkl hkr hkd hn hm hX hP hS hT0 n 0 (st' + 1) [] _ _ _ _ _ _ (by omega) (by omega) pk_us qp_RS_0 (by show 0 + _ ≤ _; omega) ?_
    intro g7 d21 d22 d23 d24 d30 hR
    exact H g7 d21 d22 d23 d24 _ _ _ _ _ d30 hR
theorem qp_exec {post : St1 → Prop} {f0 f1 f2 f3 f4 f5 f6 f7 f8 : Int32} {a1 a2 a3 a4 a5 a6 a7 a8 a9 a10 a11 a12 a13 a14 a15 a16 a17 a18 a19 a20 a21 a22 a23 a24 a25 a26 a27 a28 a29 a30 : Nat → Int32} (b kd kl kr w n m : Nat) {A M : Nat → Nat → Int32} (hb : b ≤ 3) (hkl : kl < 2) (hkr : kr < 2) (hkd : kd < 4) (hn : n ≤ 4) (hm : m ≤ 4) (hC : qp_CP b kd kl a14 a15 a16 a17 a18) (hP : qp_PL b kd kl kr w a4 a5 a6 a7 a8 a9 a10 a11) (hT0 : qp_TA 0 n A a2 a3) (hT1 : qp_TA 1 m M a2 a3)
    (H : ∀ (g7 : Int32) (c21 c22 c23 c24 c25 c26 c27 c28 c29 c30 : Nat → Int32), qp_RS (qp_w kd) (qp_res kd A M kl kr m n) g7 c30 → post (f0, f1, f2, f3, f4, f5, f6, g7, f8, a1, a2, a3, a4, a5, a6, a7, a8, a9, a10, a11, a12, a13, a14, a15, a16, a17, a18, a19, a20, c21, c22, c23, c24, c25, c26, c27, c28, c29, c30)) : wpX_execute post (f0, f1, f2, f3, f4, f5, f6, f7, f8, a1, a2, a3, a4, a5, a6, a7, a8, a9, a10, a11, a12, a13, a14, a15, a16, a17, a18, a19, a20, a21, a22, a23, a24, a25, a26, a27, a28, a29, a30) := by
  refine pk_loop (σ := Nat → Int32) (fun n i s => wX_execute_2 post f0 f1 f2 f3 f4 f5 f6 f7 f8 n (nI i) a1 a2 a3 a4 a5 a6 a7 a8 a9 a10 a11 a12 a13 a14 a15 a16 a17 a18 a19 a20 a21 a22 a23 a24 a25 s a27 a28 a29 a30) (fun i s => ∀ j, j < i → s j = 0) 12 0 a26 (by omega) (fun j hj => absurd hj (by omega)) ?_ ?_
  · intro n1 s26 h26
    refine pk_le 12 12 (fun _ => ?_) (fun z => absurd z (by omega))
    refine pk_loop (σ := Nat → Int32) (fun n i s => wX_execute_23 post f0 f1 f2 f3 f4 f5 f6 f7 f8 n (nI i) a1 a2 a3 a4 a5 a6 a7 a8 a9 a10 a11 a12 a13 a14 a15 a16 a17 a18 a19 a20 a21 a22 a23 a24 a25 s26 s a28 a29 a30) (fun i s => ∀ j, j < i → s j = -1) 96 0 a27 (by omega) (fun j hj => absurd hj (by omega)) ?_ ?_
    · intro n2 s27 h27
      refine pk_le 96 96 (fun _ => ?_) (fun z => absurd z (by omega))
      exact qp_mach b kd kl kr w n m hb hkl hkr hkd hn hm hC hP hT0 hT1 rfl h26 h27 H
    · intro n2 i s hi h hw
      refine pk_le 96 i (fun z => absurd z (by omega)) (fun _ => ⟨pk_in i 96 hi, nm_r (qp_up i rfl rfl) (nm_r (nI_1 i) (hw _ (fun j hj => ?_)))⟩)
      by_cases e : j = i
      · rw [e, pk_us]
      · rw [pk_un e]; exact h j (by omega)
  · intro n1 i s hi h hw
    refine pk_le 12 i (fun z => absurd z (by omega)) (fun _ => ⟨pk_in i 12 hi, nm_r (qp_up i rfl rfl) (nm_r (nI_1 i) (hw _ (fun j hj => ?_)))⟩)
    by_cases e : j = i
    · rw [e, pk_us]
    · rw [pk_un e]; exact h j (by omega)
/-! bounds -/
theorem qp_bndS {post : Int32 → Prop} {f0 f1 f2 f3 f4 f5 f6 f7 f8 : Int32} {a1 a2 a3 a4 a5 a6 a7 a8 a9 a10 a11 a12 a13 a14 a15 a16 a17 a18 a19 a20 a21 a22 a23 a24 a25 a26 a27 a28 a29 a30 : Nat → Int32} (i t r : Nat) (hi : i < 12) (ht : t < 2) (h4 : a4 i = 0) (h8 : a8 i = nI t) (h2 : a2 t = nI r) (H : post (nI r)) : wpX_boundOf post (f0, f1, f2, f3, f4, f5, f6, f7, f8, a1, a2, a3, a4, a5, a6, a7, a8, a9, a10, a11, a12, a13, a14, a15, a16, a17, a18, a19, a20, a21, a22, a23, a24, a25, a26, a27, a28, a29, a30) (nI i) := by
  have i12 : vp_in (nI i) 12 := pk_in i 12 hi
  refine ⟨i12, br_t (qp_rd i rfl h4) ⟨i12, pk_in t 4 (by omega) (qp_rd i rfl h8), ?_⟩⟩
  rw [qp_rd t (qp_rd i rfl h8) h2]
  exact H
theorem qp_bndJ {post : Int32 → Prop} {f0 f1 f2 f3 f4 f5 f6 f7 f8 : Int32} {a1 a2 a3 a4 a5 a6 a7 a8 a9 a10 a11 a12 a13 a14 a15 a16 a17 a18 a19 a20 a21 a22 a23 a24 a25 a26 a27 a28 a29 a30 : Nat → Int32} (b kd kl kr w n m : Nat) (hb : b ≤ 3) (hkd : kd < 4) (hP : qp_PL b kd kl kr w a4 a5 a6 a7 a8 a9 a10 a11) (hn : n ≤ 4) (hm : m ≤ 4) (b0 : a12 b = nI n) (b1 : a12 (b + 1) = nI m) (H : ∀ v, v ≤ 16 → post (nI v)) : wpX_boundOf post (f0, f1, f2, f3, f4, f5, f6, f7, f8, a1, a2, a3, a4, a5, a6, a7, a8, a9, a10, a11, a12, a13, a14, a15, a16, a17, a18, a19, a20, a21, a22, a23, a24, a25, a26, a27, a28, a29, a30) (nI (b + 2)) := by
  obtain ⟨⟨h4a, h4b, h4c⟩, ⟨h5a, h5b, h5c⟩, ⟨h6a, h6b, h6c⟩, ⟨h7a, h7b⟩, ⟨h8a, h8b, h8c⟩, h9, h10, ⟨h11a, h11b, h11c⟩⟩ := hP
  have i12 : vp_in (nI (b + 2)) 12 := pk_in (b + 2) 12 (by omega)
  have r4 := qp_rd (f := a4) (b + 2) rfl h4c
  have n0 : ¬ a4 (nI (b + 2)).toNatClampNeg = 0 := by rw [r4]; decide
  have n6 : ¬ a4 (nI (b + 2)).toNatClampNeg = 6 := by rw [r4]; decide
  have nm : n * m ≤ 16 := Nat.mul_le_mul hn hm
  have fin : ∀ v, v ≤ 16 → wX_boundOf_139 post (nI v) f0 f1 f2 f3 f4 f5 f6 f7 f8 a1 a2 a3 a4 a5 a6 a7 a8 a9 a10 a11 a12 a13 a14 a15 a16 a17 a18 a19 a20 a21 a22 a23 a24 a25 a26 a27 a28 a29 a30 := fun v hv => br_t (nI_le (b := 24) (by omega) (by decide)) (H v hv)
  refine ⟨i12, br_f n0 ⟨i12, pk_in b 12 (by omega) (qp_rd (b + 2) rfl h5c), nm_r (qp_rd b (qp_rd (b + 2) rfl h5c) b0) (br_t (nI_pos' (by omega)) ⟨i12, br_f n6 ⟨i12, br_t r4 ?_⟩⟩)⟩⟩
  refine ⟨i12, pk_in (b + 1) 12 (by omega) (qp_rd (b + 2) rfl h6c), nm_r (qp_rd (b + 1) (qp_rd (b + 2) rfl h6c) b1) (br_t (nI_pos' (by omega)) ⟨i12, br_f n6 ⟨i12, ?_⟩⟩)⟩
  rw [qp_rd (b + 2) rfl h8c]
  refine pk_eq kd 0 (fun _ => nm_r (pk_mul n m) (fin _ nm)) (fun _ => ⟨i12, ?_⟩)
  refine pk_eq kd 3 (fun _ => ?_) (fun _ => fin n (by omega))
  exact pk_le m 1 (fun _ => fin n (by omega)) (fun _ => nm_r (pk_mul n m) (fin _ nm))
/-- the bounds of three nodes -/
theorem qp_rblk {post : Int32 → St1 → Prop} {f0 f1 f2 f3 f4 f5 f6 f7 f8 : Int32} {a1 a2 a3 a4 a5 a6 a7 a8 a9 a10 a11 a12 a13 a14 a15 a16 a17 a18 a19 a20 a21 a22 a23 a24 a25 a26 a27 a28 a29 a30 : Nat → Int32} (X k b kd kl kr w n m : Nat) (hX : b + 2 ≤ X) (hX2 : X < 12) (hb : b ≤ 3) (hkd : kd < 4) (hn : n ≤ 4) (hm : m ≤ 4) (hP : qp_PL b kd kl kr w a4 a5 a6 a7 a8 a9 a10 a11) (h20 : a2 0 = nI n) (h21 : a2 1 = nI m)
    (H : ∀ (c12 : Nat → Int32) (v : Nat), v ≤ 16 → c12 (b + 2) = nI v → wX_run_13 post (nI X) f0 f1 f2 f3 f4 f5 f6 f7 f8 k (nI (b + 3)) a1 a2 a3 a4 a5 a6 a7 a8 a9 a10 a11 c12 a13 a14 a15 a16 a17 a18 a19 a20 a21 a22 a23 a24 a25 a26 a27 a28 a29 a30) : wX_run_13 post (nI X) f0 f1 f2 f3 f4 f5 f6 f7 f8 (k + 3) (nI b) a1 a2 a3 a4 a5 a6 a7 a8 a9 a10 a11 a12 a13 a14 a15 a16 a17 a18 a19 a20 a21 a22 a23 a24 a25 a26 a27 a28 a29 a30 := by
  have hP0 := hP
  obtain ⟨⟨h4a, h4b, h4c⟩, ⟨h5a, h5b, h5c⟩, ⟨h6a, h6b, h6c⟩, ⟨h7a, h7b⟩, ⟨h8a, h8b, h8c⟩, h9, h10, ⟨h11a, h11b, h11c⟩⟩ := hP0
  refine br_f (nI_nlt (by omega) (by omega)) (qp_bndS b 0 n (by omega) (by omega) h4a h8a h20 ⟨pk_in b 12 (by omega), nm_r (qp_up b rfl rfl) (nm_r (nI_1 b) ?_)⟩)
  refine br_f (nI_nlt (by omega) (by omega)) (qp_bndS (b + 1) 1 m (by omega) (by omega) h4b h8b h21 ⟨pk_in (b + 1) 12 (by omega), nm_r (qp_up (b + 1) rfl rfl) (nm_r (nI_1 (b + 1)) ?_)⟩)
  refine br_f (nI_nlt (by omega) (by omega)) (qp_bndJ b kd kl kr w n m hb hkd hP hn hm (by rw [pk_un (by omega)]; exact pk_us) pk_us (fun v hv => ⟨pk_in (b + 2) 12 (by omega), nm_r (qp_up (b + 2) rfl rfl) (nm_r (nI_1 (b + 2)) ?_)⟩))
  exact H _ v hv pk_us
theorem qp_rtail {post : Int32 → St1 → Prop} {f0 f1 f2 f3 f4 f5 f6 f7 f8 : Int32} {a1 a2 a3 a4 a5 a6 a7 a8 a9 a10 a11 a12 a13 a14 a15 a16 a17 a18 a19 a20 a21 a22 a23 a24 a25 a26 a27 a28 a29 a30 : Nat → Int32} (b N kd kl kr n m k v : Nat) {A M : Nat → Nat → Int32} (h1 : f1 = nI N) (hN : N ≤ 12) (hbN : b + 2 < N) (hb : b ≤ 3) (hkl : kl < 2) (hkr : kr < 2) (hkd : kd = 0 ∨ kd = 2 ∨ kd = 3) (hn : n ≤ 4) (hm : m ≤ 4) (hP : qp_PL b kd kl kr (qp_w kd) a4 a5 a6 a7 a8 a9 a10 a11) (hT0 : qp_TA 0 n A a2 a3) (hT1 : qp_TA 1 m M a2 a3) (hv : v ≤ 16) (h12 : a12 (b + 2) = nI v)
    (H : ∀ (g2 g3 g4 g5 g6 : Int32) (c12 c13 c14 c15 c16 c17 c18 c19 c20 c21 c22 c23 c24 c25 c26 c27 c28 c29 c30 : Nat → Int32), qp_RS (qp_w kd) (qp_res kd A M kl kr m n) (nI (qp_res kd A M kl kr m n).length) c30 → post (nI (qp_res kd A M kl kr m n).length) (f0, f1, g2, g3, g4, g5, g6, nI (qp_res kd A M kl kr m n).length, nI (qp_w kd), a1, a2, a3, a4, a5, a6, a7, a8, a9, a10, a11, c12, c13, c14, c15, c16, c17, c18, c19, c20, c21, c22, c23, c24, c25, c26, c27, c28, c29, c30)) : wX_run_13 post (nI (b + 2)) f0 f1 f2 f3 f4 f5 f6 f7 f8 (k + 1) (nI (b + 3)) a1 a2 a3 a4 a5 a6 a7 a8 a9 a10 a11 a12 a13 a14 a15 a16 a17 a18 a19 a20 a21 a22 a23 a24 a25 a26 a27 a28 a29 a30 := by
  refine br_t (nI_lt (by omega) (by omega)) ⟨pk_in (b + 2) 12 (by omega), br_t (by rw [qp_rd (b + 2) rfl h12]; exact nI_pos' (by omega)) ?_⟩
  refine qp_compile b N kd kl kr (qp_w kd) rfl h1 hN hbN hb hkl hkd hP (fun g2 g3 g4 g5 c13 c14 c15 c16 c17 c18 c19 c20 hC => ?_)
  refine qp_exec b kd kl kr (qp_w kd) n m hb hkl hkr (by omega) hn hm hC hP hT0 hT1 (fun g7 c21 c22 c23 c24 c25 c26 c27 c28 c29 c30 hR => ?_)
  have e7 := hR.1
  subst e7
  exact ⟨pk_in (b + 2) 12 (by omega), nm_r (qp_rd (b + 2) rfl hP.2.2.2.2.2.2.2.2.2) (H _ _ _ _ _ _ _ _ _ _ _ _ _ _ _ _ _ _ _ _ _ _ _ _ hR)⟩
theorem qp_run0 {post : Int32 → St1 → Prop} {f0 f1 f2 f3 f4 f5 f6 f7 f8 : Int32} {a1 a2 a3 a4 a5 a6 a7 a8 a9 a10 a11 a12 a13 a14 a15 a16 a17 a18 a19 a20 a21 a22 a23 a24 a25 a26 a27 a28 a29 a30 : Nat → Int32} {x : Int32} (N kd kl kr n m : Nat) {A M : Nat → Nat → Int32} (hx : x = nI 2) (h1 : f1 = nI N) (hN : N ≤ 12) (hbN : 2 < N) (hkl : kl < 2) (hkr : kr < 2) (hkd : kd = 0 ∨ kd = 2 ∨ kd = 3) (hn : n ≤ 4) (hm : m ≤ 4) (hP : qp_PL 0 kd kl kr (qp_w kd) a4 a5 a6 a7 a8 a9 a10 a11) (hT0 : qp_TA 0 n A a2 a3) (hT1 : qp_TA 1 m M a2 a3)
    (H : ∀ (g2 g3 g4 g5 g6 : Int32) (c12 c13 c14 c15 c16 c17 c18 c19 c20 c21 c22 c23 c24 c25 c26 c27 c28 c29 c30 : Nat → Int32), qp_RS (qp_w kd) (qp_res kd A M kl kr m n) (nI (qp_res kd A M kl kr m n).length) c30 → post (nI (qp_res kd A M kl kr m n).length) (f0, f1, g2, g3, g4, g5, g6, nI (qp_res kd A M kl kr m n).length, nI (qp_w kd), a1, a2, a3, a4, a5, a6, a7, a8, a9, a10, a11, c12, c13, c14, c15, c16, c17, c18, c19, c20, c21, c22, c23, c24, c25, c26, c27, c28, c29, c30)) : wpX_run post (f0, f1, f2, f3, f4, f5, f6, f7, f8, a1, a2, a3, a4, a5, a6, a7, a8, a9, a10, a11, a12, a13, a14, a15, a16, a17, a18, a19, a20, a21, a22, a23, a24, a25, a26, a27, a28, a29, a30) x := by
  subst hx
  unfold wpX_run
  refine qp_noNode 2 N rfl h1 hbN (by omega) (br_t rfl ⟨4, ?_⟩)
  refine qp_rblk 2 1 0 kd kl kr (qp_w kd) n m (by omega) (by omega) (by omega) (by omega) hn hm hP hT0.1 hT1.1 (fun c12 v hv hc => ?_)
  exact qp_rtail 0 N kd kl kr n m 0 v h1 hN hbN (by omega) hkl hkr hkd hn hm hP hT0 hT1 hv hc H
theorem qp_run3 {post : Int32 → St1 → Prop} {f0 f1 f2 f3 f4 f5 f6 f7 f8 : Int32} {a1 a2 a3 a4 a5 a6 a7 a8 a9 a10 a11 a12 a13 a14 a15 a16 a17 a18 a19 a20 a21 a22 a23 a24 a25 a26 a27 a28 a29 a30 : Nat → Int32} {x : Int32} (N kd kd' kl kr n m : Nat) {A M : Nat → Nat → Int32} (hx : x = nI 5) (h1 : f1 = nI N) (hN : N ≤ 12) (hbN : 5 < N) (hkl : kl < 2) (hkr : kr < 2) (hkd : kd = 0 ∨ kd = 2 ∨ kd = 3) (hn : n ≤ 4) (hm : m ≤ 4) (hP : qp_PL 3 kd kl kr (qp_w kd) a4 a5 a6 a7 a8 a9 a10 a11) (hT0 : qp_TA 0 n A a2 a3) (hT1 : qp_TA 1 m M a2 a3) (hkd' : kd' < 4) (hP' : qp_PL 0 kd' kl kr (qp_w kd') a4 a5 a6 a7 a8 a9 a10 a11)
    (H : ∀ (g2 g3 g4 g5 g6 : Int32) (c12 c13 c14 c15 c16 c17 c18 c19 c20 c21 c22 c23 c24 c25 c26 c27 c28 c29 c30 : Nat → Int32), qp_RS (qp_w kd) (qp_res kd A M kl kr m n) (nI (qp_res kd A M kl kr m n).length) c30 → post (nI (qp_res kd A M kl kr m n).length) (f0, f1, g2, g3, g4, g5, g6, nI (qp_res kd A M kl kr m n).length, nI (qp_w kd), a1, a2, a3, a4, a5, a6, a7, a8, a9, a10, a11, c12, c13, c14, c15, c16, c17, c18, c19, c20, c21, c22, c23, c24, c25, c26, c27, c28, c29, c30)) : wpX_run post (f0, f1, f2, f3, f4, f5, f6, f7, f8, a1, a2, a3, a4, a5, a6, a7, a8, a9, a10, a11, a12, a13, a14, a15, a16, a17, a18, a19, a20, a21, a22, a23, a24, a25, a26, a27, a28, a29, a30) x := by
  subst hx
  unfold wpX_run
  refine qp_noNode 5 N rfl h1 hbN (by omega) (br_t rfl ⟨7, ?_⟩)
  refine qp_rblk 5 4 0 kd' kl kr (qp_w kd') n m (by omega) (by omega) (by omega) (by omega) hn hm hP' hT0.1 hT1.1 (fun c12 v hv hc => ?_)
  refine qp_rblk 5 1 3 kd kl kr (qp_w kd) n m (by omega) (by omega) (by omega) (by omega) hn hm hP hT0.1 hT1.1 (fun c12' v' hv' hc' => ?_)
  exact qp_rtail 3 N kd kl kr n m 0 v' h1 hN hbN (by omega) hkl hkr hkd hn hm hP hT0 hT1 hv' hc' H
end
section
/-! the law's own loops -/
theorem qp_take_some {α : Type} : ∀ (O : List α) (i : Nat) (r : α), O[i]? = some r → O.take (i + 1) = O.take i ++ [r] ∧ O = O.take i ++ r :: O.drop (i + 1) := by
  intro O
  induction O with
  | nil => intro i r h; simp at h
  | cons a O ih =>
    intro i r h
    cases i with
    | zero =>
      simp at h
      subst h
      exact ⟨rfl, rfl⟩
    | succ i =>
      have h' : O[i]? = some r := h
      obtain ⟨h1, h2⟩ := ih i r h'
      constructor
      · show a :: O.take (i + 1) = a :: (O.take i ++ [r])
        rw [h1]
      · show a :: O = a :: (O.take i ++ r :: O.drop (i + 1))
        rw [← h2]
def qp_cnt {α : Type} (p : α → Bool) (O : List α) (i : Nat) : Nat := ((O.take i).filter p).length
theorem qp_cnt_no {α : Type} {p : α → Bool} {O : List α} {i : Nat} {r : α} (h : O[i]? = some r) (hp : p r = false) : qp_cnt p O (i + 1) = qp_cnt p O i := by
  unfold qp_cnt
  rw [(qp_take_some O i r h).1, List.filter_append, List.filter_cons_of_neg (by rw [hp]; decide)]
  rw [List.filter_nil, List.append_nil]
theorem qp_cnt_yes {α : Type} {p : α → Bool} {O : List α} {i : Nat} {r : α} (h : O[i]? = some r) (hp : p r = true) : qp_cnt p O (i + 1) = qp_cnt p O i + 1 ∧ (O.filter p)[qp_cnt p O i]? = some r := by
  obtain ⟨h1, h2⟩ := qp_take_some O i r h
  constructor
  · unfold qp_cnt
    rw [h1, List.filter_append, List.filter_cons_of_pos hp, List.filter_nil, List.length_append]
    rfl
  · have e : O.filter p = (O.take i).filter p ++ r :: (O.drop (i + 1)).filter p := by
      have := congrArg (List.filter p) h2
      rw [List.filter_append, List.filter_cons_of_pos hp] at this
      exact this
    rw [e]
    unfold qp_cnt
    rw [List.getElem?_append_right (Nat.le_refl _), Nat.sub_self]
    rfl
theorem qp_cnt_end {α : Type} {p : α → Bool} {O : List α} {i : Nat} (h : O.length ≤ i) : qp_cnt p O i = (O.filter p).length := by
  unfold qp_cnt
  rw [List.take_of_length_le h]
theorem qp_cnt_0 {α : Type} {p : α → Bool} {O : List α} : qp_cnt p O 0 = 0 := rfl
theorem qp_lt_some {α : Type} {O : List α} {i : Nat} (h : i < O.length) : ∃ r, O[i]? = some r := ⟨O[i], List.getElem?_eq_getElem h⟩
theorem qp_some_lt {α : Type} {O : List α} {i : Nat} {r : α} (h : O[i]? = some r) : i < O.length := by
  rcases Nat.lt_or_ge i O.length with z | z
  · exact z
  · rw [List.getElem?_eq_none z] at h
    exact absurd h (by simp)
theorem qp_cellX {post : Int32 → Prop} {f0 f1 f2 f3 f4 f5 f6 f7 f8 : Int32} {a1 a2 a3 a4 a5 a6 a7 a8 a9 a10 a11 a12 a13 a14 a15 a16 a17 a18 a19 a20 a21 a22 a23 a24 a25 a26 a27 a28 a29 a30 : Nat → Int32} {x y : Int32} (i c l : Nat) (hx : x = nI i) (hy : y = nI c) (h7 : f7 = nI l) (h8 : f8 = nI 4) (hi : i < l) (hc : c < 4) (hl : l ≤ 24) (H : post (a30 (i * 6 + c))) : wpX_cell post (f0, f1, f2, f3, f4, f5, f6, f7, f8, a1, a2, a3, a4, a5, a6, a7, a8, a9, a10, a11, a12, a13, a14, a15, a16, a17, a18, a19, a20, a21, a22, a23, a24, a25, a26, a27, a28, a29, a30) x y := by
  subst hx hy h7 h8
  refine br_f (nI_pos (by omega)) (br_f (nI_ge hi (by omega)) (br_f (nI_pos (by omega)) (br_t (nI_lt hc (by decide)) ⟨pk_in (i * 6 + c) 144 (by omega) (qp_ixr i c), ?_⟩)))
  rw [qp_rd (f := a30) (i * 6 + c) (qp_ixr i c) rfl]
  exact H
theorem qp_cellO {post : Int32 → Prop} {f0 f1 f2 f3 f4 f5 f6 f7 f8 : Int32} {a1 a2 a3 a4 a5 a6 a7 a8 a9 a10 a11 a12 a13 a14 a15 a16 a17 a18 a19 a20 a21 a22 a23 a24 a25 a26 a27 a28 a29 a30 : Nat → Int32} {x y : Int32} (i l : Nat) (hx : x = nI i) (h7 : f7 = nI l) (hi : l ≤ i) (hl : i < 100) (H : post 0) : wpX_cell post (f0, f1, f2, f3, f4, f5, f6, f7, f8, a1, a2, a3, a4, a5, a6, a7, a8, a9, a10, a11, a12, a13, a14, a15, a16, a17, a18, a19, a20, a21, a22, a23, a24, a25, a26, a27, a28, a29, a30) x y := by
  subst hx h7
  exact br_f (nI_pos (by omega)) (br_t (nI_le hi (by omega)) H)
theorem qp_matched {post : Int32 → Prop} {L : Nat} {xs : Nat → Int32} {u : St2} {key x y : Int32} (m kr : Nat) (hL : L ≤ 260) (hx : x = nI m) (hy : y = nI kr) (hm : m ≤ 4) (hkr : kr < 2)
    (H : post (if qp_M (qp_V L xs 1) kr m key then 1 else 0)) : wpL_matched post L xs u key x y := by
  subst hx hy
  unfold qp_M at H
  cases g : qp_frm (fun e => qp_V L xs 1 e kr) key m 0 with
  | nil =>
    rw [g] at H
    have no := qp_frm_nil _ _ g
    refine pk_loop (σ := Unit) (fun n i _ => wL_matched_3 post L xs key (nI m) (nI kr) n (nI i)) (fun _ _ => True) m 0 () (by omega) trivial ?_ ?_
    · intro n _ _
      exact pk_le m m (fun _ => H) (fun z => absurd z (by omega))
    · intro n i _ hi _ hw
      refine pk_le m i (fun z => absurd z (by omega)) (fun _ => ?_)
      refine qp_value 1 i kr hL rfl rfl rfl (by omega) (by omega) hkr (br_f (no i (by omega) (by omega)) (nm_r (nI_1 i) (hw () trivial)))
  | cons a l =>
    rw [g] at H
    have ex : ∃ e, e < m ∧ qp_V L xs 1 e kr = key := by
      rcases Classical.em (∃ e, e < m ∧ qp_V L xs 1 e kr = key) with z | z
      · exact z
      · have : qp_frm (fun e => qp_V L xs 1 e kr) key m 0 = [] := qp_frm_none _ _ _ _ (fun e z1 z2 z3 => z ⟨e, by omega, z3⟩)
        rw [this] at g
        exact absurd g.symm (List.cons_ne_nil _ _)
    obtain ⟨e, ⟨e1, e2⟩, e3⟩ := pk_least _ ex
    refine pk_loop (σ := Unit) (fun n i _ => wL_matched_3 post L xs key (nI m) (nI kr) n (nI i)) (fun _ _ => True) e 0 () (by omega) trivial ?_ ?_
    · intro n _ _
      refine pk_le m e (fun z => absurd z (by omega)) (fun _ => ?_)
      exact qp_value 1 e kr hL rfl rfl rfl (by omega) (by omega) hkr (br_t e2 H)
    · intro n i _ hi _ hw
      refine pk_le m i (fun z => absurd z (by omega)) (fun _ => ?_)
      exact qp_value 1 i kr hL rfl rfl rfl (by omega) (by omega) hkr (br_f (fun z => e3 i hi ⟨by omega, z⟩) (nm_r (nI_1 i) (hw () trivial)))
theorem qp_law218 {post : Int32 → Prop} {L : Nat} {xs : Nat → Int32} {J : Int32 → Int32 → Prop} {x4 x5 x6 x12 x13 : Int32} {kc ks : Nat} {f0 f1 f2 f3 f4 f5 f6 f7 f8 : Int32} {a1 a2 a3 a4 a5 a6 a7 a8 a9 a10 a11 a12 a13 a14 a15 a16 a17 a18 a19 a20 a21 a22 a23 a24 a25 a26 a27 a28 a29 a30 : Nat → Int32} {h0 h1 h2 h3 h4 h5 h6 h7 h8 : Int32} {b1 b2 b3 b4 b5 b6 b7 b8 b9 b10 b11 b12 b13 b14 b15 b16 b17 b18 b19 b20 b21 b22 b23 b24 b25 b26 b27 b28 b29 b30 : Nat → Int32} {I O : List (Nat → Int32)} {r : Nat → Int32} (at_ i : Nat) (hx12 : x12 = nI I.length) (v7 : f7 = nI I.length) (v8 : f8 = nI 4) (g7 : h7 = nI O.length) (g8 : h8 = nI 4) (hI : I.length ≤ 24) (hO : O.length ≤ 24) (hr : I[at_]? = some r) (hr' : O[i]? = some r) (hRI : qp_RS 4 I f7 a30) (hRO : qp_RS 4 O h7 b30)
    (H : J (nI (at_ + 1)) (nI (i + 1))) : ∃ n, wL_law_218 post L xs J x4 x5 x6 x12 x13 (nI at_) (nI i) kc ks f0 f1 f2 f3 f4 f5 f6 f7 f8 a1 a2 a3 a4 a5 a6 a7 a8 a9 a10 a11 a12 a13 a14 a15 a16 a17 a18 a19 a20 a21 a22 a23 a24 a25 a26 a27 a28 a29 a30 h0 h1 h2 h3 h4 h5 h6 h7 h8 b1 b2 b3 b4 b5 b6 b7 b8 b9 b10 b11 b12 b13 b14 b15 b16 b17 b18 b19 b20 b21 b22 b23 b24 b25 b26 b27 b28 b29 b30 n 0 := by
  have l1 := qp_some_lt hr
  have l2 := qp_some_lt hr'
  subst hx12
  refine pk_loop (σ := Unit) (fun n j _ => wL_law_218 post L xs J x4 x5 x6 (nI I.length) x13 (nI at_) (nI i) kc ks f0 f1 f2 f3 f4 f5 f6 f7 f8 a1 a2 a3 a4 a5 a6 a7 a8 a9 a10 a11 a12 a13 a14 a15 a16 a17 a18 a19 a20 a21 a22 a23 a24 a25 a26 a27 a28 a29 a30 h0 h1 h2 h3 h4 h5 h6 h7 h8 b1 b2 b3 b4 b5 b6 b7 b8 b9 b10 b11 b12 b13 b14 b15 b16 b17 b18 b19 b20 b21 b22 b23 b24 b25 b26 b27 b28 b29 b30 n (nI j)) (fun _ _ => True) 4 0 () (by omega) trivial ?_ ?_
  · intro n _ _
    exact pk_le 4 4 (fun _ => nm_r (nI_1 at_) (nm_r (nI_1 i) H)) (fun z => absurd z (by omega))
  · intro n j _ hj _ hw
    refine pk_le 4 j (fun z => absurd z (by omega)) (fun _ => br_f (nI_ge l1 (by omega)) ?_)
    refine qp_cellX at_ j I.length rfl rfl v7 v8 l1 hj hI ?_
    refine qp_cellX i j O.length rfl rfl g7 g8 l2 hj hO ?_
    exact br_t ((hRI.2 at_ r hr j hj).trans (hRO.2 i r hr' j hj).symm) (nm_r (nI_1 j) (hw () trivial))
theorem qp_law178 {L : Nat} {xs : Nat → Int32} {x4 x5 x6 x12 x13 : Int32} {kc ks : Nat} {f0 f1 f2 f3 f4 f5 f6 f7 f8 : Int32} {a1 a2 a3 a4 a5 a6 a7 a8 a9 a10 a11 a12 a13 a14 a15 a16 a17 a18 a19 a20 a21 a22 a23 a24 a25 a26 a27 a28 a29 a30 : Nat → Int32} {h0 h1 h2 h3 h4 h5 h6 h7 h8 : Int32} {b1 b2 b3 b4 b5 b6 b7 b8 b9 b10 b11 b12 b13 b14 b15 b16 b17 b18 b19 b20 b21 b22 b23 b24 b25 b26 b27 b28 b29 b30 : Nat → Int32} {I O : List (Nat → Int32)} (m kl kr : Nat) (hL : L ≤ 260) (hx4 : x4 = nI m) (hx5 : x5 = nI kl) (hx6 : x6 = nI kr) (hm : m ≤ 4) (hkl : kl < 2) (hkr : kr < 2) (hx12 : x12 = nI I.length) (hx13 : x13 = nI O.length) (v7 : f7 = nI I.length) (v8 : f8 = nI 4) (g7 : h7 = nI O.length) (g8 : h8 = nI 4) (hI : I.length ≤ 16) (hO : O.length ≤ 16) (hRI : qp_RS 4 I f7 a30) (hRO : qp_RS 4 O h7 b30)
    (hF : O.filter (fun r => qp_M (qp_V L xs 1) kr m (r kl)) = I) : ∃ n, wL_law_178 (fun r => r = 1) L xs x4 x5 x6 x12 x13 kc ks f0 f1 f2 f3 f4 f5 f6 f7 f8 a1 a2 a3 a4 a5 a6 a7 a8 a9 a10 a11 a12 a13 a14 a15 a16 a17 a18 a19 a20 a21 a22 a23 a24 a25 a26 a27 a28 a29 a30 h0 h1 h2 h3 h4 h5 h6 h7 h8 b1 b2 b3 b4 b5 b6 b7 b8 b9 b10 b11 b12 b13 b14 b15 b16 b17 b18 b19 b20 b21 b22 b23 b24 b25 b26 b27 b28 b29 b30 n 0 0 := by
  subst hx4 hx5 hx6 hx12 hx13
  have start : ∃ n, wL_law_178 (fun r => r = 1) L xs (nI m) (nI kl) (nI kr) (nI I.length) (nI O.length) kc ks f0 f1 f2 f3 f4 f5 f6 f7 f8 a1 a2 a3 a4 a5 a6 a7 a8 a9 a10 a11 a12 a13 a14 a15 a16 a17 a18 a19 a20 a21 a22 a23 a24 a25 a26 a27 a28 a29 a30 h0 h1 h2 h3 h4 h5 h6 h7 h8 b1 b2 b3 b4 b5 b6 b7 b8 b9 b10 b11 b12 b13 b14 b15 b16 b17 b18 b19 b20 b21 b22 b23 b24 b25 b26 b27 b28 b29 b30 n (nI (qp_cnt (fun r => qp_M (qp_V L xs 1) kr m (r kl)) O 0)) (nI 0) := by
    refine pk_loop (σ := Unit) (fun n i _ => wL_law_178 (fun r => r = 1) L xs (nI m) (nI kl) (nI kr) (nI I.length) (nI O.length) kc ks f0 f1 f2 f3 f4 f5 f6 f7 f8 a1 a2 a3 a4 a5 a6 a7 a8 a9 a10 a11 a12 a13 a14 a15 a16 a17 a18 a19 a20 a21 a22 a23 a24 a25 a26 a27 a28 a29 a30 h0 h1 h2 h3 h4 h5 h6 h7 h8 b1 b2 b3 b4 b5 b6 b7 b8 b9 b10 b11 b12 b13 b14 b15 b16 b17 b18 b19 b20 b21 b22 b23 b24 b25 b26 b27 b28 b29 b30 n (nI (qp_cnt (fun r => qp_M (qp_V L xs 1) kr m (r kl)) O i)) (nI i)) (fun _ _ => True) 20 0 () (by omega) trivial ?_ ?_
    · intro n _ _
      have e : qp_cnt (fun r => qp_M (qp_V L xs 1) kr m (r kl)) O 20 = I.length := by
        rw [qp_cnt_end (by omega), hF]
      refine pk_le 20 20 (fun _ => br_t ?_ rfl) (fun z => absurd z (by omega))
      rw [e]
    · intro n i _ hi _ hw
      have hw' := hw () trivial
      refine pk_le 20 i (fun z => absurd z (by omega)) (fun _ => ?_)
      by_cases hi2 : i < O.length
      · obtain ⟨r, hr⟩ := qp_lt_some hi2
        refine qp_cellX i kl O.length rfl rfl g7 g8 hi2 (by omega) (by omega) ?_
        rw [hRO.2 i r hr kl (by omega)]
        refine br_f (nI_ge hi2 (by omega)) ?_
        refine qp_matched m kr hL rfl rfl hm hkr ?_
        cases hp : qp_M (qp_V L xs 1) kr m (r kl) with
        | false =>
          rw [qp_cnt_no hr hp] at hw'
          exact br_t rfl (nm_r (nI_1 i) hw')
        | true =>
          obtain ⟨y1, y2⟩ := qp_cnt_yes (p := fun r => qp_M (qp_V L xs 1) kr m (r kl)) hr hp
          rw [y1] at hw'
          rw [hF] at y2
          exact br_f (by decide) (qp_law218 (I := I) (O := O) (r := r) _ i rfl v7 v8 g7 g8 (by omega) (by omega) y2 hr hRI hRO hw')
      · refine qp_cellO i O.length rfl g7 (by omega) (by omega) ?_
        have e : qp_cnt (fun r => qp_M (qp_V L xs 1) kr m (r kl)) O (i + 1) = qp_cnt (fun r => qp_M (qp_V L xs 1) kr m (r kl)) O i := by
          rw [qp_cnt_end (by omega), qp_cnt_end (by omega)]
        rw [e] at hw'
        exact br_t (nI_le (by omega) (by omega)) (nm_r (nI_1 i) hw')
  exact start
end
section
theorem qp_TA_of {L : Nat} {xs : Nat → Int32} {n m : Nat} {a2 a3 b2 b3 : Nat → Int32} (h0 : qp_T L xs 0 n a2 a3) (h1 : qp_T L xs 1 m b2 b3) (k2 : ∀ j, j ≠ 1 → b2 j = a2 j) (k3 : ∀ j, j < 1 * 30 → b3 j = a3 j) (hn : n < 5) : qp_TA 0 n (qp_V L xs 0) b2 b3 ∧ qp_TA 1 m (qp_V L xs 1) b2 b3 := by
  refine ⟨⟨(k2 0 (by decide)).trans h0.1, fun i hi => ?_⟩, h1⟩
  obtain ⟨g1, g2⟩ := h0.2 i hi
  exact ⟨(k3 _ (by omega)).trans g1, (k3 _ (by omega)).trans g2⟩
theorem i_vc (xs : Nat → Int32) (L : Nat) (hL : L ≤ 260) : wpL_law (fun r => r = 1) L xs := by
  refine ⟨30, 3652, by decide, by decide, ?_⟩
  refine qp_init rfl (fun p1 hp1 => ⟨by decide, by decide, 30, 3652, by decide, by decide, ?_⟩)
  refine qp_init rfl (fun q1 hq1 => ?_)
  obtain ⟨n, hn, en⟩ := qp_mod5 (qp_cv L xs 0)
  obtain ⟨m, hm, em⟩ := qp_mod5 (qp_cv L xs 1)
  obtain ⟨kl, hkl, ekl⟩ := qp_bit (qp_cv L xs 2)
  obtain ⟨kr, hkr, ekr⟩ := qp_bit (qp_cv L xs 3)
  refine qp_cellL 0 hL rfl (by omega) ⟨by decide, nm_r en ?_⟩
  refine qp_cellL 1 hL rfl (by omega) ⟨by decide, nm_r em ?_⟩
  refine qp_cellL 2 hL rfl (by omega) (nm_r ekl ?_)
  refine qp_cellL 3 hL rfl (by omega) (nm_r ekr ?_)
  refine qp_fill 0 n hL rfl rfl rfl (by omega) hn rfl (fun p2 p3 hT0 j2 j3 => ?_)
  refine qp_fill 1 m hL rfl rfl rfl (by omega) hm (j2 1 (by decide)) (fun p2' p3' hT1 k2 k3 => ?_)
  refine qp_fill 0 n hL rfl rfl rfl (by omega) hn rfl (fun q2 q3 hU0 i2 i3 => ?_)
  refine qp_fill 1 m hL rfl rfl rfl (by omega) hm (i2 1 (by decide)) (fun q2' q3' hU1 l2 l3 => ?_)
  obtain ⟨tp0, tp1⟩ := qp_TA_of hT0 hT1 k2 k3 hn
  obtain ⟨tq0, tq1⟩ := qp_TA_of hU0 hU1 l2 l3 hn
  refine nm_e ?_
  refine qp_plan 0 0 kl kr rfl rfl rfl rfl (by omega) (Or.inl rfl) hkl hkr (hp1 0 (by omega)) (hp1 1 (by omega)) (fun c4 c5 c6 c7 c8 c9 c10 c11 hP0 _ => ?_)
  refine qp_plan 3 2 kl kr rfl rfl rfl rfl (by omega) (Or.inr (Or.inl rfl)) hkl hkr (hp1 0 (by omega)) (hp1 1 (by omega)) (fun d4 d5 d6 d7 d8 d9 d10 d11 hP3 kp => ?_)
  refine qp_plan 0 3 kl kr rfl rfl rfl rfl (by omega) (Or.inr (Or.inr rfl)) hkl hkr (hq1 0 (by omega)) (hq1 1 (by omega)) (fun e4 e5 e6 e7 e8 e9 e10 e11 hQ _ => ?_)
  have hP0' := qp_PL_keep hP0 kp
  refine qp_run3 6 2 0 kl kr n m rfl rfl (by omega) (by omega) hkl hkr (Or.inr (Or.inl rfl)) (by omega) (by omega) hP3 tp0 tp1 (by omega) hP0' ?_
  intro r2 r3 r4 r5 r6 c12 c13 c14 c15 c16 c17 c18 c19 c20 c21 c22 c23 c24 c25 c26 c27 c28 c29 c30 hR1
  refine qp_run0 6 0 kl kr n m rfl rfl (by omega) (by omega) hkl hkr (Or.inl rfl) (by omega) (by omega) hP0' tp0 tp1 ?_
  intro s2 s3 s4 s5 s6 d12 d13 d14 d15 d16 d17 d18 d19 d20 d21 d22 d23 d24 d25 d26 d27 d28 d29 d30 hR2
  refine qp_run0 3 3 kl kr n m rfl rfl (by omega) (by omega) hkl hkr (Or.inr (Or.inr rfl)) (by omega) (by omega) hQ tq0 tq1 ?_
  intro t2 t3 t4 t5 t6 e12 e13 e14 e15 e16 e17 e18 e19 e20 e21 e22 e23 e24 e25 e26 e27 e28 e29 e30 hR3
  have b1 := qp_res_len 2 (qp_V L xs 0) (qp_V L xs 1) kl kr m n (by omega) (by omega)
  have b2 := qp_res_len 0 (qp_V L xs 0) (qp_V L xs 1) kl kr m n (by omega) (by omega)
  have b3 := qp_res_len 3 (qp_V L xs 0) (qp_V L xs 1) kl kr m n (by omega) (by omega)
  refine br_f (nI_pos (by omega)) (br_f (nI_pos (by omega)) (br_t ?_ ?_))
  · rw [nI_add]
    exact congrArg nI (qp_sum (qp_V L xs 0) (qp_V L xs 1) kl kr m n 0)
  · exact qp_law178 (I := qp_res 0 (qp_V L xs 0) (qp_V L xs 1) kl kr m n) (O := qp_res 3 (qp_V L xs 0) (qp_V L xs 1) kl kr m n) m kl kr hL rfl rfl rfl (by omega) hkl hkr rfl rfl rfl rfl rfl rfl b2 b3 hR2 hR3 (qp_fil (qp_V L xs 0) (qp_V L xs 1) kl kr m hkl n 0)
end
