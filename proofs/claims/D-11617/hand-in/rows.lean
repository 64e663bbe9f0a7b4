section
/-! the program: opcodes, fields, units; the picture of the machine -/
def cv_op : Nat → Nat
  | 0 => 10 | 1 => 10 | 2 => 12 | 3 => 10 | 4 => 10 | 5 => 6 | 6 => 5 | 7 => 0 | 8 => 7 | _ => 9
def cv_fx : Nat → Nat
  | 0 => 0 | 1 => 1 | 2 => 1 | 3 => 2 | 4 => 3 | 5 => 0 | 6 => 1 | 7 => 0 | 8 => 0 | _ => 2
def cv_fy : Nat → Nat
  | 8 => 3 | _ => 0
def cv_fz : Nat → Nat
  | 6 => 2 | 7 => 1 | 8 => 1 | _ => 0
def cv_uo : Nat → Nat
  | 5 => 2 | 6 => 1 | 7 => 0 | 8 => 2 | _ => 3
theorem cv_uo_lt (j : Nat) : cv_uo j < 4 := by
  unfold cv_uo
  split <;> decide
theorem cv_op_le (j : Nat) : cv_op j ≤ 12 := by
  unfold cv_op
  split <;> decide
theorem cv_fx_lt (j : Nat) : cv_fx j < 4 := by
  unfold cv_fx
  split <;> decide
theorem cv_fy_lt (j : Nat) : cv_fy j < 4 := by
  unfold cv_fy
  split <;> decide
theorem cv_fz_lt (j : Nat) : cv_fz j < 4 := by
  unfold cv_fz
  split <;> decide
def cv_u {α : Type} (f : Nat → α) (j : Nat) (x : α) : Nat → α := fun k => if k = j then x else f k
theorem cv_us {α : Type} {f : Nat → α} {j : Nat} {x : α} : cv_u f j x j = x := if_pos rfl
theorem cv_un {α : Type} {f : Nat → α} {j k : Nat} {x : α} (h : k ≠ j) : cv_u f j x k = f k := if_neg h
def cv_S (L : Nat → Int32) (fa : Int32) (i : Nat) : Int32 := L i + L i * fa
def cv_Q (L : Nat → Int32) (fa : Int32) : Nat → Int32
  | 0 => 0
  | k + 1 => cv_Q L fa k + cv_S L fa k
def cv_val (L : Nat → Int32) (fa : Int32) (j i : Nat) : Int32 := if j = 5 then L i else if j = 6 then L i * fa else cv_S L fa i
/-- instruction j is at work -/
def cv_A (nx : Nat) (d : Nat → Bool) (j : Nat) : Prop := 5 ≤ j ∧ j < nx ∧ d j = false
/-- the program in its arrays -/
def cv_P (n T : Nat) (st sd fa : Int32) (a4 a5 a6 a7 : Nat → Int32) : Prop :=
  (∀ k, k < 10 → a4 k = nI (cv_op k)) ∧ (∀ k, k < 10 → a5 k = nI (cv_fx k)) ∧ (∀ k, 5 ≤ k → k < 10 → a6 k = nI (cv_fy k)) ∧ (∀ k, 6 ≤ k → k < 10 → a7 k = nI (cv_fz k)) ∧
  a7 5 = sd ∧ a6 0 = st ∧ a6 1 = nI n ∧ a6 3 = fa ∧ a6 4 = nI T
/-- the constants of a run -/
def cv_E (n ln dl T : Nat) (st sd : Int32) (C L : Nat → Int32) : Prop :=
  n ≤ 7 ∧ 1 ≤ ln ∧ ln ≤ 4 ∧ 1 ≤ dl ∧ dl ≤ 5 ∧ T < 64 ∧ ∀ i, L i = C ((st + nI i * sd) &&& 63).toNatClampNeg
/-- the vector registers -/
def cv_V (L : Nat → Int32) (fa : Int32) (f : Nat → Nat) (a1 : Nat → Int32) : Prop :=
  ∀ i, i < 16 → a1 i = (if i < f 7 then cv_S L fa i else if i < f 5 then L i else 0) ∧ a1 (16 + i) = (if i < f 6 then L i * fa else 0)
/-- the scalars and the length -/
def cv_Z (n T : Nat) (st fa : Int32) (L : Nat → Int32) (nx : Nat) (d : Nat → Bool) (le : Int32) (a2 : Nat → Int32) : Prop :=
  (0 < nx → a2 0 = st) ∧ (1 < nx → a2 1 = nI n) ∧ (2 < nx → le = nI n) ∧ (3 < nx → d 9 = false → a2 2 = fa) ∧ (d 9 = true → a2 2 = cv_Q L fa n) ∧ (4 < nx → a2 3 = nI T)
/-- the memory -/
def cv_W (T : Nat) (fa : Int32) (C L : Nat → Int32) (f : Nat → Nat) (a3 : Nat → Int32) : Prop :=
  ∀ k, k < 64 → a3 k = if (k + (64 - T)) % 64 < f 8 then cv_S L fa ((k + (64 - T)) % 64) else C k
/-- the units -/
def cv_U (n T : Nat) (st fa : Int32) (nx : Nat) (b f : Nat → Nat) (d : Nat → Bool) (a8 a9 a10 a11 a12 a13 : Nat → Int32) : Prop :=
  (∀ o, o < 4 → a8 o = 0 ∨ ∃ j, cv_A nx d j ∧ cv_uo j = o) ∧
  (∀ j, cv_A nx d j → a8 (cv_uo j) = 1 ∧ a9 (cv_uo j) = nI j ∧ a10 (cv_uo j) = nI n ∧ a12 (cv_uo j) = nI (b j) ∧ a13 (cv_uo j) = nI (f j) ∧
    (j = 5 → a11 2 = st) ∧ (j = 6 → a11 1 = fa) ∧ (j = 8 → a11 2 = nI T))
/-- the elements begun and not yet finished -/
def cv_B (T : Nat) (fa : Int32) (L : Nat → Int32) (nx : Nat) (b f : Nat → Nat) (d : Nat → Bool) (ra : Nat → Nat → Nat) (a14 a15 a16 : Nat → Int32) : Prop :=
  ∀ j, cv_A nx d j → ∀ i, f j ≤ i → i < b j → a14 (16 * cv_uo j + i) = cv_val L fa j i ∧ a16 (16 * cv_uo j + i) = nI (ra j i) ∧ (j = 8 → a15 (32 + i) = nI ((T + i) % 64))
/-- what the counts obey -/
def cv_I (n nx : Nat) (b f : Nat → Nat) (d : Nat → Bool) : Prop :=
  nx ≤ 10 ∧ (∀ j, f j ≤ b j ∧ b j ≤ n) ∧ b 6 ≤ f 5 ∧ b 7 ≤ f 6 ∧ b 8 ≤ f 7 ∧ b 9 ≤ f 7 ∧ (∀ j, d j = true → f j = n ∧ j < nx) ∧ (∀ j, nx ≤ j → b j = 0) ∧ (8 < nx → d 5 = true)
/-- the whole state matches the picture -/
def cv_R (n ln dl T : Nat) (st sd fa : Int32) (C L : Nat → Int32) (nx t : Nat) (b f : Nat → Nat) (d : Nat → Bool) (ra : Nat → Nat → Nat) (lc de le pl nn nw sm : Int32) (a1 a2 a3 a4 a5 a6 a7 a8 a9 a10 a11 a12 a13 a14 a15 a16 : Nat → Int32) : Prop :=
  (lc = nI ln ∧ de = nI dl ∧ pl = nI 10 ∧ nn = nI nx ∧ nw = nI t) ∧ cv_P n T st sd fa a4 a5 a6 a7 ∧ (9 < nx → sm = cv_Q L fa (f 9)) ∧
  cv_V L fa f a1 ∧ cv_Z n T st fa L nx d le a2 ∧ cv_W T fa C L f a3 ∧ cv_U n T st fa nx b f d a8 a9 a10 a11 a12 a13 ∧ cv_B T fa L nx b f d ra a14 a15 a16 ∧ cv_I n nx b f d
/-! small numbers -/
theorem cv_i8 : ∀ t, t < 128 → (nI t).toInt8.toInt32 = nI t := by decide +kernel
theorem cv_b8 {t : Nat} (h : t < 127) : (nI t + 1).toInt8.toInt32 = nI (t + 1) := by
  rw [nI_1]
  exact cv_i8 (t + 1) (by omega)
theorem cv_ix (o i : Nat) : (16 : Int32) * nI o + nI i = nI (16 * o + i) := by
  rw [show (16 : Int32) = nI 16 from rfl, pk_mul, nI_add]
theorem cv_ix0 (i : Nat) : (16 : Int32) * nI 0 + nI i = nI i := by
  rw [cv_ix, show 16 * 0 + i = i by omega]
theorem cv_ix1 (i : Nat) : (16 : Int32) * nI 1 + nI i = nI (16 + i) := by
  rw [cv_ix, show 16 * 1 + i = 16 + i by omega]
theorem cv_five {j nx : Nat} {d : Nat → Bool} (h : cv_A nx d j) (hn : nx ≤ 10) : j = 5 ∨ j = 6 ∨ j = 7 ∨ j = 8 ∨ j = 9 := by
  have h1 := h.1
  have h2 := h.2.1
  omega
/-! two active instructions in one unit are one -/
theorem cv_inj {n T : Nat} {st fa : Int32} {nx : Nat} {b f : Nat → Nat} {d : Nat → Bool} {a8 a9 a10 a11 a12 a13 : Nat → Int32} (U : cv_U n T st fa nx b f d a8 a9 a10 a11 a12 a13) (hn : nx ≤ 10)
    {j k : Nat} (hj : cv_A nx d j) (hk : cv_A nx d k) (e : cv_uo k = cv_uo j) : k = j := by
  have h1 := (U.2 j hj).2.1
  have h2 := (U.2 k hk).2.1
  rw [e, h1] at h2
  have j2 := hj.2.1
  have k2 := hk.2.1
  exact ((nI_eq (by omega) (by omega)).mp h2).symm
theorem cv_mono {f : Nat → Nat} {j x : Nat} (h : f j ≤ x) (k : Nat) : f k ≤ cv_u f j x k := by
  by_cases e : k = j
  · rw [e, cv_us]
    exact h
  · rw [cv_un e]
    exact Nat.le_refl _
/-! finished: one more -/
theorem cv_If {n nx : Nat} {b f : Nat → Nat} {d : Nat → Bool} {j x : Nat} (I : cv_I n nx b f d) (hj : d j = false) (h1 : f j ≤ x) (h2 : x ≤ b j) : cv_I n nx b (cv_u f j x) d := by
  obtain ⟨i1, i2, i3, i4, i5, i6, i7, i8, i9⟩ := I
  have m := fun k => cv_mono (f := f) (j := j) (x := x) h1 k
  refine ⟨i1, fun k => ⟨?_, (i2 k).2⟩, Nat.le_trans i3 (m 5), Nat.le_trans i4 (m 6), Nat.le_trans i5 (m 7), Nat.le_trans i6 (m 7), fun k hk => ⟨?_, (i7 k hk).2⟩, i8, i9⟩
  · by_cases e : k = j
    · rw [e, cv_us]
      exact h2
    · rw [cv_un e]
      exact (i2 k).1
  · have e : k ≠ j := fun e => by
      rw [e, hj] at hk
      exact absurd hk (by decide)
    rw [cv_un e]
    exact (i7 k hk).1
theorem cv_Bf {T : Nat} {fa : Int32} {L : Nat → Int32} {nx : Nat} {b f : Nat → Nat} {d : Nat → Bool} {ra : Nat → Nat → Nat} {a14 a15 a16 : Nat → Int32} {j x : Nat}
    (B : cv_B T fa L nx b f d ra a14 a15 a16) (h1 : f j ≤ x) : cv_B T fa L nx b (cv_u f j x) d ra a14 a15 a16 :=
  fun k hk i h2 h3 => B k hk i (Nat.le_trans (cv_mono h1 k) h2) h3
theorem cv_Uf {n T : Nat} {st fa : Int32} {nx : Nat} {b f : Nat → Nat} {d : Nat → Bool} {a8 a9 a10 a11 a12 a13 : Nat → Int32} (U : cv_U n T st fa nx b f d a8 a9 a10 a11 a12 a13) (hn : nx ≤ 10)
    {j x : Nat} (hj : cv_A nx d j) : cv_U n T st fa nx b (cv_u f j x) d a8 a9 a10 a11 a12 (upd a13 (cv_uo j) (nI x)) := by
  refine ⟨U.1, fun k hk => ?_⟩
  obtain ⟨u1, u2, u3, u4, u5, u6⟩ := U.2 k hk
  refine ⟨u1, u2, u3, u4, ?_, u6⟩
  by_cases e : k = j
  · rw [e, cv_us, pk_us]
  · rw [cv_un e, pk_un (fun z => e (cv_inj U hn hj hk z))]
    exact u5
/-! begun: one more -/
theorem cv_Ib {n nx : Nat} {b f : Nat → Nat} {d : Nat → Bool} {j : Nat} (I : cv_I n nx b f d) (hj : cv_A nx d j) (h1 : b j < n) (h6 : j = 6 → b j < f 5) (h7 : j = 7 → b j < f 6) (h8 : j = 8 → b j < f 7) (h9 : j = 9 → b j < f 7) : cv_I n nx (cv_u b j (b j + 1)) f d := by
  obtain ⟨i1, i2, i3, i4, i5, i6, i7, i8, i9⟩ := I
  have m : ∀ k x, b k ≤ x → (k = j → b j < x) → cv_u b j (b j + 1) k ≤ x := by
    intro k x g1 g2
    by_cases e : k = j
    · rw [e, cv_us]
      exact g2 e
    · rw [cv_un e]
      exact g1
  refine ⟨i1, fun k => ⟨Nat.le_trans (i2 k).1 (cv_mono (Nat.le_succ _) k), m k n (i2 k).2 (fun _ => h1)⟩, m 6 _ i3 (fun e => h6 e.symm), m 7 _ i4 (fun e => h7 e.symm), m 8 _ i5 (fun e => h8 e.symm), m 9 _ i6 (fun e => h9 e.symm), i7, fun k hk => ?_, i9⟩
  have e : k ≠ j := fun e => by
    have := hj.2.1
    omega
  rw [cv_un e]
  exact i8 k hk
theorem cv_Ub {n T : Nat} {st fa : Int32} {nx : Nat} {b f : Nat → Nat} {d : Nat → Bool} {a8 a9 a10 a11 a12 a13 : Nat → Int32} (U : cv_U n T st fa nx b f d a8 a9 a10 a11 a12 a13) (hn : nx ≤ 10)
    {j x : Nat} (hj : cv_A nx d j) : cv_U n T st fa nx (cv_u b j x) f d a8 a9 a10 a11 (upd a12 (cv_uo j) (nI x)) a13 := by
  refine ⟨U.1, fun k hk => ?_⟩
  obtain ⟨u1, u2, u3, u4, u5, u6⟩ := U.2 k hk
  refine ⟨u1, u2, u3, ?_, u5, u6⟩
  by_cases e : k = j
  · rw [e, cv_us, pk_us]
  · rw [cv_un e, pk_un (fun z => e (cv_inj U hn hj hk z))]
    exact u4
/-- the ready times with one more -/
def cv_ra (ra : Nat → Nat → Nat) (j i x : Nat) : Nat → Nat → Nat := fun k m => if k = j ∧ m = i then x else ra k m
theorem cv_Bb {n T : Nat} {st fa : Int32} {L : Nat → Int32} {nx x : Nat} {b f : Nat → Nat} {d : Nat → Bool} {ra : Nat → Nat → Nat} {a8 a9 a10 a11 a12 a13 a14 a15 a15' a16 : Nat → Int32} {j : Nat}
    (U : cv_U n T st fa nx b f d a8 a9 a10 a11 a12 a13) (hn : nx ≤ 10) (hb : ∀ k, b k ≤ 7) (hb1 : b j < 7) (hj : cv_A nx d j)
    (B : cv_B T fa L nx b f d ra a14 a15 a16) (e1 : ∀ k, k ≠ 32 + b j ∨ j ≠ 8 → a15' k = a15 k) (e2 : j = 8 → a15' (32 + b j) = nI ((T + b j) % 64)) :
    cv_B T fa L nx (cv_u b j (b j + 1)) f d (cv_ra ra j (b j) x) (upd a14 (16 * cv_uo j + b j) (cv_val L fa j (b j))) a15' (upd a16 (16 * cv_uo j + b j) (nI x)) := by
  intro k hk i h1 h2
  by_cases e : k = j ∧ i = b j
  · obtain ⟨ek, ei⟩ := e
    subst ek
    subst ei
    refine ⟨pk_us, ?_, e2⟩
    rw [pk_us, cv_ra, if_pos ⟨rfl, rfl⟩]
  · have hi : i < b k := by
      by_cases ek : k = j
      · rw [ek, cv_us] at h2
        have := fun z => e ⟨ek, z⟩
        rw [ek]
        omega
      · rw [cv_un ek] at h2
        exact h2
    obtain ⟨q1, q2, q3⟩ := B k hk i h1 hi
    have ne : 16 * cv_uo k + i ≠ 16 * cv_uo j + b j := by
      intro z
      have bk := hb k
      have bj := hb j
      have u : cv_uo k = cv_uo j := by omega
      exact e ⟨cv_inj U hn hj hk u, by omega⟩
    refine ⟨by rw [pk_un ne]; exact q1, by rw [pk_un ne, cv_ra, if_neg e]; exact q2, fun e8 => ?_⟩
    rw [e1 _ ?_]
    · exact q3 e8
    · by_cases j8 : j = 8
      · left
        intro z
        exact e ⟨by omega, by omega⟩
      · exact Or.inr j8
end
section
/-! one element: what each instruction computes, and where it is put -/
theorem cv_c5 {post : Int32 → St2 → Prop} {lc de le pl nn nw sm : Int32} {a1 a2 a3 a4 a5 a6 a7 a8 a9 a10 a11 a12 a13 a14 a15 a16 : Nat → Int32} {i : Nat} (e9 : a9 2 = nI 5) (e4 : a4 5 = nI 6)
    (H : post (a3 ((a11 2 + nI i * a7 5) &&& 63).toNatClampNeg) (lc, de, le, pl, nn, nw, sm, a1, a2, a3, a4, a5, a6, a7, a8, a9, a10, a11, a12, a13, a14, a15, a16)) : wpX_compute post (lc, de, le, pl, nn, nw, sm, a1, a2, a3, a4, a5, a6, a7, a8, a9, a10, a11, a12, a13, a14, a15, a16) (nI 2) (nI i) := by
  have c2 : (nI 2).toNatClampNeg = 2 := nI_clamp (by decide)
  have c5 : (nI 5).toNatClampNeg = 5 := nI_clamp (by decide)
  unfold wpX_compute
  try dsimp only
  rw [c2, e9]
  refine ⟨pk_in 2 4 (by decide), nm_e ?_⟩
  rw [c5, e4]
  refine ⟨pk_in 5 16 (by decide), nm_e (br_t rfl ?_)⟩
  unfold wpX_fetch
  try dsimp only
  rw [c2, e9]
  refine ⟨pk_in 2 4 (by decide), nm_e ?_⟩
  rw [c5, e4]
  exact ⟨pk_in 5 16 (by decide), br_f (by decide) ⟨pk_in 2 4 (by decide), pk_in 5 16 (by decide), nm_e ⟨pk_in 5 16 (by decide), br_t rfl ⟨pk_andIn _ 6 (by decide) (by decide), H⟩⟩⟩⟩
theorem cv_c6 {post : Int32 → St2 → Prop} {lc de le pl nn nw sm : Int32} {a1 a2 a3 a4 a5 a6 a7 a8 a9 a10 a11 a12 a13 a14 a15 a16 : Nat → Int32} {i : Nat} (hi : i < 16) (e9 : a9 1 = nI 6) (e4 : a4 6 = nI 5) (e6 : a6 6 = nI 0)
    (H : post (a1 i * a11 1) (lc, de, le, pl, nn, nw, sm, a1, a2, a3, a4, a5, a6, a7, a8, a9, a10, a11, a12, a13, a14, a15, a16)) : wpX_compute post (lc, de, le, pl, nn, nw, sm, a1, a2, a3, a4, a5, a6, a7, a8, a9, a10, a11, a12, a13, a14, a15, a16) (nI 1) (nI i) := by
  have c1 : (nI 1).toNatClampNeg = 1 := nI_clamp (by decide)
  have c6 : (nI 6).toNatClampNeg = 6 := nI_clamp (by decide)
  have ci : (nI i).toNatClampNeg = i := nI_clamp (by omega)
  unfold wpX_compute
  try dsimp only
  rw [c1, e9]
  refine ⟨pk_in 1 4 (by decide), nm_e ?_⟩
  rw [c6, e4, e6, cv_ix0, ci]
  exact ⟨pk_in 6 16 (by decide), nm_e (br_f (by decide) ⟨pk_in 6 16 (by decide), pk_in i 64 (by omega), nm_e (br_f (by decide) (br_t rfl ⟨pk_in 1 4 (by decide), H⟩))⟩)⟩
theorem cv_c7 {post : Int32 → St2 → Prop} {lc de le pl nn nw sm : Int32} {a1 a2 a3 a4 a5 a6 a7 a8 a9 a10 a11 a12 a13 a14 a15 a16 : Nat → Int32} {i : Nat} (hi : i < 16) (e9 : a9 0 = nI 7) (e4 : a4 7 = nI 0) (e6 : a6 7 = nI 0) (e7 : a7 7 = nI 1)
    (H : post (a1 i + a1 (16 + i)) (lc, de, le, pl, nn, nw, sm, a1, a2, a3, a4, a5, a6, a7, a8, a9, a10, a11, a12, a13, a14, a15, a16)) : wpX_compute post (lc, de, le, pl, nn, nw, sm, a1, a2, a3, a4, a5, a6, a7, a8, a9, a10, a11, a12, a13, a14, a15, a16) (nI 0) (nI i) := by
  have c0 : (nI 0).toNatClampNeg = 0 := nI_clamp (by decide)
  have c7 : (nI 7).toNatClampNeg = 7 := nI_clamp (by decide)
  have ci : (nI i).toNatClampNeg = i := nI_clamp (by omega)
  have cj : (nI (16 + i)).toNatClampNeg = 16 + i := nI_clamp (by omega)
  unfold wpX_compute
  try dsimp only
  rw [c0, e9]
  refine ⟨pk_in 0 4 (by decide), nm_e ?_⟩
  rw [c7, e4, e6, e7, cv_ix0, cv_ix1, ci, cj]
  exact ⟨pk_in 7 16 (by decide), nm_e (br_f (by decide) ⟨pk_in 7 16 (by decide), pk_in i 64 (by omega), nm_e (br_f (by decide) (br_f (by decide) (br_f (by decide) ⟨pk_in 7 16 (by decide), pk_in (16 + i) 64 (by omega), nm_e (br_t rfl H)⟩)))⟩)⟩
theorem cv_c8 {post : Int32 → St2 → Prop} {lc de le pl nn nw sm : Int32} {a1 a2 a3 a4 a5 a6 a7 a8 a9 a10 a11 a12 a13 a14 a15 a16 : Nat → Int32} {i : Nat} (hi : i < 16) (e9 : a9 2 = nI 8) (e4 : a4 8 = nI 7) (e5 : a5 8 = nI 0)
    (H : post (a1 i) (lc, de, le, pl, nn, nw, sm, a1, a2, a3, a4, a5, a6, a7, a8, a9, a10, a11, a12, a13, a14, upd a15 (16 * 2 + i) ((a11 2 + nI i * a7 8) &&& 63).toInt8.toInt32, a16)) : wpX_compute post (lc, de, le, pl, nn, nw, sm, a1, a2, a3, a4, a5, a6, a7, a8, a9, a10, a11, a12, a13, a14, a15, a16) (nI 2) (nI i) := by
  have c2 : (nI 2).toNatClampNeg = 2 := nI_clamp (by decide)
  have c8 : (nI 8).toNatClampNeg = 8 := nI_clamp (by decide)
  have ci : (nI i).toNatClampNeg = i := nI_clamp (by omega)
  have cj : (nI (16 * 2 + i)).toNatClampNeg = 16 * 2 + i := nI_clamp (by omega)
  unfold wpX_compute
  try dsimp only
  rw [c2, e9]
  refine ⟨pk_in 2 4 (by decide), nm_e ?_⟩
  rw [c8, e4]
  refine ⟨pk_in 8 16 (by decide), nm_e (br_t rfl ?_)⟩
  unfold wpX_fetch
  try dsimp only
  rw [c2, e9]
  refine ⟨pk_in 2 4 (by decide), nm_e ?_⟩
  rw [c8, e4, e5, cv_ix0, cv_ix 2 i, ci, cj]
  exact ⟨pk_in 8 16 (by decide), br_f (by decide) ⟨pk_in 2 4 (by decide), pk_in 8 16 (by decide), nm_e ⟨pk_in 8 16 (by decide), br_f (by decide) ⟨pk_in (16 * 2 + i) 64 (by omega), nm_e ⟨pk_in 8 16 (by decide), pk_in i 64 (by omega), H⟩⟩⟩⟩⟩
theorem cv_c9 {post : Int32 → St2 → Prop} {lc de le pl nn nw sm : Int32} {a1 a2 a3 a4 a5 a6 a7 a8 a9 a10 a11 a12 a13 a14 a15 a16 : Nat → Int32} {i : Nat} (hi : i < 16) (e9 : a9 3 = nI 9) (e4 : a4 9 = nI 9) (e6 : a6 9 = nI 0)
    (H : post (a1 i) (lc, de, le, pl, nn, nw, sm, a1, a2, a3, a4, a5, a6, a7, a8, a9, a10, a11, a12, a13, a14, a15, a16)) : wpX_compute post (lc, de, le, pl, nn, nw, sm, a1, a2, a3, a4, a5, a6, a7, a8, a9, a10, a11, a12, a13, a14, a15, a16) (nI 3) (nI i) := by
  have c3 : (nI 3).toNatClampNeg = 3 := nI_clamp (by decide)
  have c9 : (nI 9).toNatClampNeg = 9 := nI_clamp (by decide)
  have ci : (nI i).toNatClampNeg = i := nI_clamp (by omega)
  unfold wpX_compute
  try dsimp only
  rw [c3, e9]
  refine ⟨pk_in 3 4 (by decide), nm_e ?_⟩
  rw [c9, e4, e6, cv_ix0, ci]
  exact ⟨pk_in 9 16 (by decide), nm_e (br_f (by decide) ⟨pk_in 9 16 (by decide), pk_in i 64 (by omega), nm_e (br_f (by decide) (br_f (by decide) (br_t rfl H)))⟩)⟩
theorem cv_d5 {post : St2 → Prop} {lc de le pl nn nw sm : Int32} {a1 a2 a3 a4 a5 a6 a7 a8 a9 a10 a11 a12 a13 a14 a15 a16 : Nat → Int32} {i : Nat} (hi : i < 16) (e9 : a9 2 = nI 5) (e4 : a4 5 = nI 6) (e5 : a5 5 = nI 0)
    (H : post (lc, de, le, pl, nn, nw, sm, upd a1 i (a14 (16 * 2 + i)), a2, a3, a4, a5, a6, a7, a8, a9, a10, a11, a12, a13, a14, a15, a16)) : wpX_deliver post (lc, de, le, pl, nn, nw, sm, a1, a2, a3, a4, a5, a6, a7, a8, a9, a10, a11, a12, a13, a14, a15, a16) (nI 2) (nI i) := by
  have c2 : (nI 2).toNatClampNeg = 2 := nI_clamp (by decide)
  have c5 : (nI 5).toNatClampNeg = 5 := nI_clamp (by decide)
  have ci : (nI i).toNatClampNeg = i := nI_clamp (by omega)
  have cj : (nI (16 * 2 + i)).toNatClampNeg = 16 * 2 + i := nI_clamp (by omega)
  unfold wpX_deliver
  try dsimp only
  rw [cv_ix 2 i, cj, c2, e9]
  refine ⟨pk_in 2 4 (by decide), nm_e ?_⟩
  rw [c5, e4, e5, cv_ix0, ci]
  exact ⟨pk_in (16 * 2 + i) 64 (by omega), nm_e (br_f (by decide) ⟨pk_in 5 16 (by decide), br_f (by decide) ⟨pk_in 5 16 (by decide), pk_in i 64 (by omega), nm_e H⟩⟩)⟩
theorem cv_d6 {post : St2 → Prop} {lc de le pl nn nw sm : Int32} {a1 a2 a3 a4 a5 a6 a7 a8 a9 a10 a11 a12 a13 a14 a15 a16 : Nat → Int32} {i : Nat} (hi : i < 16) (e9 : a9 1 = nI 6) (e4 : a4 6 = nI 5) (e5 : a5 6 = nI 1)
    (H : post (lc, de, le, pl, nn, nw, sm, upd a1 (16 + i) (a14 (16 + i)), a2, a3, a4, a5, a6, a7, a8, a9, a10, a11, a12, a13, a14, a15, a16)) : wpX_deliver post (lc, de, le, pl, nn, nw, sm, a1, a2, a3, a4, a5, a6, a7, a8, a9, a10, a11, a12, a13, a14, a15, a16) (nI 1) (nI i) := by
  have c1 : (nI 1).toNatClampNeg = 1 := nI_clamp (by decide)
  have c6 : (nI 6).toNatClampNeg = 6 := nI_clamp (by decide)
  have cj : (nI (16 + i)).toNatClampNeg = 16 + i := nI_clamp (by omega)
  unfold wpX_deliver
  try dsimp only
  rw [cv_ix1, cj, c1, e9]
  refine ⟨pk_in 1 4 (by decide), nm_e ?_⟩
  rw [c6, e4, e5, cv_ix1, cj]
  exact ⟨pk_in (16 + i) 64 (by omega), nm_e (br_f (by decide) ⟨pk_in 6 16 (by decide), br_f (by decide) ⟨pk_in 6 16 (by decide), pk_in (16 + i) 64 (by omega), nm_e H⟩⟩)⟩
theorem cv_d7 {post : St2 → Prop} {lc de le pl nn nw sm : Int32} {a1 a2 a3 a4 a5 a6 a7 a8 a9 a10 a11 a12 a13 a14 a15 a16 : Nat → Int32} {i : Nat} (hi : i < 16) (e9 : a9 0 = nI 7) (e4 : a4 7 = nI 0) (e5 : a5 7 = nI 0)
    (H : post (lc, de, le, pl, nn, nw, sm, upd a1 i (a14 i), a2, a3, a4, a5, a6, a7, a8, a9, a10, a11, a12, a13, a14, a15, a16)) : wpX_deliver post (lc, de, le, pl, nn, nw, sm, a1, a2, a3, a4, a5, a6, a7, a8, a9, a10, a11, a12, a13, a14, a15, a16) (nI 0) (nI i) := by
  have c0 : (nI 0).toNatClampNeg = 0 := nI_clamp (by decide)
  have c7 : (nI 7).toNatClampNeg = 7 := nI_clamp (by decide)
  have ci : (nI i).toNatClampNeg = i := nI_clamp (by omega)
  unfold wpX_deliver
  try dsimp only
  rw [cv_ix0, ci, c0, e9]
  refine ⟨pk_in 0 4 (by decide), nm_e ?_⟩
  rw [c7, e4, e5, cv_ix0, ci]
  exact ⟨pk_in i 64 (by omega), nm_e (br_f (by decide) ⟨pk_in 7 16 (by decide), br_f (by decide) ⟨pk_in 7 16 (by decide), pk_in i 64 (by omega), nm_e H⟩⟩)⟩
theorem cv_d8 {post : St2 → Prop} {lc de le pl nn nw sm : Int32} {a1 a2 a3 a4 a5 a6 a7 a8 a9 a10 a11 a12 a13 a14 a15 a16 : Nat → Int32} {i q : Nat} (hi : i < 16) (hq : q < 64) (e9 : a9 2 = nI 8) (e4 : a4 8 = nI 7) (e15 : a15 (16 * 2 + i) = nI q)
    (H : post (lc, de, le, pl, nn, nw, sm, a1, a2, upd a3 q (a14 (16 * 2 + i)), a4, a5, a6, a7, a8, a9, a10, a11, a12, a13, a14, a15, a16)) : wpX_deliver post (lc, de, le, pl, nn, nw, sm, a1, a2, a3, a4, a5, a6, a7, a8, a9, a10, a11, a12, a13, a14, a15, a16) (nI 2) (nI i) := by
  have c2 : (nI 2).toNatClampNeg = 2 := nI_clamp (by decide)
  have c8 : (nI 8).toNatClampNeg = 8 := nI_clamp (by decide)
  have cq : (nI q).toNatClampNeg = q := nI_clamp (by omega)
  have cj : (nI (16 * 2 + i)).toNatClampNeg = 16 * 2 + i := nI_clamp (by omega)
  unfold wpX_deliver
  try dsimp only
  rw [cv_ix 2 i, cj, c2, e9, e15, cq]
  refine ⟨pk_in 2 4 (by decide), nm_e ?_⟩
  rw [c8, e4]
  exact ⟨pk_in (16 * 2 + i) 64 (by omega), nm_e (br_f (by decide) ⟨pk_in 8 16 (by decide), br_t rfl ⟨pk_in (16 * 2 + i) 64 (by omega), pk_in q 64 hq, nm_e H⟩⟩)⟩
theorem cv_d9 {post : St2 → Prop} {lc de le pl nn nw sm : Int32} {a1 a2 a3 a4 a5 a6 a7 a8 a9 a10 a11 a12 a13 a14 a15 a16 : Nat → Int32} {i : Nat} (hi : i < 16) (e9 : a9 3 = nI 9)
    (H : post (lc, de, le, pl, nn, nw, sm + a14 (16 * 3 + i), a1, a2, a3, a4, a5, a6, a7, a8, a9, a10, a11, a12, a13, a14, a15, a16)) : wpX_deliver post (lc, de, le, pl, nn, nw, sm, a1, a2, a3, a4, a5, a6, a7, a8, a9, a10, a11, a12, a13, a14, a15, a16) (nI 3) (nI i) := by
  have c3 : (nI 3).toNatClampNeg = 3 := nI_clamp (by decide)
  have cj : (nI (16 * 3 + i)).toNatClampNeg = 16 * 3 + i := nI_clamp (by omega)
  unfold wpX_deliver
  try dsimp only
  rw [cv_ix 3 i, cj, c3, e9]
  exact ⟨pk_in 3 4 (by decide), nm_e ⟨pk_in (16 * 3 + i) 64 (by omega), nm_e (br_t rfl (nm_e H))⟩⟩
end
section
/-! the same over the picture -/
theorem cv_m64 (x : Int32) : (x &&& 63).toNatClampNeg < 64 := by
  obtain ⟨q, hq, e⟩ := pk_andE x (m := 63) 6 (by decide)
  rw [e, nI_clamp (by omega)]
  exact hq
theorem cv_ifs {x y : Int32} {i m : Nat} (e : i ≠ m) : (if i < m + 1 then x else y) = if i < m then x else y := by
  by_cases h : i < m
  · rw [if_pos h, if_pos (by omega)]
  · rw [if_neg h, if_neg (by omega)]
theorem cv_adr {T i : Nat} (hT : T < 64) (hi : i < 16) : ((nI T + nI i * nI 1) &&& 63).toInt8.toInt32 = nI ((T + i) % 64) := by
  rw [pk_mul, nI_add, pk_andN (by omega) 6 (by decide), cv_i8 _ (by omega), show i * 1 = i by omega]
theorem cv_comp {post : Int32 → St2 → Prop} {n ln dl T : Nat} {st sd fa : Int32} {C L : Nat → Int32} {lc de le pl nn nw sm : Int32} {a1 a2 a3 a4 a5 a6 a7 a8 a9 a10 a11 a12 a13 a14 a15 a16 : Nat → Int32} {nx : Nat} {b f : Nat → Nat} {d : Nat → Bool} {j : Nat}
    (hE : cv_E n ln dl T st sd C L) (P : cv_P n T st sd fa a4 a5 a6 a7) (V : cv_V L fa f a1) (W : cv_W T fa C L f a3) (U : cv_U n T st fa nx b f d a8 a9 a10 a11 a12 a13) (I : cv_I n nx b f d)
    (hj : cv_A nx d j) (h1 : b j < n) (h6 : j = 6 → b j < f 5) (h7 : j = 7 → b j < f 6) (h8 : j = 8 → b j < f 7) (h9 : j = 9 → b j < f 7)
    (H : ∀ a15' : Nat → Int32, (∀ k, k ≠ 32 + b j ∨ j ≠ 8 → a15' k = a15 k) → (j = 8 → a15' (32 + b j) = nI ((T + b j) % 64)) → post (cv_val L fa j (b j)) (lc, de, le, pl, nn, nw, sm, a1, a2, a3, a4, a5, a6, a7, a8, a9, a10, a11, a12, a13, a14, a15', a16)) :
    wpX_compute post (lc, de, le, pl, nn, nw, sm, a1, a2, a3, a4, a5, a6, a7, a8, a9, a10, a11, a12, a13, a14, a15, a16) (nI (cv_uo j)) (nI (b j)) := by
  obtain ⟨hn, _, _, _, _, hT, hL⟩ := hE
  obtain ⟨p4, p5, p6, p7, p75, _, _, _, _⟩ := P
  obtain ⟨i1, i2, i3, i4, i5, i6, i7, i8, i9⟩ := I
  obtain ⟨u8, u9, u10, u12, u13, u115, u116, u118⟩ := U.2 j hj
  have f6 := i2 6
  have f7 := i2 7
  rcases cv_five hj i1 with e | e | e | e | e
  · subst e
    have n8 : nx ≤ 8 := by
      rcases Nat.lt_or_ge 8 nx with z | z
      · have z2 := i9 z
        rw [hj.2.2] at z2
        exact absurd z2 (by decide)
      · exact z
    have f8 := i2 8
    have b8 := i8 8 n8
    refine cv_c5 u9 (p4 5 (by decide)) ?_
    have v : a3 ((a11 2 + nI (b 5) * a7 5) &&& 63).toNatClampNeg = cv_val L fa 5 (b 5) := by
      rw [u115 rfl, p75, W _ (cv_m64 _), if_neg (by omega)]
      exact (hL _).symm
    rw [v]
    exact H a15 (fun _ _ => rfl) (fun z => absurd z (by decide))
  · subst e
    refine cv_c6 (by omega) u9 (p4 6 (by decide)) (p6 6 (by decide) (by decide)) ?_
    have v : a1 (b 6) * a11 1 = cv_val L fa 6 (b 6) := by
      rw [u116 rfl, (V (b 6) (by omega)).1, if_neg (by omega), if_pos (h6 rfl)]
      rfl
    rw [v]
    exact H a15 (fun _ _ => rfl) (fun z => absurd z (by decide))
  · subst e
    have g7 := h7 rfl
    refine cv_c7 (by omega) u9 (p4 7 (by decide)) (p6 7 (by decide) (by decide)) (p7 7 (by decide) (by decide)) ?_
    have v : a1 (b 7) + a1 (16 + b 7) = cv_val L fa 7 (b 7) := by
      rw [(V (b 7) (by omega)).1, (V (b 7) (by omega)).2, if_neg (by omega), if_pos (by omega), if_pos g7]
      rfl
    rw [v]
    exact H a15 (fun _ _ => rfl) (fun z => absurd z (by decide))
  · subst e
    have g8 := h8 rfl
    have a78 : a7 8 = nI 1 := p7 8 (by decide) (by decide)
    refine cv_c8 (by omega) u9 (p4 8 (by decide)) (p5 8 (by decide)) ?_
    have v : a1 (b 8) = cv_val L fa 8 (b 8) := by
      rw [(V (b 8) (by omega)).1, if_pos g8]
      rfl
    rw [v, u118 rfl, a78, cv_adr hT (by omega)]
    refine H _ (fun k hk => pk_un ?_) (fun _ => pk_us)
    rcases hk with hk | hk
    · exact hk
    · exact absurd rfl hk
  · subst e
    have g9 := h9 rfl
    refine cv_c9 (by omega) u9 (p4 9 (by decide)) (p6 9 (by decide) (by decide)) ?_
    have v : a1 (b 9) = cv_val L fa 9 (b 9) := by
      rw [(V (b 9) (by omega)).1, if_pos g9]
      rfl
    rw [v]
    exact H a15 (fun _ _ => rfl) (fun z => absurd z (by decide))
theorem cv_V5 {L : Nat → Int32} {fa : Int32} {f : Nat → Nat} {a1 : Nat → Int32} (V : cv_V L fa f a1) (h1 : f 5 < 16) (h2 : f 7 ≤ f 5) : cv_V L fa (cv_u f 5 (f 5 + 1)) (upd a1 (f 5) (L (f 5))) := by
  intro i hi
  rw [cv_un (show (7 : Nat) ≠ 5 by decide), cv_un (show (6 : Nat) ≠ 5 by decide), cv_us]
  refine ⟨?_, by rw [pk_un (by omega)]; exact (V i hi).2⟩
  by_cases e : i = f 5
  · rw [e, pk_us, if_neg (by omega), if_pos (by omega)]
  · rw [pk_un e, cv_ifs e]
    exact (V i hi).1
theorem cv_V6 {L : Nat → Int32} {fa : Int32} {f : Nat → Nat} {a1 : Nat → Int32} (V : cv_V L fa f a1) : cv_V L fa (cv_u f 6 (f 6 + 1)) (upd a1 (16 + f 6) (L (f 6) * fa)) := by
  intro i hi
  rw [cv_un (show (7 : Nat) ≠ 6 by decide), cv_un (show (5 : Nat) ≠ 6 by decide), cv_us]
  refine ⟨by rw [pk_un (by omega)]; exact (V i hi).1, ?_⟩
  by_cases e : i = f 6
  · rw [e, pk_us, if_pos (by omega)]
  · rw [pk_un (by omega), cv_ifs e]
    exact (V i hi).2
theorem cv_V7 {L : Nat → Int32} {fa : Int32} {f : Nat → Nat} {a1 : Nat → Int32} (V : cv_V L fa f a1) (h1 : f 7 < 16) : cv_V L fa (cv_u f 7 (f 7 + 1)) (upd a1 (f 7) (cv_S L fa (f 7))) := by
  intro i hi
  rw [cv_un (show (5 : Nat) ≠ 7 by decide), cv_un (show (6 : Nat) ≠ 7 by decide), cv_us]
  refine ⟨?_, by rw [pk_un (by omega)]; exact (V i hi).2⟩
  by_cases e : i = f 7
  · rw [e, pk_us, if_pos (by omega)]
  · rw [pk_un e, cv_ifs e]
    exact (V i hi).1
theorem cv_W8 {T : Nat} {fa : Int32} {C L : Nat → Int32} {f : Nat → Nat} {a3 : Nat → Int32} (hT : T < 64) (W : cv_W T fa C L f a3) (h1 : f 8 < 16) : cv_W T fa C L (cv_u f 8 (f 8 + 1)) (upd a3 ((T + f 8) % 64) (cv_S L fa (f 8))) := by
  intro k hk
  rw [cv_us]
  by_cases e : k = (T + f 8) % 64
  · have g : (k + (64 - T)) % 64 = f 8 := by omega
    rw [e, pk_us, ← e, g, if_pos (by omega)]
  · have g : (k + (64 - T)) % 64 ≠ f 8 := by omega
    rw [pk_un e, cv_ifs g]
    exact W k hk
theorem cv_del {post : St2 → Prop} {n ln dl T : Nat} {st sd fa : Int32} {C L : Nat → Int32} {lc de le pl nn nw sm : Int32} {a1 a2 a3 a4 a5 a6 a7 a8 a9 a10 a11 a12 a13 a14 a15 a16 : Nat → Int32} {nx : Nat} {b f : Nat → Nat} {d : Nat → Bool} {ra : Nat → Nat → Nat} {j : Nat}
    (hE : cv_E n ln dl T st sd C L) (P : cv_P n T st sd fa a4 a5 a6 a7) (hs : 9 < nx → sm = cv_Q L fa (f 9)) (V : cv_V L fa f a1) (W : cv_W T fa C L f a3) (U : cv_U n T st fa nx b f d a8 a9 a10 a11 a12 a13)
    (B : cv_B T fa L nx b f d ra a14 a15 a16) (I : cv_I n nx b f d) (hj : cv_A nx d j) (h1 : f j < b j)
    (H : ∀ (sm' : Int32) (a1' a3' : Nat → Int32), (9 < nx → sm' = cv_Q L fa (cv_u f j (f j + 1) 9)) → cv_V L fa (cv_u f j (f j + 1)) a1' → cv_W T fa C L (cv_u f j (f j + 1)) a3' → post (lc, de, le, pl, nn, nw, sm', a1', a2, a3', a4, a5, a6, a7, a8, a9, a10, a11, a12, a13, a14, a15, a16)) :
    wpX_deliver post (lc, de, le, pl, nn, nw, sm, a1, a2, a3, a4, a5, a6, a7, a8, a9, a10, a11, a12, a13, a14, a15, a16) (nI (cv_uo j)) (nI (f j)) := by
  obtain ⟨hn, _, _, _, _, hT, hL⟩ := hE
  obtain ⟨p4, p5, p6, p7, p75, _, _, _, _⟩ := P
  obtain ⟨i1, i2, i3, i4, i5, i6, i7, i8, i9⟩ := I
  obtain ⟨u8, u9, u10, u12, u13, u115, u116, u118⟩ := U.2 j hj
  obtain ⟨q14, q16, q15⟩ := B j hj (f j) (Nat.le_refl _) h1
  have f5 := i2 5
  have f6 := i2 6
  have f7 := i2 7
  have fj := i2 j
  rcases cv_five hj i1 with e | e | e | e | e
  · subst e
    have v : a14 (16 * 2 + f 5) = L (f 5) := q14
    refine cv_d5 (by omega) u9 (p4 5 (by decide)) (p5 5 (by decide)) ?_
    rw [v]
    exact H sm _ a3 (fun z => hs z) (cv_V5 V (by omega) (by omega)) (fun k hk => W k hk)
  · subst e
    have v : a14 (16 + f 6) = L (f 6) * fa := q14
    refine cv_d6 (by omega) u9 (p4 6 (by decide)) (p5 6 (by decide)) ?_
    rw [v]
    exact H sm _ a3 (fun z => hs z) (cv_V6 V) (fun k hk => W k hk)
  · subst e
    have v : a14 (f 7) = cv_S L fa (f 7) := by
      have v0 : a14 (16 * 0 + f 7) = cv_S L fa (f 7) := q14
      rw [show 16 * 0 + f 7 = f 7 by omega] at v0
      exact v0
    refine cv_d7 (by omega) u9 (p4 7 (by decide)) (p5 7 (by decide)) ?_
    rw [v]
    exact H sm _ a3 (fun z => hs z) (cv_V7 V (by omega)) (fun k hk => W k hk)
  · subst e
    have v : a14 (16 * 2 + f 8) = cv_S L fa (f 8) := q14
    refine cv_d8 (q := (T + f 8) % 64) (by omega) (by omega) u9 (p4 8 (by decide)) (q15 rfl) ?_
    rw [v]
    exact H sm a1 _ (fun z => hs z) (fun i hi => V i hi) (cv_W8 hT W (by omega))
  · subst e
    have v : a14 (16 * 3 + f 9) = cv_S L fa (f 9) := q14
    refine cv_d9 (by omega) u9 ?_
    rw [v]
    refine H _ a1 a3 (fun z => ?_) (fun i hi => V i hi) (fun k hk => W k hk)
    rw [hs z, cv_us]
    rfl
end
section
/-! finishElements -/
theorem cv_Zd {n T : Nat} {st fa : Int32} {L : Nat → Int32} {nx : Nat} {d : Nat → Bool} {le : Int32} {a2 : Nat → Int32} {j : Nat} (Z : cv_Z n T st fa L nx d le a2) (h : j ≠ 9) : cv_Z n T st fa L nx (cv_u d j true) le a2 := by
  obtain ⟨z1, z2, z3, z4, z5, z6⟩ := Z
  have e : cv_u d j true 9 = d 9 := cv_un (fun z => h z.symm)
  refine ⟨z1, z2, z3, ?_, ?_, z6⟩
  · rw [e]
    exact z4
  · rw [e]
    exact z5
theorem cv_Z9 {n T : Nat} {st fa : Int32} {L : Nat → Int32} {nx : Nat} {d : Nat → Bool} {le : Int32} {a2 : Nat → Int32} {x : Int32} (Z : cv_Z n T st fa L nx d le a2) (h : x = cv_Q L fa n) : cv_Z n T st fa L nx (cv_u d 9 true) le (upd a2 2 x) := by
  obtain ⟨z1, z2, z3, z4, z5, z6⟩ := Z
  refine ⟨fun z => ?_, fun z => ?_, z3, fun _ z => ?_, fun _ => ?_, fun z => ?_⟩
  · rw [pk_un (by decide)]
    exact z1 z
  · rw [pk_un (by decide)]
    exact z2 z
  · rw [cv_us] at z
    exact absurd z (by decide)
  · rw [pk_us]
    exact h
  · rw [pk_un (by decide)]
    exact z6 z
theorem cv_Ad {nx : Nat} {d : Nat → Bool} {j k : Nat} (h : cv_A nx (cv_u d j true) k) : k ≠ j ∧ cv_A nx d k := by
  obtain ⟨h1, h2, h3⟩ := h
  by_cases e : k = j
  · rw [e, cv_us] at h3
    exact absurd h3 (by decide)
  · rw [cv_un e] at h3
    exact ⟨e, h1, h2, h3⟩
theorem cv_Ud {n T : Nat} {st fa : Int32} {nx : Nat} {b f : Nat → Nat} {d : Nat → Bool} {a8 a9 a10 a11 a12 a13 : Nat → Int32} {j : Nat} (U : cv_U n T st fa nx b f d a8 a9 a10 a11 a12 a13) (hn : nx ≤ 10) (hj : cv_A nx d j) :
    cv_U n T st fa nx b f (cv_u d j true) (upd a8 (cv_uo j) 0) a9 a10 a11 a12 a13 := by
  refine ⟨fun o ho => ?_, fun k hk => ?_⟩
  · by_cases e : o = cv_uo j
    · rw [e, pk_us]
      exact Or.inl rfl
    · rw [pk_un e]
      rcases U.1 o ho with z | ⟨k, hk, ek⟩
      · exact Or.inl z
      · refine Or.inr ⟨k, ⟨hk.1, hk.2.1, ?_⟩, ek⟩
        rw [cv_un (fun z => e (by rw [← ek, z]))]
        exact hk.2.2
  · obtain ⟨ne, hk'⟩ := cv_Ad hk
    obtain ⟨u1, u2⟩ := U.2 k hk'
    refine ⟨?_, u2⟩
    rw [pk_un (fun z => ne (cv_inj U hn hj hk' z))]
    exact u1
theorem cv_Bd {T : Nat} {fa : Int32} {L : Nat → Int32} {nx : Nat} {b f : Nat → Nat} {d : Nat → Bool} {ra : Nat → Nat → Nat} {a14 a15 a16 : Nat → Int32} {j : Nat}
    (B : cv_B T fa L nx b f d ra a14 a15 a16) : cv_B T fa L nx b f (cv_u d j true) ra a14 a15 a16 :=
  fun k hk => B k (cv_Ad hk).2
theorem cv_Id {n nx : Nat} {b f : Nat → Nat} {d : Nat → Bool} {j : Nat} (I : cv_I n nx b f d) (h1 : f j = n) (h2 : j < nx) : cv_I n nx b f (cv_u d j true) := by
  obtain ⟨i1, i2, i3, i4, i5, i6, i7, i8, i9⟩ := I
  refine ⟨i1, i2, i3, i4, i5, i6, fun k hk => ?_, i8, fun z => ?_⟩
  · by_cases e : k = j
    · rw [e]
      exact ⟨h1, h2⟩
    · rw [cv_un e] at hk
      exact i7 k hk
  · by_cases e : 5 = j
    · rw [← e, cv_us]
    · rw [cv_un e]
      exact i9 z
/-- behind the loop: the unit is freed when all are finished -/
theorem cv_f81 {post : St2 → Prop} {n ln dl T : Nat} {st sd fa : Int32} {C L : Nat → Int32} {lc de le pl nn nw sm : Int32} {a1 a2 a3 a4 a5 a6 a7 a8 a9 a10 a11 a12 a13 a14 a15 a16 : Nat → Int32} {nx t : Nat} {b f : Nat → Nat} {d : Nat → Bool} {ra : Nat → Nat → Nat} {j : Nat}
    (hE : cv_E n ln dl T st sd C L) (R : cv_R n ln dl T st sd fa C L nx t b f d ra lc de le pl nn nw sm a1 a2 a3 a4 a5 a6 a7 a8 a9 a10 a11 a12 a13 a14 a15 a16) (hj : cv_A nx d j)
    (H : ∀ (d' : Nat → Bool) (a2' a8' : Nat → Int32), cv_R n ln dl T st sd fa C L nx t b f d' ra lc de le pl nn nw sm a1 a2' a3 a4 a5 a6 a7 a8' a9 a10 a11 a12 a13 a14 a15 a16 → (∀ k, k ≠ j → d' k = d k) → d' j = decide (n ≤ f j) → post (lc, de, le, pl, nn, nw, sm, a1, a2', a3, a4, a5, a6, a7, a8', a9, a10, a11, a12, a13, a14, a15, a16)) :
    wX_finishElements_81 post (nI (cv_uo j)) lc de le pl nn nw sm a1 a2 a3 a4 a5 a6 a7 a8 a9 a10 a11 a12 a13 a14 a15 a16 := by
  have hn := hE.1
  obtain ⟨K, P, hs, V, Z, W, U, B, I⟩ := R
  have i1 := I.1
  have fj := I.2.1 j
  obtain ⟨u8, u9, u10, u12, u13, _⟩ := U.2 j hj
  have ul := cv_uo_lt j
  have cu : (nI (cv_uo j)).toNatClampNeg = cv_uo j := nI_clamp (by omega)
  unfold wX_finishElements_81
  rw [cu, u10, u13, u9]
  refine ⟨pk_in (cv_uo j) 4 ul, pk_in (cv_uo j) 4 ul, pk_le n (f j) (fun z => ?_) (fun z => ?_)⟩
  · have fn : f j = n := by omega
    have D : ∀ k, k ≠ j → cv_u d j true k = d k := fun k e => cv_un e
    have D2 : cv_u d j true j = decide (n ≤ f j) := by
      rw [cv_us, decide_eq_true z]
    refine pk_eq (cv_uo j) 3 (fun e3 => ?_) (fun e3 => ?_)
    · have j9 : j = 9 := by
        rcases cv_five hj i1 with e | e | e | e | e <;> subst e
        · exact absurd e3 (by decide)
        · exact absurd e3 (by decide)
        · exact absurd e3 (by decide)
        · exact absurd e3 (by decide)
        · rfl
      subst j9
      have c9 : (nI 9).toNatClampNeg = 9 := nI_clamp (by decide)
      have c2 : (nI 2).toNatClampNeg = 2 := nI_clamp (by decide)
      have p5 : a5 9 = nI 2 := P.2.1 9 (by decide)
      rw [c9, p5, c2]
      refine ⟨pk_in (cv_uo 9) 4 ul, pk_in 9 16 (by decide), pk_in 2 4 (by decide), nm_e ⟨pk_in (cv_uo 9) 4 ul, nm_e ?_⟩⟩
      refine H (cv_u d 9 true) _ _ ⟨K, P, hs, V, cv_Z9 Z ?_, W, cv_Ud U i1 hj, cv_Bd B, cv_Id I fn hj.2.1⟩ D D2
      rw [hs hj.2.1, fn]
    · have j9 : j ≠ 9 := fun e => e3 (by rw [e]; rfl)
      exact ⟨pk_in (cv_uo j) 4 ul, nm_e (H (cv_u d j true) a2 _ ⟨K, P, hs, V, cv_Zd Z j9, W, cv_Ud U i1 hj, cv_Bd B, cv_Id I fn hj.2.1⟩ D D2)⟩
  · refine H d a2 a8 ⟨K, P, hs, V, Z, W, U, B, I⟩ (fun _ _ => rfl) ?_
    rw [hj.2.2, decide_eq_false (by omega)]
/-- the loop over the lanes -/
theorem cv_f12 {post : St2 → Prop} {n ln dl T : Nat} {st sd fa : Int32} {C L : Nat → Int32} {nx t : Nat} {b f0 : Nat → Nat} {d : Nat → Bool} {ra : Nat → Nat → Nat} {j : Nat}
    (hE : cv_E n ln dl T st sd C L) (ht : t < 1000) (hj : cv_A nx d j) (hr : ∀ i, f0 j ≤ i → i < b j → ra j i < 2000)
    (H : ∀ (f : Nat → Nat) (lc de le pl nn nw sm : Int32) (a1 a2 a3 a4 a5 a6 a7 a8 a9 a10 a11 a12 a13 a14 a15 a16 : Nat → Int32), cv_R n ln dl T st sd fa C L nx t b f d ra lc de le pl nn nw sm a1 a2 a3 a4 a5 a6 a7 a8 a9 a10 a11 a12 a13 a14 a15 a16 → (∀ k, k ≠ j → f k = f0 k) → f0 j ≤ f j → (f j = f0 j → f0 j = b j ∨ t < ra j (f0 j)) → wX_finishElements_81 post (nI (cv_uo j)) lc de le pl nn nw sm a1 a2 a3 a4 a5 a6 a7 a8 a9 a10 a11 a12 a13 a14 a15 a16) :
    ∀ (fu x : Nat) (f : Nat → Nat) (lc de le pl nn nw sm : Int32) (a1 a2 a3 a4 a5 a6 a7 a8 a9 a10 a11 a12 a13 a14 a15 a16 : Nat → Int32), cv_R n ln dl T st sd fa C L nx t b f d ra lc de le pl nn nw sm a1 a2 a3 a4 a5 a6 a7 a8 a9 a10 a11 a12 a13 a14 a15 a16 → x ≤ ln → ln < x + fu → (∀ k, k ≠ j → f k = f0 k) → f0 j ≤ f j → (f j = f0 j → x = 0) →
      wX_finishElements_12 post (nI (cv_uo j)) fu (nI x) lc de le pl nn nw sm a1 a2 a3 a4 a5 a6 a7 a8 a9 a10 a11 a12 a13 a14 a15 a16 := by
  intro fu
  induction fu with
  | zero =>
    intro x f lc de le pl nn nw sm a1 a2 a3 a4 a5 a6 a7 a8 a9 a10 a11 a12 a13 a14 a15 a16 R hx hf
    omega
  | succ fu ih =>
    intro x f lc de le pl nn nw sm a1 a2 a3 a4 a5 a6 a7 a8 a9 a10 a11 a12 a13 a14 a15 a16 R hx hf h1 h2 h3
    have hn := hE.1
    have hl := hE.2.1
    have hl4 := hE.2.2.1
    have R0 := R
    obtain ⟨⟨rfl, rfl, rfl, rfl, rfl⟩, P, hs, V, Z, W, U, B, I⟩ := R
    have i1 := I.1
    have fj := I.2.1 j
    obtain ⟨u8, u9, u10, u12, u13, _⟩ := U.2 j hj
    have ul := cv_uo_lt j
    have cu : (nI (cv_uo j)).toNatClampNeg = cv_uo j := nI_clamp (by omega)
    refine pk_le ln x (fun z => H f _ _ _ _ _ _ _ _ _ _ _ _ _ _ _ _ _ _ _ _ _ _ _ R0 h1 h2 (fun e => ?_)) (fun z => ?_)
    · have := h3 e
      omega
    rw [cu, u13, u12]
    refine ⟨pk_in (cv_uo j) 4 ul, nm_e ⟨pk_in (cv_uo j) 4 ul, pk_le (b j) (f j) (fun z => H f _ _ _ _ _ _ _ _ _ _ _ _ _ _ _ _ _ _ _ _ _ _ _ R0 h1 h2 (fun e => Or.inl (by omega))) (fun z => ?_)⟩⟩
    obtain ⟨q14, q16, q15⟩ := B j hj (f j) (Nat.le_refl _) z
    have rj := hr (f j) h2 z
    have cs : (nI (16 * cv_uo j + f j)).toNatClampNeg = 16 * cv_uo j + f j := nI_clamp (by omega)
    rw [cv_ix, cs, q16]
    refine ⟨pk_in (16 * cv_uo j + f j) 64 (by omega), pk_le (ra j (f j)) t (fun zt => ?_) (fun zt => H f _ _ _ _ _ _ _ _ _ _ _ _ _ _ _ _ _ _ _ _ _ _ _ R0 h1 h2 (fun e => Or.inr (by rw [← e]; exact zt)))⟩
    refine cv_del hE P hs V W U B I hj z (fun sm' a1' a3' hs' V' W' => ?_)
    have c8 : ((a13 (cv_uo j)) + 1).toInt8.toInt32 = nI (f j + 1) := by
      rw [u13]
      exact cv_b8 (by omega)
    have go := ih (x + 1) (cv_u f j (f j + 1)) (nI ln) (nI dl) le (nI 10) (nI nx) (nI t) sm' a1' a2 a3' a4 a5 a6 a7 a8 a9 a10 a11 a12 (upd a13 (cv_uo j) (nI (f j + 1))) a14 a15 a16
      ⟨⟨rfl, rfl, rfl, rfl, rfl⟩, P, hs', V', Z, W', cv_Uf U i1 hj, cv_Bf B (by omega), cv_If I hj.2.2 (by omega) (by omega)⟩ (by omega) (by omega)
      (fun k hk => by rw [cv_un hk]; exact h1 k hk) (by rw [cv_us]; omega) (fun e => by rw [cv_us] at e; omega)
    dsimp only
    refine ⟨pk_in (cv_uo j) 4 ul, pk_in (cv_uo j) 4 ul, nm_r ?_ (nm_r (nI_1 x) go)⟩
    rw [c8]
/-- what finishing does to the counts in unit o -/
def cv_F (n nx t : Nat) (b f : Nat → Nat) (d : Nat → Bool) (ra : Nat → Nat → Nat) (p : Nat → Prop) (f' : Nat → Nat) (d' : Nat → Bool) : Prop :=
  ∀ k, (cv_A nx d k → p (cv_uo k) → f k ≤ f' k ∧ d' k = decide (n ≤ f' k) ∧ (f' k = f k → f k = b k ∨ t < ra k (f k))) ∧ (¬ (cv_A nx d k ∧ p (cv_uo k)) → f' k = f k ∧ d' k = d k)
theorem cv_fin {post : St2 → Prop} {n ln dl T : Nat} {st sd fa : Int32} {C L : Nat → Int32} {lc de le pl nn nw sm : Int32} {a1 a2 a3 a4 a5 a6 a7 a8 a9 a10 a11 a12 a13 a14 a15 a16 : Nat → Int32} {nx t : Nat} {b f : Nat → Nat} {d : Nat → Bool} {ra : Nat → Nat → Nat} {o : Nat}
    (hE : cv_E n ln dl T st sd C L) (ht : t < 1000) (ho : o < 4) (R : cv_R n ln dl T st sd fa C L nx t b f d ra lc de le pl nn nw sm a1 a2 a3 a4 a5 a6 a7 a8 a9 a10 a11 a12 a13 a14 a15 a16) (hr : ∀ k, cv_A nx d k → ∀ i, f k ≤ i → i < b k → ra k i < 2000)
    (H : ∀ (f' : Nat → Nat) (d' : Nat → Bool) (lc de le pl nn nw sm : Int32) (a1 a2 a3 a4 a5 a6 a7 a8 a9 a10 a11 a12 a13 a14 a15 a16 : Nat → Int32), cv_R n ln dl T st sd fa C L nx t b f' d' ra lc de le pl nn nw sm a1 a2 a3 a4 a5 a6 a7 a8 a9 a10 a11 a12 a13 a14 a15 a16 → cv_F n nx t b f d ra (fun q => q = o) f' d' → post (lc, de, le, pl, nn, nw, sm, a1, a2, a3, a4, a5, a6, a7, a8, a9, a10, a11, a12, a13, a14, a15, a16)) :
    wpX_finishElements post (lc, de, le, pl, nn, nw, sm, a1, a2, a3, a4, a5, a6, a7, a8, a9, a10, a11, a12, a13, a14, a15, a16) (nI o) := by
  have co : (nI o).toNatClampNeg = o := nI_clamp (by omega)
  have U := R.2.2.2.2.2.2.1
  have I := R.2.2.2.2.2.2.2.2
  unfold wpX_finishElements
  try dsimp only
  rw [co]
  refine ⟨pk_in o 4 ho, ?_⟩
  rcases U.1 o ho with e | ⟨j, hj, e⟩
  · refine br_t e (H f d _ _ _ _ _ _ _ _ _ _ _ _ _ _ _ _ _ _ _ _ _ _ _ R (fun k => ⟨fun hk ek => ?_, fun _ => ⟨rfl, rfl⟩⟩))
    have u := (U.2 k hk).1
    have ek2 : cv_uo k = o := ek
    rw [ek2, e] at u
    exact absurd u (by decide)
  · subst e
    refine br_f (by rw [(U.2 j hj).1]; decide) ⟨ln + 1, ?_⟩
    refine cv_f12 (f0 := f) hE ht hj (hr j hj) ?_ (ln + 1) 0 f _ _ _ _ _ _ _ _ _ _ _ _ _ _ _ _ _ _ _ _ _ _ _ R (by omega) (by omega) (fun _ _ => rfl) (Nat.le_refl _) (fun _ => rfl)
    intro f' lc de le pl nn nw sm a1 a2 a3 a4 a5 a6 a7 a8 a9 a10 a11 a12 a13 a14 a15 a16 R' h1 h2 h3
    refine cv_f81 hE R' hj (fun d' a2' a8' R'' g1 g2 => H f' d' _ _ _ _ _ _ _ _ _ _ _ _ _ _ _ _ _ _ _ _ _ _ _ R'' (fun k => ⟨fun hk ek => ?_, fun hk => ?_⟩))
    · have kj := cv_inj U I.1 hj hk ek
      subst kj
      exact ⟨h2, g2, h3⟩
    · have kj : k ≠ j := fun z => hk ⟨by rw [z]; exact hj, congrArg cv_uo z⟩
      exact ⟨h1 k kj, g1 k kj⟩
end
section
/-! mayBegin -/
def cv_wr (j v : Nat) : Prop := cv_op j ≤ 8 ∧ cv_op j ≠ 7 ∧ cv_fx j = v
def cv_rd (j v : Nat) : Prop :=
  (cv_op j ≤ 3 ∧ (cv_fy j = v ∨ cv_fz j = v)) ∨ (3 < cv_op j ∧ cv_op j = 7 ∧ cv_fx j = v) ∨ (3 < cv_op j ∧ cv_op j ≠ 7 ∧ cv_op j ≠ 6 ∧ cv_op j ≤ 9 ∧ cv_fy j = v)
theorem cv_wrv {post : Int32 → Prop} {n T : Nat} {st sd fa : Int32} {lc de le pl nn nw sm : Int32} {a1 a2 a3 a4 a5 a6 a7 a8 a9 a10 a11 a12 a13 a14 a15 a16 : Nat → Int32} {j v : Nat} (P : cv_P n T st sd fa a4 a5 a6 a7) (hj : j < 10) (hv : v < 4) (h1 : cv_wr j v → post 1) (h0 : ¬ cv_wr j v → post 0) :
    wpX_writesVector post (lc, de, le, pl, nn, nw, sm, a1, a2, a3, a4, a5, a6, a7, a8, a9, a10, a11, a12, a13, a14, a15, a16) (nI j) (nI v) := by
  have e4 := P.1 j hj
  have e5 := P.2.1 j hj
  have c : (nI j).toNatClampNeg = j := nI_clamp (by omega)
  have o1 := cv_op_le j
  have o2 := cv_fx_lt j
  unfold wpX_writesVector
  try dsimp only
  rw [c, e4, e5]
  refine ⟨pk_in j 16 (by omega), nm_e (pk_lt 8 (cv_op j) (fun z => h0 (fun q => ?_)) (fun z => pk_eq (cv_op j) 7 (fun y => h0 (fun q => q.2.1 y)) (fun y => ⟨pk_in j 16 (by omega), pk_eq (cv_fx j) v (fun x => h1 ⟨z, y, x⟩) (fun x => h0 (fun q => x q.2.2))⟩)))⟩
  have := q.1
  omega
theorem cv_rdv {post : Int32 → Prop} {n T : Nat} {st sd fa : Int32} {lc de le pl nn nw sm : Int32} {a1 a2 a3 a4 a5 a6 a7 a8 a9 a10 a11 a12 a13 a14 a15 a16 : Nat → Int32} {j v : Nat} (P : cv_P n T st sd fa a4 a5 a6 a7) (hj5 : 5 ≤ j) (hj : j < 10) (hv : v < 4) (h1 : cv_rd j v → post 1) (h0 : ¬ cv_rd j v → post 0) :
    wpX_readsVector post (lc, de, le, pl, nn, nw, sm, a1, a2, a3, a4, a5, a6, a7, a8, a9, a10, a11, a12, a13, a14, a15, a16) (nI j) (nI v) := by
  have e4 := P.1 j hj
  have e5 := P.2.1 j hj
  have e6 := P.2.2.1 j hj5 hj
  have c : (nI j).toNatClampNeg = j := nI_clamp (by omega)
  have o1 := cv_op_le j
  have o2 := cv_fx_lt j
  have o3 := cv_fy_lt j
  have o4 := cv_fz_lt j
  have e7 : cv_op j ≤ 3 → a7 j = nI (cv_fz j) := by
    intro z
    refine P.2.2.2.1 j ?_ hj
    rcases Nat.lt_or_ge 5 j with y | y
    · exact y
    · have : j = 5 := by omega
      subst this
      exact absurd z (by decide)
  unfold wpX_readsVector
  try dsimp only
  rw [c, e4, e5, e6]
  refine ⟨pk_in j 16 (by omega), nm_e (pk_lt 3 (cv_op j) (fun z => ?_) (fun z => ⟨pk_in j 16 (by omega), pk_eq (cv_fy j) v (fun y => h1 (Or.inl ⟨z, Or.inl y⟩)) (fun y => ⟨pk_in j 16 (by omega), ?_⟩)⟩))⟩
  · refine pk_eq (cv_op j) 7 (fun y => ⟨pk_in j 16 (by omega), pk_eq (cv_fx j) v (fun x => h1 (Or.inr (Or.inl ⟨z, y, x⟩))) (fun x => h0 (fun q => ?_))⟩)
      (fun y => pk_eq (cv_op j) 6 (fun x => h0 (fun q => ?_)) (fun x => pk_lt 9 (cv_op j) (fun w => h0 (fun q => ?_)) (fun w => ⟨pk_in j 16 (by omega), pk_eq (cv_fy j) v (fun u => h1 (Or.inr (Or.inr ⟨z, y, x, w, u⟩))) (fun u => h0 (fun q => ?_))⟩)))
    · unfold cv_rd at q
      omega
    · unfold cv_rd at q
      omega
    · unfold cv_rd at q
      omega
    · unfold cv_rd at q
      omega
  · rw [e7 z]
    refine pk_eq (cv_fz j) v (fun x => h1 (Or.inl ⟨z, Or.inr x⟩)) (fun x => h0 (fun q => ?_))
    unfold cv_rd at q
    omega
/-- the loop over the registers, other unit o holding h -/
theorem cv_m54 {post J10 : Int32 → Prop} {n T : Nat} {st sd fa : Int32} {lc de le pl nn nw sm : Int32} {a1 a2 a3 a4 a5 a6 a7 a8 a9 a10 a11 a12 a13 a14 a15 a16 : Nat → Int32} {i m o h F : Nat} (P : cv_P n T st sd fa a4 a5 a6 a7) (hm5 : 5 ≤ m) (hm : m < 10) (hh5 : 5 ≤ h) (hh : h < 10) (ho : o < 4) (hi : i < 16)
    (e9 : a9 o = nI h) (e13 : a13 o = nI F) (hF : F < 16) (p0 : post 0) (pJ : (∀ v, v < 4 → cv_wr m v ∨ cv_rd m v → cv_wr h v → i < F) → J10 (nI (o + 1))) :
    ∀ (fu v : Nat), v ≤ 4 → 4 < v + fu → (∀ w, w < v → cv_wr m w ∨ cv_rd m w → cv_wr h w → i < F) → wX_mayBegin_54 post J10 (nI i) (nI m) (nI o) lc de le pl nn nw sm a1 a2 a3 a4 a5 a6 a7 a8 a9 a10 a11 a12 a13 a14 a15 a16 fu (nI v) := by
  have co : (nI o).toNatClampNeg = o := nI_clamp (by omega)
  intro fu
  induction fu with
  | zero =>
    intro v hv hf
    omega
  | succ fu ih =>
    intro v hv hf q
    refine pk_le 4 v (fun z => nm_r (nI_1 o) (pJ (fun w hw => q w (by omega)))) (fun z => ?_)
    have h125 : ∀ x6, (cv_wr m v ∨ cv_rd m v → cv_wr h v → i < F) → wX_mayBegin_125 post J10 (wX_mayBegin_54 post J10 (nI i) (nI m) (nI o) lc de le pl nn nw sm a1 a2 a3 a4 a5 a6 a7 a8 a9 a10 a11 a12 a13 a14 a15 a16 fu) (nI i) (nI m) (nI o) (nI v) x6 lc de le pl nn nw sm a1 a2 a3 a4 a5 a6 a7 a8 a9 a10 a11 a12 a13 a14 a15 a16 := by
      intro x6 g
      have nx : wX_mayBegin_54 post J10 (nI i) (nI m) (nI o) lc de le pl nn nw sm a1 a2 a3 a4 a5 a6 a7 a8 a9 a10 a11 a12 a13 a14 a15 a16 fu (nI (v + 1)) := ih (v + 1) (by omega) (by omega) (lt_s q g)
      unfold wX_mayBegin_125
      rw [co, e9]
      exact br_c (fun _ => nm_r (nI_1 v) nx) (fun _ => ⟨pk_in o 4 ho, cv_rdv P hh5 hh z (fun _ => br_f (by decide) ⟨pk_in o 4 ho, br_c (fun _ => nm_r (nI_1 v) nx) (fun _ => p0)⟩) (fun _ => br_t rfl (nm_r (nI_1 v) nx))⟩)
    have h89 : ∀ x6 z0, (z0 = 0 → ¬ (cv_wr m v ∨ cv_rd m v)) → wX_mayBegin_89 post J10 (wX_mayBegin_54 post J10 (nI i) (nI m) (nI o) lc de le pl nn nw sm a1 a2 a3 a4 a5 a6 a7 a8 a9 a10 a11 a12 a13 a14 a15 a16 fu) (nI i) (nI m) (nI o) (nI v) x6 z0 lc de le pl nn nw sm a1 a2 a3 a4 a5 a6 a7 a8 a9 a10 a11 a12 a13 a14 a15 a16 := by
      intro x6 z0 g
      unfold wX_mayBegin_89
      rw [co, e9, e13]
      exact br_c (fun e => h125 x6 (fun u => absurd u (g e))) (fun _ => ⟨pk_in o 4 ho, cv_wrv P hh z (fun _ => br_f (by decide) ⟨pk_in o 4 ho, pk_lt i F (fun y => h125 x6 (fun _ _ => y)) (fun _ => p0)⟩) (fun y => br_t rfl (h125 x6 (fun _ w => absurd w y)))⟩)
    exact cv_wrv P hm z (fun _ => br_f (by decide) (h89 1 1 (fun e => absurd e (by decide)))) (fun y => br_t rfl (cv_rdv P hm5 hm z (fun _ => br_f (by decide) (h89 0 1 (fun e => absurd e (by decide)))) (fun x => br_t rfl (h89 0 0 (fun _ u => u.elim y x)))))
/-- the loop over the units -/
theorem cv_m10 {post : Int32 → Prop} {n T : Nat} {st sd fa : Int32} {lc de le pl nn nw sm : Int32} {a1 a2 a3 a4 a5 a6 a7 a8 a9 a10 a11 a12 a13 a14 a15 a16 : Nat → Int32} {i m nx : Nat} {b f : Nat → Nat} {d : Nat → Bool} (P : cv_P n T st sd fa a4 a5 a6 a7) (U : cv_U n T st fa nx b f d a8 a9 a10 a11 a12 a13) (I : cv_I n nx b f d) (hn : n ≤ 7)
    (hm5 : 5 ≤ m) (hm : m < 10) (hi : i < n) (p0 : (∃ k, cv_A nx d k ∧ k < m) → post 0) (p1 : (∀ k, cv_A nx d k → k < m → ∀ v, v < 4 → cv_wr m v ∨ cv_rd m v → cv_wr k v → i < f k) → post 1) :
    ∀ (fu o : Nat), o ≤ 4 → 4 < o + fu → (∀ q, q < o → ∀ k, cv_A nx d k → cv_uo k = q → k < m → ∀ v, v < 4 → cv_wr m v ∨ cv_rd m v → cv_wr k v → i < f k) → wX_mayBegin_10 post (nI i) (nI m) lc de le pl nn nw sm a1 a2 a3 a4 a5 a6 a7 a8 a9 a10 a11 a12 a13 a14 a15 a16 fu (nI o) := by
  intro fu
  induction fu with
  | zero =>
    intro o ho hf
    omega
  | succ fu ih =>
    intro o ho hf q
    refine pk_le 4 o (fun z => p1 (fun k hk => q (cv_uo k) (by have := cv_uo_lt k; omega) k hk rfl)) (fun z => ?_)
    have co : (nI o).toNatClampNeg = o := nI_clamp (by omega)
    have nxt : (∀ k, cv_A nx d k → cv_uo k = o → k < m → ∀ v, v < 4 → cv_wr m v ∨ cv_rd m v → cv_wr k v → i < f k) → wX_mayBegin_10 post (nI i) (nI m) lc de le pl nn nw sm a1 a2 a3 a4 a5 a6 a7 a8 a9 a10 a11 a12 a13 a14 a15 a16 fu (nI (o + 1)) := fun g => ih (o + 1) (by omega) (by omega) (lt_s q g)
    rw [co]
    refine ⟨pk_in o 4 z, ?_⟩
    rcases U.1 o z with e | ⟨j, hj, e⟩
    · refine br_t e (nm_r (nI_1 o) (nxt (fun k hk ek => ?_)))
      have u := (U.2 k hk).1
      rw [ek, e] at u
      exact absurd u (by decide)
    · subst e
      have j2 := hj.2.1
      have i1 := I.1
      have fj := I.2.1 j
      obtain ⟨u8, u9, u10, u12, u13, _⟩ := U.2 j hj
      refine br_f (by rw [u8]; decide) ⟨pk_in (cv_uo j) 4 z, ?_⟩
      refine pk_le m j (fun y => nm_r (nI_1 _) (nxt (fun k hk ek hkm => ?_))) (fun y => ⟨pk_in (cv_uo j) 4 z, pk_lt i n (fun _ => ⟨5, ?_⟩) (fun x => absurd hi (by omega)) rfl u10⟩) rfl u9
      · have kj := cv_inj U i1 hj hk ek
        omega
      · refine cv_m54 P hm5 hm hj.1 (by omega) z (by omega) u9 u13 (by omega) (p0 ⟨j, hj, y⟩) (fun g => nxt (fun k hk ek _ => ?_)) 5 0 (by omega) (by omega) (fun w hw => absurd hw (by omega))
        have kj := cv_inj U i1 hj hk ek
        rw [kj]
        exact g
/-- mayBegin for instruction j: 0 only if an older one is at work; 1 only if what it needs is finished -/
theorem cv_may {post : Int32 → Prop} {n T : Nat} {st sd fa : Int32} {lc de le pl nn nw sm : Int32} {a1 a2 a3 a4 a5 a6 a7 a8 a9 a10 a11 a12 a13 a14 a15 a16 : Nat → Int32} {i j nx : Nat} {b f : Nat → Nat} {d : Nat → Bool} (P : cv_P n T st sd fa a4 a5 a6 a7) (U : cv_U n T st fa nx b f d a8 a9 a10 a11 a12 a13) (I : cv_I n nx b f d) (hn : n ≤ 7)
    (hj : cv_A nx d j) (hi : i < n) (p0 : (∃ k, cv_A nx d k ∧ k < j) → post 0) (p1 : (j = 6 → i < f 5) → (j = 7 → i < f 6) → (j = 8 → i < f 7) → (j = 9 → i < f 7) → post 1) :
    wpX_mayBegin post (lc, de, le, pl, nn, nw, sm, a1, a2, a3, a4, a5, a6, a7, a8, a9, a10, a11, a12, a13, a14, a15, a16) (nI (cv_uo j)) (nI i) := by
  have ul := cv_uo_lt j
  have cu : (nI (cv_uo j)).toNatClampNeg = cv_uo j := nI_clamp (by omega)
  have i1 := I.1
  have i7 := I.2.2.2.2.2.2.1
  have j1 := hj.1
  have j2 := hj.2.1
  have u9 := (U.2 j hj).2.1
  unfold wpX_mayBegin
  try dsimp only
  rw [cu, u9]
  refine ⟨pk_in (cv_uo j) 4 ul, nm_e ⟨5, cv_m10 P U I hn j1 (by omega) hi p0 (fun g => ?_) 5 0 (by omega) (by omega) (fun q hq => absurd hq (by omega))⟩⟩
  have key : ∀ k v, 5 ≤ k → k < j → v < 4 → cv_wr j v ∨ cv_rd j v → cv_wr k v → i < f k := by
    intro k v k5 kj hv r w
    cases e : d k with
    | false => exact g k ⟨k5, by omega, e⟩ kj v hv r w
    | true =>
      rw [(i7 k e).1]
      exact hi
  refine p1 (fun e => ?_) (fun e => ?_) (fun e => ?_) (fun e => ?_)
  · subst e
    exact key 5 0 (by decide) (by decide) (by decide) (Or.inr (Or.inr (Or.inr ⟨by decide, by decide, by decide, by decide, by decide⟩))) ⟨by decide, by decide, by decide⟩
  · subst e
    exact key 6 1 (by decide) (by decide) (by decide) (Or.inr (Or.inl ⟨by decide, Or.inr (by decide)⟩)) ⟨by decide, by decide, by decide⟩
  · subst e
    exact key 7 0 (by decide) (by decide) (by decide) (Or.inr (Or.inr (Or.inl ⟨by decide, by decide, by decide⟩))) ⟨by decide, by decide, by decide⟩
  · subst e
    exact key 7 0 (by decide) (by decide) (by decide) (Or.inr (Or.inr (Or.inr ⟨by decide, by decide, by decide, by decide, by decide⟩))) ⟨by decide, by decide, by decide⟩
end
section
/-! beginElements, beginInOrder -/
/-- what beginning does to the counts -/
def cv_G (dl nx t : Nat) (d : Nat → Bool) (b : Nat → Nat) (ra : Nat → Nat → Nat) (b' : Nat → Nat) (ra' : Nat → Nat → Nat) : Prop :=
  ∀ k, b k ≤ b' k ∧ (¬ cv_A nx d k → b' k = b k) ∧ (∀ i, i < b k → ra' k i = ra k i) ∧ (∀ i, b k ≤ i → i < b' k → ra' k i = t + dl)
theorem cv_Gr {dl nx t : Nat} {d : Nat → Bool} {b : Nat → Nat} {ra : Nat → Nat → Nat} : cv_G dl nx t d b ra b ra :=
  fun k => ⟨Nat.le_refl _, fun _ => rfl, fun _ _ => rfl, fun i h1 h2 => absurd h2 (by omega)⟩
theorem cv_Gt {dl nx t : Nat} {d : Nat → Bool} {b b' b'' : Nat → Nat} {ra ra' ra'' : Nat → Nat → Nat} (G : cv_G dl nx t d b ra b' ra') (G' : cv_G dl nx t d b' ra' b'' ra'') : cv_G dl nx t d b ra b'' ra'' := by
  intro k
  obtain ⟨g1, g2, g3, g4⟩ := G k
  obtain ⟨k1, k2, k3, k4⟩ := G' k
  refine ⟨Nat.le_trans g1 k1, fun z => by rw [k2 z, g2 z], fun i hi => by rw [k3 i (by omega), g3 i hi], fun i h1 h2 => ?_⟩
  rcases Nat.lt_or_ge i (b' k) with z | z
  · rw [k3 i z, g4 i h1 z]
  · exact k4 i z h2
theorem cv_Gs {dl nx t : Nat} {d : Nat → Bool} {b b' : Nat → Nat} {ra ra' : Nat → Nat → Nat} {j : Nat} (G : cv_G dl nx t d b ra b' ra') (hj : cv_A nx d j) : cv_G dl nx t d b ra (cv_u b' j (b' j + 1)) (cv_ra ra' j (b' j) (t + dl)) := by
  refine cv_Gt G (fun k => ⟨cv_mono (Nat.le_succ _) k, fun z => cv_un (fun e => z (by rw [e]; exact hj)), fun i hi => ?_, fun i h1 h2 => ?_⟩)
  · rw [cv_ra, if_neg]
    intro e
    have e1 := e.1
    have e2 := e.2
    subst e1
    omega
  · by_cases e : k = j
    · subst e
      rw [cv_us] at h2
      rw [cv_ra, if_pos ⟨rfl, by omega⟩]
    · rw [cv_un e] at h2
      omega
/-- the loop over the lanes -/
theorem cv_b2 {post : St2 → Prop} {n ln dl T : Nat} {st sd fa : Int32} {C L : Nat → Int32} {nx t : Nat} {b0 f : Nat → Nat} {d : Nat → Bool} {ra0 : Nat → Nat → Nat} {j : Nat}
    (hE : cv_E n ln dl T st sd C L) (hj : cv_A nx d j)
    (H : ∀ (b : Nat → Nat) (ra : Nat → Nat → Nat) (lc de le pl nn nw sm : Int32) (a1 a2 a3 a4 a5 a6 a7 a8 a9 a10 a11 a12 a13 a14 a15 a16 : Nat → Int32), cv_R n ln dl T st sd fa C L nx t b f d ra lc de le pl nn nw sm a1 a2 a3 a4 a5 a6 a7 a8 a9 a10 a11 a12 a13 a14 a15 a16 → cv_G dl nx t d b0 ra0 b ra → (b j = b0 j → b0 j = n ∨ ∃ k, cv_A nx d k ∧ k < j) → post (lc, de, le, pl, nn, nw, sm, a1, a2, a3, a4, a5, a6, a7, a8, a9, a10, a11, a12, a13, a14, a15, a16)) :
    ∀ (fu x : Nat) (b : Nat → Nat) (ra : Nat → Nat → Nat) (lc de le pl nn nw sm : Int32) (a1 a2 a3 a4 a5 a6 a7 a8 a9 a10 a11 a12 a13 a14 a15 a16 : Nat → Int32), cv_R n ln dl T st sd fa C L nx t b f d ra lc de le pl nn nw sm a1 a2 a3 a4 a5 a6 a7 a8 a9 a10 a11 a12 a13 a14 a15 a16 → cv_G dl nx t d b0 ra0 b ra → x ≤ ln → ln < x + fu → (b j = b0 j → x = 0) →
      wX_beginElements_2 post (nI (cv_uo j)) fu (nI x) lc de le pl nn nw sm a1 a2 a3 a4 a5 a6 a7 a8 a9 a10 a11 a12 a13 a14 a15 a16 := by
  intro fu
  induction fu with
  | zero =>
    intro x b ra lc de le pl nn nw sm a1 a2 a3 a4 a5 a6 a7 a8 a9 a10 a11 a12 a13 a14 a15 a16 R G hx hf
    omega
  | succ fu ih =>
    intro x b ra lc de le pl nn nw sm a1 a2 a3 a4 a5 a6 a7 a8 a9 a10 a11 a12 a13 a14 a15 a16 R G hx hf h3
    have hn := hE.1
    have hl := hE.2.1
    have hl4 := hE.2.2.1
    have R0 := R
    obtain ⟨⟨rfl, rfl, rfl, rfl, rfl⟩, P, hs, V, Z, W, U, B, I⟩ := R
    have i1 := I.1
    have fj := I.2.1 j
    have gj := (G j).1
    obtain ⟨u8, u9, u10, u12, u13, _⟩ := U.2 j hj
    have ul := cv_uo_lt j
    have cu : (nI (cv_uo j)).toNatClampNeg = cv_uo j := nI_clamp (by omega)
    have cs : (nI (16 * cv_uo j + b j)).toNatClampNeg = 16 * cv_uo j + b j := nI_clamp (by omega)
    refine pk_le ln x (fun z => H b ra _ _ _ _ _ _ _ _ _ _ _ _ _ _ _ _ _ _ _ _ _ _ _ R0 G (fun e => ?_)) (fun z => ?_)
    · have := h3 e
      omega
    rw [cu, u12, u10]
    refine ⟨pk_in (cv_uo j) 4 ul, nm_e ⟨pk_in (cv_uo j) 4 ul, pk_le n (b j) (fun z => H b ra _ _ _ _ _ _ _ _ _ _ _ _ _ _ _ _ _ _ _ _ _ _ _ R0 G (fun e => Or.inl (by omega))) (fun z => ?_)⟩⟩
    refine cv_may P U I hn hj z (fun ex => br_t rfl (H b ra _ _ _ _ _ _ _ _ _ _ _ _ _ _ _ _ _ _ _ _ _ _ _ R0 G (fun _ => Or.inr ex))) (fun g6 g7 g8 g9 => br_f (by decide) (nm_r (cv_ix _ _) ?_))
    refine cv_comp hE P V W U I hj z g6 g7 g8 g9 (fun a15' e1 e2 => ?_)
    have go := ih (x + 1) (cv_u b j (b j + 1)) (cv_ra ra j (b j) (t + dl)) (nI ln) (nI dl) le (nI 10) (nI nx) (nI t) sm a1 a2 a3 a4 a5 a6 a7 a8 a9 a10 a11 (upd a12 (cv_uo j) (nI (b j + 1))) a13
      (upd a14 (16 * cv_uo j + b j) (cv_val L fa j (b j))) a15' (upd a16 (16 * cv_uo j + b j) (nI (t + dl)))
      ⟨⟨rfl, rfl, rfl, rfl, rfl⟩, P, hs, V, Z, W, cv_Ub U i1 hj, cv_Bb U i1 (fun k => by have := (I.2.1 k).2; omega) (by omega) hj B e1 e2, cv_Ib I hj z g6 g7 g8 g9⟩ (cv_Gs G hj) (by omega) (by omega)
      (fun e => by rw [cv_us] at e; omega)
    dsimp only
    rw [cs, u12, cv_b8 (by omega), nI_add t dl]
    exact ⟨pk_in (16 * cv_uo j + b j) 64 (by omega), nm_e ⟨pk_in (16 * cv_uo j + b j) 64 (by omega), nm_e ⟨pk_in (cv_uo j) 4 ul, pk_in (cv_uo j) 4 ul, nm_e (nm_r (nI_1 x) go)⟩⟩⟩
theorem cv_be {post : St2 → Prop} {n ln dl T : Nat} {st sd fa : Int32} {C L : Nat → Int32} {lc de le pl nn nw sm : Int32} {a1 a2 a3 a4 a5 a6 a7 a8 a9 a10 a11 a12 a13 a14 a15 a16 : Nat → Int32} {nx t : Nat} {b f : Nat → Nat} {d : Nat → Bool} {ra : Nat → Nat → Nat} {j : Nat}
    (hE : cv_E n ln dl T st sd C L) (R : cv_R n ln dl T st sd fa C L nx t b f d ra lc de le pl nn nw sm a1 a2 a3 a4 a5 a6 a7 a8 a9 a10 a11 a12 a13 a14 a15 a16) (hj : cv_A nx d j)
    (H : ∀ (b' : Nat → Nat) (ra' : Nat → Nat → Nat) (lc de le pl nn nw sm : Int32) (a1 a2 a3 a4 a5 a6 a7 a8 a9 a10 a11 a12 a13 a14 a15 a16 : Nat → Int32), cv_R n ln dl T st sd fa C L nx t b' f d ra' lc de le pl nn nw sm a1 a2 a3 a4 a5 a6 a7 a8 a9 a10 a11 a12 a13 a14 a15 a16 → cv_G dl nx t d b ra b' ra' → (b' j = b j → b j = n ∨ ∃ k, cv_A nx d k ∧ k < j) → post (lc, de, le, pl, nn, nw, sm, a1, a2, a3, a4, a5, a6, a7, a8, a9, a10, a11, a12, a13, a14, a15, a16)) :
    wpX_beginElements post (lc, de, le, pl, nn, nw, sm, a1, a2, a3, a4, a5, a6, a7, a8, a9, a10, a11, a12, a13, a14, a15, a16) (nI (cv_uo j)) := by
  unfold wpX_beginElements
  try dsimp only
  exact ⟨ln + 1, cv_b2 hE hj H (ln + 1) 0 b ra _ _ _ _ _ _ _ _ _ _ _ _ _ _ _ _ _ _ _ _ _ _ _ R cv_Gr (by omega) (by omega) (fun _ => rfl)⟩
theorem cv_m1 : ∀ k, k < 10 → (-1 : Int32) < nI k := by decide +kernel
/-- the oldest unit at work behind x1 -/
theorem cv_sel {post : St2 → Prop} {J4 : Int32 → Int32 → Int32 → Int32 → Int32 → Int32 → Int32 → Int32 → Int32 → (Nat → Int32) → (Nat → Int32) → (Nat → Int32) → (Nat → Int32) → (Nat → Int32) → (Nat → Int32) → (Nat → Int32) → (Nat → Int32) → (Nat → Int32) → (Nat → Int32) → (Nat → Int32) → (Nat → Int32) → (Nat → Int32) → (Nat → Int32) → (Nat → Int32) → (Nat → Int32) → Prop} {n ln dl T : Nat} {st sd fa : Int32} {C L : Nat → Int32} {lc de le pl nn nw sm : Int32} {a1 a2 a3 a4 a5 a6 a7 a8 a9 a10 a11 a12 a13 a14 a15 a16 : Nat → Int32} {nx t : Nat} {b f : Nat → Nat} {d : Nat → Bool} {ra : Nat → Nat → Nat} {x1 x2 : Int32}
    (hE : cv_E n ln dl T st sd C L) (R : cv_R n ln dl T st sd fa C L nx t b f d ra lc de le pl nn nw sm a1 a2 a3 a4 a5 a6 a7 a8 a9 a10 a11 a12 a13 a14 a15 a16) (Hn : (∀ k, cv_A nx d k → ¬ x1 < nI k) → post (lc, de, le, pl, nn, nw, sm, a1, a2, a3, a4, a5, a6, a7, a8, a9, a10, a11, a12, a13, a14, a15, a16))
    (Hs : ∀ k, cv_A nx d k → (∀ k', cv_A nx d k' → x1 < nI k' → k ≤ k') → ∀ (b' : Nat → Nat) (ra' : Nat → Nat → Nat) (lc de le pl nn nw sm : Int32) (a1 a2 a3 a4 a5 a6 a7 a8 a9 a10 a11 a12 a13 a14 a15 a16 : Nat → Int32), cv_R n ln dl T st sd fa C L nx t b' f d ra' lc de le pl nn nw sm a1 a2 a3 a4 a5 a6 a7 a8 a9 a10 a11 a12 a13 a14 a15 a16 → cv_G dl nx t d b ra b' ra' →
      (b' k = b k → b k = n ∨ ∃ m, cv_A nx d m ∧ m < k) → J4 (nI k) (x2 + 1) lc de le pl nn nw sm a1 a2 a3 a4 a5 a6 a7 a8 a9 a10 a11 a12 a13 a14 a15 a16) :
    ∀ (fu o : Nat) (x3 : Int32), o ≤ 4 → 4 < o + fu → ((x3 = -1 ∧ ∀ k, cv_A nx d k → cv_uo k < o → ¬ x1 < nI k) ∨ (∃ k, cv_A nx d k ∧ cv_uo k < o ∧ x3 = nI (cv_uo k) ∧ ∀ k', cv_A nx d k' → cv_uo k' < o → x1 < nI k' → k ≤ k')) →
      wX_beginInOrder_14 post J4 x1 x2 lc de le pl nn nw sm a1 a2 a3 a4 a5 a6 a7 a8 a9 a10 a11 a12 a13 a14 a15 a16 fu x3 (nI o) := by
  have U := R.2.2.2.2.2.2.1
  have i1 := R.2.2.2.2.2.2.2.2.1
  intro fu
  induction fu with
  | zero =>
    intro o x3 ho hf
    omega
  | succ fu ih =>
    intro o x3 ho hf q
    refine pk_le 4 o (fun z => ?_) (fun z => ?_)
    · rcases q with ⟨e, g⟩ | ⟨k, hk, hu, e, g⟩
      · subst e
        exact br_f (by decide) (Hn (fun k hk => g k hk (by have := cv_uo_lt k; omega)))
      · subst e
        have ul := cv_uo_lt k
        have cu : (nI (cv_uo k)).toNatClampNeg = cv_uo k := nI_clamp (by omega)
        have u9 := (U.2 k hk).2.1
        rw [cu, u9]
        refine br_t (nI_pos' (by omega)) ⟨pk_in (cv_uo k) 4 ul, nm_e (cv_be hE R hk (fun b' ra' lc de le pl nn nw sm a1 a2 a3 a4 a5 a6 a7 a8 a9 a10 a11 a12 a13 a14 a15 a16 R' G p => ?_))⟩
        dsimp only
        exact nm_e (Hs k hk (fun k' hk' l => g k' hk' (by have := cv_uo_lt k'; omega) l) b' ra' _ _ _ _ _ _ _ _ _ _ _ _ _ _ _ _ _ _ _ _ _ _ _ R' G p)
    · have co : (nI o).toNatClampNeg = o := nI_clamp (by omega)
      rw [co]
      refine ⟨pk_in o 4 z, ?_⟩
      rcases U.1 o z with e | ⟨j, hj, e⟩
      · have no : ∀ k, cv_A nx d k → cv_uo k < o + 1 → cv_uo k < o := by
          intro k hk hu
          rcases Nat.lt_or_ge (cv_uo k) o with y | y
          · exact y
          · have eo : cv_uo k = o := by omega
            have u := (U.2 k hk).1
            rw [eo, e] at u
            exact absurd u (by decide)
        refine br_t e (nm_r (nI_1 o) (ih (o + 1) x3 (by omega) (by omega) ?_))
        rcases q with ⟨e', g⟩ | ⟨k, hk, hu, e', g⟩
        · exact Or.inl ⟨e', fun k hk hu => g k hk (no k hk hu)⟩
        · exact Or.inr ⟨k, hk, by omega, e', fun k' hk' hu' => g k' hk' (no k' hk' hu')⟩
      · subst e
        obtain ⟨u8, u9, _⟩ := U.2 j hj
        have j2 := hj.2.1
        have only : ∀ k, cv_A nx d k → cv_uo k < cv_uo j + 1 → cv_uo k < cv_uo j ∨ k = j := by
          intro k hk hu
          rcases Nat.lt_or_ge (cv_uo k) (cv_uo j) with y | y
          · exact Or.inl y
          · exact Or.inr (cv_inj U i1 hj hk (by omega))
        refine br_f (by rw [u8]; decide) ⟨pk_in (cv_uo j) 4 z, ?_⟩
        rw [u9]
        refine br_c (fun l => ?_) (fun l => nm_r (nI_1 _) (ih (cv_uo j + 1) x3 (by omega) (by omega) ?_))
        · rcases q with ⟨e', g⟩ | ⟨k, hk, hu, e', g⟩
          · subst e'
            refine br_t (by decide) (nm_r (nI_1 _) (ih (cv_uo j + 1) (nI (cv_uo j)) (by omega) (by omega) (Or.inr ⟨j, hj, by omega, rfl, fun k' hk' hu' l' => ?_⟩)))
            rcases only k' hk' hu' with h | h
            · exact absurd l' (g k' hk' h)
            · omega
          · subst e'
            have ck : (nI (cv_uo k)).toNatClampNeg = cv_uo k := nI_clamp (by omega)
            have k9 := (U.2 k hk).2.1
            have k2 := hk.2.1
            rw [ck, k9]
            refine br_f (nI_pos (by omega)) ⟨pk_in (cv_uo j) 4 z, pk_in (cv_uo k) 4 (by omega), pk_le k j (fun y => nm_r (nI_1 _) (ih (cv_uo j + 1) (nI (cv_uo k)) (by omega) (by omega) (Or.inr ⟨k, hk, by omega, rfl, fun k' hk' hu' l' => ?_⟩)))
              (fun y => nm_r (nI_1 _) (ih (cv_uo j + 1) (nI (cv_uo j)) (by omega) (by omega) (Or.inr ⟨j, hj, by omega, rfl, fun k' hk' hu' l' => ?_⟩)))⟩
            · rcases only k' hk' hu' with h | h
              · exact g k' hk' h l'
              · omega
            · rcases only k' hk' hu' with h | h
              · have := g k' hk' h l'
                omega
              · omega
        · rcases q with ⟨e', g⟩ | ⟨k, hk, hu, e', g⟩
          · refine Or.inl ⟨e', fun k hk hu => ?_⟩
            rcases only k hk hu with h | h
            · exact g k hk h
            · rw [h]
              exact l
          · refine Or.inr ⟨k, hk, by omega, e', fun k' hk' hu' l' => ?_⟩
            rcases only k' hk' hu' with h | h
            · exact g k' hk' h l'
            · rw [h] at l'
              exact absurd l' l
/-- the oldest one has begun an element -/
def cv_O (n nx : Nat) (d : Nat → Bool) (b0 b : Nat → Nat) : Prop := ∀ k, cv_A nx d k → (∀ k', cv_A nx d k' → k ≤ k') → b0 k < n → b0 k < b k
theorem cv_o4 {post : St2 → Prop} {n ln dl T : Nat} {st sd fa : Int32} {C L : Nat → Int32} {nx t : Nat} {b0 f : Nat → Nat} {d : Nat → Bool} {ra0 : Nat → Nat → Nat} (hE : cv_E n ln dl T st sd C L)
    (H : ∀ (b : Nat → Nat) (ra : Nat → Nat → Nat) (lc de le pl nn nw sm : Int32) (a1 a2 a3 a4 a5 a6 a7 a8 a9 a10 a11 a12 a13 a14 a15 a16 : Nat → Int32), cv_R n ln dl T st sd fa C L nx t b f d ra lc de le pl nn nw sm a1 a2 a3 a4 a5 a6 a7 a8 a9 a10 a11 a12 a13 a14 a15 a16 → cv_G dl nx t d b0 ra0 b ra → cv_O n nx d b0 b → post (lc, de, le, pl, nn, nw, sm, a1, a2, a3, a4, a5, a6, a7, a8, a9, a10, a11, a12, a13, a14, a15, a16)) :
    ∀ (fu q : Nat) (x1 : Int32) (b : Nat → Nat) (ra : Nat → Nat → Nat) (lc de le pl nn nw sm : Int32) (a1 a2 a3 a4 a5 a6 a7 a8 a9 a10 a11 a12 a13 a14 a15 a16 : Nat → Int32), cv_R n ln dl T st sd fa C L nx t b f d ra lc de le pl nn nw sm a1 a2 a3 a4 a5 a6 a7 a8 a9 a10 a11 a12 a13 a14 a15 a16 → cv_G dl nx t d b0 ra0 b ra → q ≤ 4 → 4 < q + fu → (q = 0 → x1 = -1 ∧ b = b0) → (q ≠ 0 → cv_O n nx d b0 b) →
      wX_beginInOrder_4 post fu x1 (nI q) lc de le pl nn nw sm a1 a2 a3 a4 a5 a6 a7 a8 a9 a10 a11 a12 a13 a14 a15 a16 := by
  intro fu
  induction fu with
  | zero =>
    intro q x1 b ra lc de le pl nn nw sm a1 a2 a3 a4 a5 a6 a7 a8 a9 a10 a11 a12 a13 a14 a15 a16 R G hq hf
    omega
  | succ fu ih =>
    intro q x1 b ra lc de le pl nn nw sm a1 a2 a3 a4 a5 a6 a7 a8 a9 a10 a11 a12 a13 a14 a15 a16 R G hq hf h0 hp
    have i1 := R.2.2.2.2.2.2.2.2.1
    refine pk_le 4 q (fun z => H b ra _ _ _ _ _ _ _ _ _ _ _ _ _ _ _ _ _ _ _ _ _ _ _ R G (hp (by omega))) (fun z => ⟨5, ?_⟩)
    refine cv_sel hE R (fun g => H b ra _ _ _ _ _ _ _ _ _ _ _ _ _ _ _ _ _ _ _ _ _ _ _ R G ?_) (fun k hk mn b' ra' lc de le pl nn nw sm a1 a2 a3 a4 a5 a6 a7 a8 a9 a10 a11 a12 a13 a14 a15 a16 R' G' p => ?_) 5 0 (-1) (by omega) (by omega) (Or.inl ⟨rfl, fun k _ h => absurd h (by omega)⟩)
    · by_cases e : q = 0
      · intro k hk
        have k2 := hk.2.1
        have g' := g k hk
        rw [(h0 e).1] at g'
        exact absurd (cv_m1 k (by omega)) g'
      · exact hp e
    · rw [nI_1]
      refine ih (q + 1) (nI k) b' ra' _ _ _ _ _ _ _ _ _ _ _ _ _ _ _ _ _ _ _ _ _ _ _ R' (cv_Gt G G') (by omega) (by omega) (fun z => absurd z (by omega)) (fun _ => ?_)
      intro m hm old hb
      have gm := (G' m).1
      by_cases e : q = 0
      · obtain ⟨ex, eb⟩ := h0 e
        have m2 := hm.2.1
        have km : k ≤ m := mn m hm (by rw [ex]; exact cv_m1 m (by omega))
        have mk := old k hk
        have e2 : k = m := by omega
        subst e2
        subst eb
        rcases Nat.lt_or_ge (b k) (b' k) with y | y
        · exact y
        · rcases p (by omega) with w | ⟨m', hm', lm⟩
          · omega
          · have := old m' hm'
            omega
      · have := hp e m hm old hb
        omega
theorem cv_bio {post : St2 → Prop} {n ln dl T : Nat} {st sd fa : Int32} {C L : Nat → Int32} {lc de le pl nn nw sm : Int32} {a1 a2 a3 a4 a5 a6 a7 a8 a9 a10 a11 a12 a13 a14 a15 a16 : Nat → Int32} {nx t : Nat} {b f : Nat → Nat} {d : Nat → Bool} {ra : Nat → Nat → Nat} (hE : cv_E n ln dl T st sd C L) (R : cv_R n ln dl T st sd fa C L nx t b f d ra lc de le pl nn nw sm a1 a2 a3 a4 a5 a6 a7 a8 a9 a10 a11 a12 a13 a14 a15 a16)
    (H : ∀ (b' : Nat → Nat) (ra' : Nat → Nat → Nat) (lc de le pl nn nw sm : Int32) (a1 a2 a3 a4 a5 a6 a7 a8 a9 a10 a11 a12 a13 a14 a15 a16 : Nat → Int32), cv_R n ln dl T st sd fa C L nx t b' f d ra' lc de le pl nn nw sm a1 a2 a3 a4 a5 a6 a7 a8 a9 a10 a11 a12 a13 a14 a15 a16 → cv_G dl nx t d b ra b' ra' → cv_O n nx d b b' → post (lc, de, le, pl, nn, nw, sm, a1, a2, a3, a4, a5, a6, a7, a8, a9, a10, a11, a12, a13, a14, a15, a16)) :
    wpX_beginInOrder post (lc, de, le, pl, nn, nw, sm, a1, a2, a3, a4, a5, a6, a7, a8, a9, a10, a11, a12, a13, a14, a15, a16) := by
  unfold wpX_beginInOrder
  try dsimp only
  exact ⟨5, cv_o4 hE H 5 0 (-1) b ra _ _ _ _ _ _ _ _ _ _ _ _ _ _ _ _ _ _ _ _ _ _ _ R cv_Gr (by omega) (by omega) (fun _ => ⟨rfl, rfl⟩) (fun z => absurd rfl z)⟩
end
section
/-! issue -/
theorem cv_wait {post : Int32 → Prop} {lc de le pl nn nw sm : Int32} {a1 a2 a3 a4 a5 a6 a7 a8 a9 a10 a11 a12 a13 a14 a15 a16 : Nat → Int32} {p : Int32} (e : a8 3 = 0) (H : post 0) : wpX_waitsForScalar post (lc, de, le, pl, nn, nw, sm, a1, a2, a3, a4, a5, a6, a7, a8, a9, a10, a11, a12, a13, a14, a15, a16) p := by
  unfold wpX_waitsForScalar
  try dsimp only
  exact br_t e H
theorem cv_unit {post : Int32 → Prop} {lc de le pl nn nw sm : Int32} {a1 a2 a3 a4 a5 a6 a7 a8 a9 a10 a11 a12 a13 a14 a15 a16 : Nat → Int32} {k : Nat} (h5 : 5 ≤ k) (h : k < 10) (H : post (nI (cv_uo k))) : wpX_unitFor post (lc, de, le, pl, nn, nw, sm, a1, a2, a3, a4, a5, a6, a7, a8, a9, a10, a11, a12, a13, a14, a15, a16) (nI (cv_op k)) := by
  unfold wpX_unitFor
  try dsimp only
  have c : k = 5 ∨ k = 6 ∨ k = 7 ∨ k = 8 ∨ k = 9 := by omega
  rcases c with e | e | e | e | e <;> subst e
  · exact br_f (by decide) (br_f (by decide) (br_t (by decide) (br_f (by decide) H)))
  · exact br_f (by decide) (br_t (by decide) H)
  · exact br_f (by decide) (br_f (by decide) (br_f (by decide) H))
  · exact br_f (by decide) (br_f (by decide) (br_t (by decide) (br_f (by decide) H)))
  · exact br_f (by decide) (br_f (by decide) (br_t (by decide) (br_t (by decide) H)))
theorem cv_sw10 {post : St2 → Prop} {lc de le pl nn nw sm : Int32} {a1 a2 a3 a4 a5 a6 a7 a8 a9 a10 a11 a12 a13 a14 a15 a16 : Nat → Int32} {k x : Nat} (hk : k < 10) (e4 : a4 k = nI 10) (e5 : a5 k = nI x) (hx : x < 4) (H : post (lc, de, le, pl, nn, nw, sm, a1, upd a2 x (a6 k), a3, a4, a5, a6, a7, a8, a9, a10, a11, a12, a13, a14, a15, a16)) : wpX_scalarWork post (lc, de, le, pl, nn, nw, sm, a1, a2, a3, a4, a5, a6, a7, a8, a9, a10, a11, a12, a13, a14, a15, a16) (nI k) := by
  have ck : (nI k).toNatClampNeg = k := nI_clamp (by omega)
  have cx : (nI x).toNatClampNeg = x := nI_clamp (by omega)
  unfold wpX_scalarWork
  try dsimp only
  rw [ck, e4, e5]
  refine ⟨pk_in k 16 (by omega), nm_e ⟨pk_in k 16 (by omega), nm_e (br_t rfl ⟨pk_in k 16 (by omega), pk_in x 4 hx, ?_⟩)⟩⟩
  rw [cx]
  exact nm_e H
theorem cv_sw12 {post : St2 → Prop} {lc de le pl nn nw sm : Int32} {a1 a2 a3 a4 a5 a6 a7 a8 a9 a10 a11 a12 a13 a14 a15 a16 : Nat → Int32} {k x m : Nat} (hk : k < 10) (e4 : a4 k = nI 12) (e5 : a5 k = nI x) (hx : x < 4) (e2 : a2 x = nI m) (hm : m ≤ 16) (H : post (lc, de, nI m, pl, nn, nw, sm, a1, a2, a3, a4, a5, a6, a7, a8, a9, a10, a11, a12, a13, a14, a15, a16)) : wpX_scalarWork post (lc, de, le, pl, nn, nw, sm, a1, a2, a3, a4, a5, a6, a7, a8, a9, a10, a11, a12, a13, a14, a15, a16) (nI k) := by
  have ck : (nI k).toNatClampNeg = k := nI_clamp (by omega)
  have cx : (nI x).toNatClampNeg = x := nI_clamp (by omega)
  unfold wpX_scalarWork
  try dsimp only
  rw [ck, e4, e5]
  refine ⟨pk_in k 16 (by omega), nm_e ⟨pk_in k 16 (by omega), nm_e (br_f (by decide) (br_f (by decide) ⟨pk_in x 4 hx, ?_⟩))⟩⟩
  rw [cx, e2]
  exact nm_e (br_t (nI_pos' (by omega)) (pk_le m 16 (fun _ => H) (fun z => absurd z (by omega))))
theorem cv_t5 {post : St2 → Prop} {lc de le pl nn nw sm : Int32} {a1 a2 a3 a4 a5 a6 a7 a8 a9 a10 a11 a12 a13 a14 a15 a16 : Nat → Int32} (e6 : a6 5 = nI 0) (H : post (lc, de, le, pl, nI 6, nw, sm, a1, a2, a3, a4, a5, a6, a7, a8, a9, a10, upd a11 2 (a2 0), a12, a13, a14, a15, a16)) : wX_issue_148 post (nI 6) (nI 2) lc de le pl (nI 5) nw sm a1 a2 a3 a4 a5 a6 a7 a8 a9 a10 a11 a12 a13 a14 a15 a16 := by
  have c0 : (nI 0).toNatClampNeg = 0 := nI_clamp (by decide)
  have c2 : (nI 2).toNatClampNeg = 2 := nI_clamp (by decide)
  have c5 : (nI 5).toNatClampNeg = 5 := nI_clamp (by decide)
  unfold wX_issue_148
  refine br_t rfl ?_
  unfold wX_issue_160
  rw [c5, e6, c0, c2]
  exact ⟨pk_in 5 16 (by decide), pk_in 0 4 (by decide), pk_in 2 4 (by decide), nm_e (br_f (by decide) (nm_r (nI_1 5) H))⟩
theorem cv_t6 {post : St2 → Prop} {lc de le pl nn nw sm : Int32} {a1 a2 a3 a4 a5 a6 a7 a8 a9 a10 a11 a12 a13 a14 a15 a16 : Nat → Int32} (e7 : a7 6 = nI 2) (H : post (lc, de, le, pl, nI 7, nw, sm, a1, a2, a3, a4, a5, a6, a7, a8, a9, a10, upd a11 1 (a2 2), a12, a13, a14, a15, a16)) : wX_issue_128 post (nI 5) (nI 1) lc de le pl (nI 6) nw sm a1 a2 a3 a4 a5 a6 a7 a8 a9 a10 a11 a12 a13 a14 a15 a16 := by
  have c1 : (nI 1).toNatClampNeg = 1 := nI_clamp (by decide)
  have c2 : (nI 2).toNatClampNeg = 2 := nI_clamp (by decide)
  have c6 : (nI 6).toNatClampNeg = 6 := nI_clamp (by decide)
  unfold wX_issue_128
  rw [c6, e7, c2, c1]
  refine ⟨pk_in 6 16 (by decide), pk_in 2 4 (by decide), pk_in 1 4 (by decide), nm_e ?_⟩
  unfold wX_issue_148
  exact br_f (by decide) (br_f (by decide) (br_f (by decide) (nm_r (nI_1 6) H)))
theorem cv_t7 {post : St2 → Prop} {lc de le pl nn nw sm : Int32} {a1 a2 a3 a4 a5 a6 a7 a8 a9 a10 a11 a12 a13 a14 a15 a16 : Nat → Int32} (H : post (lc, de, le, pl, nI 8, nw, sm, a1, a2, a3, a4, a5, a6, a7, a8, a9, a10, a11, a12, a13, a14, a15, a16)) : wX_issue_148 post (nI 0) (nI 0) lc de le pl (nI 7) nw sm a1 a2 a3 a4 a5 a6 a7 a8 a9 a10 a11 a12 a13 a14 a15 a16 := by
  unfold wX_issue_148
  exact br_f (by decide) (br_f (by decide) (br_f (by decide) (nm_r (nI_1 7) H)))
theorem cv_t8 {post : St2 → Prop} {lc de le pl nn nw sm : Int32} {a1 a2 a3 a4 a5 a6 a7 a8 a9 a10 a11 a12 a13 a14 a15 a16 : Nat → Int32} (e6 : a6 8 = nI 3) (H : post (lc, de, le, pl, nI 9, nw, sm, a1, a2, a3, a4, a5, a6, a7, a8, a9, a10, upd a11 2 (a2 3), a12, a13, a14, a15, a16)) : wX_issue_148 post (nI 7) (nI 2) lc de le pl (nI 8) nw sm a1 a2 a3 a4 a5 a6 a7 a8 a9 a10 a11 a12 a13 a14 a15 a16 := by
  have c3 : (nI 3).toNatClampNeg = 3 := nI_clamp (by decide)
  have c2 : (nI 2).toNatClampNeg = 2 := nI_clamp (by decide)
  have c8 : (nI 8).toNatClampNeg = 8 := nI_clamp (by decide)
  unfold wX_issue_148
  refine br_f (by decide) (br_t rfl ?_)
  unfold wX_issue_160
  rw [c8, e6, c3, c2]
  exact ⟨pk_in 8 16 (by decide), pk_in 3 4 (by decide), pk_in 2 4 (by decide), nm_e (br_f (by decide) (nm_r (nI_1 8) H))⟩
theorem cv_t9 {post : St2 → Prop} {lc de le pl nn nw sm : Int32} {a1 a2 a3 a4 a5 a6 a7 a8 a9 a10 a11 a12 a13 a14 a15 a16 : Nat → Int32} (H : post (lc, de, le, pl, nI 10, nw, 0, a1, a2, a3, a4, a5, a6, a7, a8, a9, a10, a11, a12, a13, a14, a15, a16)) : wX_issue_148 post (nI 9) (nI 3) lc de le pl (nI 9) nw sm a1 a2 a3 a4 a5 a6 a7 a8 a9 a10 a11 a12 a13 a14 a15 a16 := by
  unfold wX_issue_148
  exact br_f (by decide) (br_f (by decide) (br_t rfl (nm_r (nI_1 9) H)))
theorem cv_Ai {nx k : Nat} {d : Nat → Bool} (h : cv_A (nx + 1) d k) : k = nx ∨ cv_A nx d k := by
  obtain ⟨h1, h2, h3⟩ := h
  rcases Nat.lt_or_ge k nx with z | z
  · exact Or.inr ⟨h1, z, h3⟩
  · exact Or.inl (by omega)
theorem cv_Ui {n T : Nat} {st fa : Int32} {nx : Nat} {b f : Nat → Nat} {d : Nat → Bool} {a8 a9 a10 a11 a11' a12 a13 : Nat → Int32} (U : cv_U n T st fa nx b f d a8 a9 a10 a11 a12 a13) (h5 : 5 ≤ nx)
    (e0 : a8 (cv_uo nx) = 0) (hd : d nx = false) (hb : b nx = 0) (hf : f nx = 0) (c11 : ∀ o, o ≠ cv_uo nx → a11' o = a11 o) (s5 : nx = 5 → a11' 2 = st) (s6 : nx = 6 → a11' 1 = fa) (s8 : nx = 8 → a11' 2 = nI T) :
    cv_U n T st fa (nx + 1) b f d (upd a8 (cv_uo nx) 1) (upd a9 (cv_uo nx) (nI nx)) (upd a10 (cv_uo nx) (nI n)) a11' (upd a12 (cv_uo nx) (nI 0)) (upd a13 (cv_uo nx) (nI 0)) := by
  refine ⟨fun o ho => ?_, fun k hk => ?_⟩
  · by_cases e : o = cv_uo nx
    · exact Or.inr ⟨nx, ⟨h5, by omega, hd⟩, e.symm⟩
    · rw [pk_un e]
      rcases U.1 o ho with z | ⟨k, hk, ek⟩
      · exact Or.inl z
      · exact Or.inr ⟨k, ⟨hk.1, by have := hk.2.1; omega, hk.2.2⟩, ek⟩
  · rcases cv_Ai hk with e | hk'
    · subst e
      rw [pk_us, pk_us, pk_us, pk_us, pk_us, hb, hf]
      exact ⟨rfl, rfl, rfl, rfl, rfl, s5, s6, s8⟩
    · obtain ⟨u1, u2, u3, u4, u5, u6, u7, u8⟩ := U.2 k hk'
      have ne : cv_uo k ≠ cv_uo nx := by
        intro z
        rw [z, e0] at u1
        exact absurd u1 (by decide)
      rw [pk_un ne, pk_un ne, pk_un ne, pk_un ne, pk_un ne]
      refine ⟨u1, u2, u3, u4, u5, fun e => ?_, fun e => ?_, fun e => ?_⟩
      · rw [c11 2 (by rw [e] at ne; exact ne)]
        exact u6 e
      · rw [c11 1 (by rw [e] at ne; exact ne)]
        exact u7 e
      · rw [c11 2 (by rw [e] at ne; exact ne)]
        exact u8 e
theorem cv_Bi {T : Nat} {fa : Int32} {L : Nat → Int32} {nx : Nat} {b f : Nat → Nat} {d : Nat → Bool} {ra : Nat → Nat → Nat} {a14 a15 a16 : Nat → Int32}
    (B : cv_B T fa L nx b f d ra a14 a15 a16) (hb : b nx = 0) : cv_B T fa L (nx + 1) b f d ra a14 a15 a16 := by
  intro k hk i h1 h2
  rcases cv_Ai hk with e | hk'
  · rw [e, hb] at h2
    omega
  · exact B k hk' i h1 h2
theorem cv_Ii {n nx : Nat} {b f : Nat → Nat} {d : Nat → Bool} (I : cv_I n nx b f d) (hn : nx < 10) (h8 : nx = 8 → d 5 = true) : cv_I n (nx + 1) b f d := by
  obtain ⟨i1, i2, i3, i4, i5, i6, i7, i8, i9⟩ := I
  refine ⟨by omega, i2, i3, i4, i5, i6, fun k hk => ⟨(i7 k hk).1, by have := (i7 k hk).2; omega⟩, fun k hk => i8 k (by omega), fun z => ?_⟩
  rcases Nat.lt_or_ge 8 nx with y | y
  · exact i9 y
  · exact h8 (by omega)
theorem cv_Us {n T : Nat} {st fa : Int32} {nx : Nat} {b f : Nat → Nat} {d : Nat → Bool} {a8 a9 a10 a11 a12 a13 : Nat → Int32} (U : cv_U n T st fa nx b f d a8 a9 a10 a11 a12 a13) (h5 : nx < 5) :
    cv_U n T st fa (nx + 1) b f d a8 a9 a10 a11 a12 a13 := by
  refine ⟨fun o ho => ?_, fun k hk => absurd hk.1 (by have := hk.2.1; omega)⟩
  rcases U.1 o ho with z | ⟨k, hk, ek⟩
  · exact Or.inl z
  · have k1 := hk.1
    have k2 := hk.2.1
    omega
theorem cv_Zi {n T : Nat} {st fa : Int32} {L : Nat → Int32} {nx : Nat} {d : Nat → Bool} {le : Int32} {a2 : Nat → Int32} (Z : cv_Z n T st fa L nx d le a2) (h : 5 ≤ nx) : cv_Z n T st fa L (nx + 1) d le a2 := by
  obtain ⟨z1, z2, z3, z4, z5, z6⟩ := Z
  exact ⟨fun _ => z1 (by omega), fun _ => z2 (by omega), fun _ => z3 (by omega), fun _ => z4 (by omega), z5, fun _ => z6 (by omega)⟩
theorem cv_iss {post : St2 → Prop} {n ln dl T : Nat} {st sd fa : Int32} {C L : Nat → Int32} {lc de le pl nn nw sm : Int32} {a1 a2 a3 a4 a5 a6 a7 a8 a9 a10 a11 a12 a13 a14 a15 a16 : Nat → Int32} {nx t : Nat} {b f : Nat → Nat} {d : Nat → Bool} {ra : Nat → Nat → Nat} (hE : cv_E n ln dl T st sd C L) (R : cv_R n ln dl T st sd fa C L nx t b f d ra lc de le pl nn nw sm a1 a2 a3 a4 a5 a6 a7 a8 a9 a10 a11 a12 a13 a14 a15 a16)
    (H : ∀ (nx' : Nat) (lc de le pl nn nw sm : Int32) (a1 a2 a3 a4 a5 a6 a7 a8 a9 a10 a11 a12 a13 a14 a15 a16 : Nat → Int32), cv_R n ln dl T st sd fa C L nx' t b f d ra lc de le pl nn nw sm a1 a2 a3 a4 a5 a6 a7 a8 a9 a10 a11 a12 a13 a14 a15 a16 → nx ≤ nx' → nx' ≤ nx + 1 → (nx < 10 → (∀ k, ¬ cv_A nx d k) → nx' = nx + 1) → post (lc, de, le, pl, nn, nw, sm, a1, a2, a3, a4, a5, a6, a7, a8, a9, a10, a11, a12, a13, a14, a15, a16)) :
    wpX_issue post (lc, de, le, pl, nn, nw, sm, a1, a2, a3, a4, a5, a6, a7, a8, a9, a10, a11, a12, a13, a14, a15, a16) := by
  have hn := hE.1
  have R0 := R
  obtain ⟨⟨rfl, rfl, rfl, rfl, rfl⟩, P, hs, V, Z, W, U, B, I⟩ := R
  have i1 := I.1
  have i7 := I.2.2.2.2.2.2.1
  have i8 := I.2.2.2.2.2.2.2.1
  have cn : (nI nx).toNatClampNeg = nx := nI_clamp (by omega)
  unfold wpX_issue
  try dsimp only
  refine pk_lt nx 10 (fun z => ?_) (fun z => H nx _ _ _ _ _ _ _ _ _ _ _ _ _ _ _ _ _ _ _ _ _ _ _ R0 (Nat.le_refl _) (by omega) (fun y => absurd y (by omega)))
  have e83 : a8 3 = 0 := by
    rcases U.1 3 (by decide) with y | ⟨k, hk, ek⟩
    · exact y
    · have k2 := hk.2.1
      rcases cv_five hk i1 with e | e | e | e | e <;> subst e
      · exact absurd ek (by decide)
      · exact absurd ek (by decide)
      · exact absurd ek (by decide)
      · exact absurd ek (by decide)
      · omega
  have d9 : d 9 = false := by
    cases e : d 9 with
    | false => rfl
    | true =>
      have := (i7 9 e).2
      omega
  have dn : d nx = false := by
    cases e : d nx with
    | false => rfl
    | true =>
      have := (i7 nx e).2
      omega
  have bn := i8 nx (Nat.le_refl _)
  have fn : f nx = 0 := by
    have := (I.2.1 nx).1
    omega
  have hs' : nx < 9 → (9 < nx + 1 → sm = cv_Q L fa (f 9)) := fun y x => absurd x (by omega)
  rw [cn, P.1 nx z]
  refine ⟨pk_in nx 16 (by omega), nm_e (cv_wait e83 (br_t rfl ?_))⟩
  rcases Nat.lt_or_ge nx 5 with h5 | h5
  · obtain ⟨z1, z2, z3, z4, z5, z6⟩ := Z
    have mk : ∀ (le' : Int32) (a2' : Nat → Int32), cv_Z n T st fa L (nx + 1) d le' a2' → post (nI ln, nI dl, le', nI 10, nI (nx + 1), nI t, sm, a1, a2', a3, a4, a5, a6, a7, a8, a9, a10, a11, a12, a13, a14, a15, a16) := fun le' a2' Z' =>
      H (nx + 1) _ _ _ _ _ _ _ _ _ _ _ _ _ _ _ _ _ _ _ _ _ _ _ ⟨⟨rfl, rfl, rfl, rfl, rfl⟩, P, hs' (by omega), V, Z', W, cv_Us U h5, cv_Bi B bn, cv_Ii I z (fun e => absurd e (by omega))⟩ (by omega) (by omega) (fun _ _ => rfl)
    have c : nx = 0 ∨ nx = 1 ∨ nx = 2 ∨ nx = 3 ∨ nx = 4 := by omega
    obtain ⟨p4, p5, p6, p7, p75, y0, y1, y3, y4⟩ := P
    rcases c with e | e | e | e | e <;> subst e
    · refine br_f (by decide) (cv_sw10 (x := 0) (by decide) (p4 0 (by decide)) (p5 0 (by decide)) (by decide) ?_)
      exact nm_r (nI_1 0) (mk le (upd a2 0 (a6 0)) ⟨fun _ => by rw [pk_us]; exact y0, fun y => absurd y (by decide), fun y => absurd y (by decide), fun y => absurd y (by decide), fun y => absurd (y.symm.trans d9) (by decide), fun y => absurd y (by decide)⟩)
    · refine br_f (by decide) (cv_sw10 (x := 1) (by decide) (p4 1 (by decide)) (p5 1 (by decide)) (by decide) ?_)
      exact nm_r (nI_1 1) (mk le (upd a2 1 (a6 1)) ⟨fun _ => by rw [pk_un (by decide)]; exact z1 (by decide), fun _ => by rw [pk_us]; exact y1, fun y => absurd y (by decide), fun y => absurd y (by decide), fun y => absurd (y.symm.trans d9) (by decide), fun y => absurd y (by decide)⟩)
    · refine br_f (by decide) (cv_sw12 (x := 1) (by decide) (p4 2 (by decide)) (p5 2 (by decide)) (by decide) (z2 (by decide)) (by omega) ?_)
      exact nm_r (nI_1 2) (mk (nI n) a2 ⟨fun _ => z1 (by decide), fun _ => z2 (by decide), fun _ => rfl, fun y => absurd y (by decide), fun y => absurd (y.symm.trans d9) (by decide), fun y => absurd y (by decide)⟩)
    · refine br_f (by decide) (cv_sw10 (x := 2) (by decide) (p4 3 (by decide)) (p5 3 (by decide)) (by decide) ?_)
      exact nm_r (nI_1 3) (mk le (upd a2 2 (a6 3)) ⟨fun _ => by rw [pk_un (by decide)]; exact z1 (by decide), fun _ => by rw [pk_un (by decide)]; exact z2 (by decide), fun _ => z3 (by decide), fun _ _ => by rw [pk_us]; exact y3, fun y => absurd (y.symm.trans d9) (by decide), fun y => absurd y (by decide)⟩)
    · refine br_f (by decide) (cv_sw10 (x := 3) (by decide) (p4 4 (by decide)) (p5 4 (by decide)) (by decide) ?_)
      exact nm_r (nI_1 4) (mk le (upd a2 3 (a6 4)) ⟨fun _ => by rw [pk_un (by decide)]; exact z1 (by decide), fun _ => by rw [pk_un (by decide)]; exact z2 (by decide), fun _ => z3 (by decide), fun _ y => by rw [pk_un (by decide)]; exact z4 (by decide) y, fun y => absurd (y.symm.trans d9) (by decide), fun _ => by rw [pk_us]; exact y4⟩)
  · have o10 : cv_op nx < 10 := by
      have c : nx = 5 ∨ nx = 6 ∨ nx = 7 ∨ nx = 8 ∨ nx = 9 := by omega
      rcases c with e | e | e | e | e <;> subst e <;> decide
    have ul := cv_uo_lt nx
    have cu : (nI (cv_uo nx)).toNatClampNeg = cv_uo nx := nI_clamp (by omega)
    refine br_t (nI_lt (b := 10) o10 (by decide)) (cv_unit h5 z ?_)
    rw [cu]
    refine ⟨pk_in (cv_uo nx) 4 ul, br_c (fun e0 => ?_) (fun e0 => H nx _ _ _ _ _ _ _ _ _ _ _ _ _ _ _ _ _ _ _ _ _ _ _ R0 (Nat.le_refl _) (by omega) (fun _ none => ?_))⟩
    · have len : le = nI n := Z.2.2.1 (by omega)
      have h8 : nx = 8 → d 5 = true := by
        intro e
        subst e
        cases e5 : d 5 with
        | true => rfl
        | false =>
          have u := (U.2 5 ⟨by decide, by decide, e5⟩).1
          have u' : a8 (cv_uo 8) = 1 := u
          rw [e0] at u'
          exact absurd u' (by decide)
      have mk : ∀ (sm' : Int32) (a11' : Nat → Int32), (9 < nx + 1 → sm' = cv_Q L fa (f 9)) → (∀ o, o ≠ cv_uo nx → a11' o = a11 o) → (nx = 5 → a11' 2 = st) → (nx = 6 → a11' 1 = fa) → (nx = 8 → a11' 2 = nI T) →
          post (nI ln, nI dl, le, nI 10, nI (nx + 1), nI t, sm', a1, a2, a3, a4, a5, a6, a7, upd a8 (cv_uo nx) 1, upd a9 (cv_uo nx) (nI nx), upd a10 (cv_uo nx) (nI n), a11', upd a12 (cv_uo nx) (nI 0), upd a13 (cv_uo nx) (nI 0), a14, a15, a16) :=
        fun sm' a11' q1 q2 q3 q4 q5 => H (nx + 1) _ _ _ _ _ _ _ _ _ _ _ _ _ _ _ _ _ _ _ _ _ _ _ ⟨⟨rfl, rfl, rfl, rfl, rfl⟩, P, q1, V, cv_Zi Z h5, W, cv_Ui U h5 e0 dn bn fn q2 q3 q4 q5, cv_Bi B bn, cv_Ii I z h8⟩ (by omega) (by omega) (fun _ _ => rfl)
      rw [len, cv_i8 nx (by omega), cv_i8 n (by omega)]
      rw [len] at mk
      refine ⟨pk_in (cv_uo nx) 4 ul, nm_e ⟨pk_in (cv_uo nx) 4 ul, nm_e ⟨pk_in (cv_uo nx) 4 ul, nm_e ⟨pk_in (cv_uo nx) 4 ul, nm_e ⟨pk_in (cv_uo nx) 4 ul, nm_e ?_⟩⟩⟩⟩⟩
      obtain ⟨z1, z2, z3, z4, z5, z6⟩ := Z
      obtain ⟨p4, p5, p6, p7, p75, y0, y1, y3, y4⟩ := P
      have c : nx = 5 ∨ nx = 6 ∨ nx = 7 ∨ nx = 8 ∨ nx = 9 := by omega
      rcases c with e | e | e | e | e <;> subst e
      · exact br_f (by decide) (br_f (by decide) (cv_t5 (nn := 0) (p6 5 (by decide) (by decide)) (mk sm _ (fun y => absurd y (by decide)) (fun o ho => pk_un ho) (fun _ => by rw [pk_us]; exact z1 (by decide)) (fun y => absurd y (by decide)) (fun y => absurd y (by decide)))))
      · exact br_f (by decide) (br_t rfl (cv_t6 (nn := 0) (p7 6 (by decide) (by decide)) (mk sm _ (fun y => absurd y (by decide)) (fun o ho => pk_un ho) (fun y => absurd y (by decide)) (fun _ => by rw [pk_us]; exact z4 (by decide) d9) (fun y => absurd y (by decide)))))
      · exact br_f (by decide) (br_f (by decide) (cv_t7 (nn := 0) (mk sm _ (fun y => absurd y (by decide)) (fun o ho => rfl) (fun y => absurd y (by decide)) (fun y => absurd y (by decide)) (fun y => absurd y (by decide)))))
      · exact br_f (by decide) (br_f (by decide) (cv_t8 (nn := 0) (p6 8 (by decide) (by decide)) (mk sm _ (fun y => absurd y (by decide)) (fun o ho => pk_un ho) (fun y => absurd y (by decide)) (fun y => absurd y (by decide)) (fun _ => by rw [pk_us]; exact z6 (by decide)))))
      · exact br_f (by decide) (br_f (by decide) (cv_t9 (nn := 0) (mk 0 _ (fun _ => by rw [fn]; rfl) (fun o ho => rfl) (fun y => absurd y (by decide)) (fun y => absurd y (by decide)) (fun y => absurd y (by decide)))))
    · rcases U.1 (cv_uo nx) ul with y | ⟨k, hk, _⟩
      · exact absurd y e0
      · exact absurd hk (none k)
end
section
/-! run: the potential falls in every cycle -/
def cv_hd (b f : Nat → Nat) (ra : Nat → Nat → Nat) (t k : Nat) : Nat := if f k < b k then ra k (f k) - t else 0
def cv_nd (d : Nat → Bool) (k : Nat) : Nat := if d k = true then 0 else 1
def cv_ph (n t : Nat) (b f : Nat → Nat) (d : Nat → Bool) (ra : Nat → Nat → Nat) (k : Nat) : Nat := 6 * (n - b k) + 6 * (n - f k) + cv_nd d k + cv_hd b f ra t k
def cv_Ph (n nx t : Nat) (b f : Nat → Nat) (d : Nat → Bool) (ra : Nat → Nat → Nat) : Nat :=
  (10 - nx) + cv_ph n t b f d ra 5 + cv_ph n t b f d ra 6 + cv_ph n t b f d ra 7 + cv_ph n t b f d ra 8 + cv_ph n t b f d ra 9
def cv_Y (dl t : Nat) (b f : Nat → Nat) (ra : Nat → Nat → Nat) : Prop := ∀ k i, f k ≤ i → i < b k → ra k i < t + dl
theorem cv_ar {n dl t b f b1 f1 r r1 e e1 h h1 : Nat} (hd : dl ≤ 5) (k1 : f ≤ f1) (k2 : f1 ≤ b) (k3 : b ≤ b1) (k4 : b1 ≤ n) (k5 : f1 < b1 → r1 < t + 1 + dl) (k6 : f1 = f → f < b → r1 = r ∧ t < r) (k7 : e1 ≤ e)
    (q : h = if f < b then r - t else 0) (q1 : h1 = if f1 < b1 then r1 - (t + 1) else 0) :
    6 * (n - b1) + 6 * (n - f1) + e1 + h1 ≤ 6 * (n - b) + 6 * (n - f) + e + h ∧ (6 * (n - b1) + 6 * (n - f1) + e1 + h1 = 6 * (n - b) + 6 * (n - f) + e + h → f1 = f ∧ b1 = b ∧ f = b ∧ e1 = e) := by
  by_cases c1 : f1 < b1
  · have g5 := k5 c1
    rw [if_pos c1] at q1
    by_cases c : f < b
    · rw [if_pos c] at q
      by_cases c2 : f1 = f
      · have g6 := k6 c2 c
        omega
      · omega
    · rw [if_neg c] at q
      omega
  · rw [if_neg c1] at q1
    by_cases c : f < b
    · rw [if_pos c] at q
      omega
    · rw [if_neg c] at q
      omega
theorem cv_ph1 {n dl nx t : Nat} {b f b1 f1 : Nat → Nat} {d d1 : Nat → Bool} {ra ra1 : Nat → Nat → Nat} (hd : dl ≤ 5) (I : cv_I n nx b f d) (F : cv_F n nx t b f d ra (fun q => q < 4) f1 d1) (I1 : cv_I n nx b1 f1 d1)
    (h1 : ∀ k, f1 k ≤ b k) (G : cv_G dl nx t d1 b ra b1 ra1) (Y : cv_Y dl t b f ra) {k : Nat} (k5 : 5 ≤ k) :
    cv_ph n (t + 1) b1 f1 d1 ra1 k ≤ cv_ph n t b f d ra k ∧ (cv_ph n (t + 1) b1 f1 d1 ra1 k = cv_ph n t b f d ra k → cv_A nx d k → f1 k = f k ∧ b1 k = b k ∧ f k = b k ∧ d1 k = false) := by
  obtain ⟨Fa, Fn⟩ := F k
  obtain ⟨g1, g2, g3, g4⟩ := G k
  have i2 := I.2.1 k
  have j2 := I1.2.1 k
  have hk := h1 k
  by_cases a : cv_A nx d k
  · obtain ⟨a1, a2, a3⟩ := Fa a (cv_uo_lt k)
    have ed : cv_nd d k = 1 := by
      rw [cv_nd, if_neg]
      rw [a.2.2]
      decide
    have e1 : cv_nd d1 k ≤ 1 := by
      unfold cv_nd
      split <;> omega
    have key := cv_ar (n := n) (dl := dl) (t := t) (b := b k) (f := f k) (b1 := b1 k) (f1 := f1 k) (r := ra k (f k)) (r1 := ra1 k (f1 k)) (e := cv_nd d k) (e1 := cv_nd d1 k) hd a1 hk g1 j2.2
      (fun z => by
        rcases Nat.lt_or_ge (f1 k) (b k) with y | y
        · rw [g3 _ y]
          have := Y k (f1 k) a1 y
          omega
        · rw [g4 _ y z]
          omega)
      (fun e z => by
        rw [e, g3 _ z]
        refine ⟨rfl, ?_⟩
        rcases a3 e with y | y
        · omega
        · exact y)
      (by omega) (h := cv_hd b f ra t k) (h1 := cv_hd b1 f1 ra1 (t + 1) k) rfl rfl
    refine ⟨key.1, fun e _ => ?_⟩
    obtain ⟨q1, q2, q3, q4⟩ := key.2 e
    refine ⟨q1, q2, q3, ?_⟩
    cases z : d1 k with
    | false => rfl
    | true =>
      rw [ed, cv_nd, if_pos z] at q4
      omega
  · obtain ⟨n1, n2⟩ := Fn (fun z => a z.1)
    have a1 : ¬ cv_A nx d1 k := fun z => a ⟨z.1, z.2.1, by rw [← n2]; exact z.2.2⟩
    have e3 := g2 a1
    have fb : f k = b k := by
      rcases Nat.lt_or_ge k nx with y | y
      · cases z : d k with
        | false => exact absurd ⟨k5, y, z⟩ a
        | true =>
          have := (I.2.2.2.2.2.2.1 k z).1
          omega
      · have := I.2.2.2.2.2.2.2.1 k y
        omega
    refine ⟨?_, fun _ z => absurd z a⟩
    have nb : ¬ f k < b k := by omega
    unfold cv_ph cv_hd cv_nd
    rw [n1, n2, e3, if_neg nb, if_neg nb]
    exact Nat.le_refl _
theorem cv_Y1 {n dl nx t : Nat} {b f b1 f1 : Nat → Nat} {d d1 : Nat → Bool} {ra ra1 : Nat → Nat → Nat} (F : cv_F n nx t b f d ra (fun q => q < 4) f1 d1) (G : cv_G dl nx t d1 b ra b1 ra1) (Y : cv_Y dl t b f ra) : cv_Y dl (t + 1) b1 f1 ra1 := by
  intro k i h1 h2
  obtain ⟨Fa, Fn⟩ := F k
  obtain ⟨g1, g2, g3, g4⟩ := G k
  have ff : f k ≤ f1 k := by
    by_cases a : cv_A nx d k
    · exact (Fa a (cv_uo_lt k)).1
    · rw [(Fn (fun z => a z.1)).1]
      exact Nat.le_refl _
  rcases Nat.lt_or_ge i (b k) with y | y
  · rw [g3 i y]
    have := Y k i (by omega) y
    omega
  · rw [g4 i y h2]
    omega
theorem cv_Pd {n dl nx nx' t : Nat} {b f b1 f1 : Nat → Nat} {d d1 : Nat → Bool} {ra ra1 : Nat → Nat → Nat} (hd : dl ≤ 5) (I : cv_I n nx b f d) (F : cv_F n nx t b f d ra (fun q => q < 4) f1 d1) (I1 : cv_I n nx b1 f1 d1)
    (h1 : ∀ k, f1 k ≤ b k) (G : cv_G dl nx t d1 b ra b1 ra1) (O : cv_O n nx d1 b b1) (Y : cv_Y dl t b f ra) (w1 : nx ≤ nx') (w2 : nx' ≤ nx + 1) (w3 : nx < 10 → (∀ k, ¬ cv_A nx d1 k) → nx' = nx + 1)
    (w4 : nx < 10 ∨ ∃ k, cv_A nx d k) : cv_Ph n nx' (t + 1) b1 f1 d1 ra1 < cv_Ph n nx t b f d ra := by
  have p5 := cv_ph1 hd I F I1 h1 G Y (k := 5) (by decide)
  have p6 := cv_ph1 hd I F I1 h1 G Y (k := 6) (by decide)
  have p7 := cv_ph1 hd I F I1 h1 G Y (k := 7) (by decide)
  have p8 := cv_ph1 hd I F I1 h1 G Y (k := 8) (by decide)
  have p9 := cv_ph1 hd I F I1 h1 G Y (k := 9) (by decide)
  have i1 := I.1
  rcases Nat.lt_or_ge (cv_Ph n nx' (t + 1) b1 f1 d1 ra1) (cv_Ph n nx t b f d ra) with z | z
  · exact z
  · exfalso
    unfold cv_Ph at z
    have q5 := p5.1
    have q6 := p6.1
    have q7 := p7.1
    have q8 := p8.1
    have q9 := p9.1
    have r5 := p5.2 (by omega)
    have r6 := p6.2 (by omega)
    have r7 := p7.2 (by omega)
    have r8 := p8.2 (by omega)
    have r9 := p9.2 (by omega)
    have all : ∀ k, cv_A nx d k → f1 k = f k ∧ b1 k = b k ∧ f k = b k ∧ d1 k = false := by
      intro k hk
      rcases cv_five hk i1 with e | e | e | e | e <;> subst e
      · exact r5 hk
      · exact r6 hk
      · exact r7 hk
      · exact r8 hk
      · exact r9 hk
    have back : ∀ k, cv_A nx d1 k → cv_A nx d k := by
      intro k hk
      by_cases a : cv_A nx d k
      · exact a
      · have e := ((F k).2 (fun y => a y.1)).2
        exact ⟨hk.1, hk.2.1, by rw [← e]; exact hk.2.2⟩
    by_cases ex : ∃ k, cv_A nx d k
    · obtain ⟨k, hk, least⟩ := pk_least (cv_A nx d) ex
      obtain ⟨a1, a2, a3, a4⟩ := all k hk
      have dk := ((F k).1 hk (cv_uo_lt k)).2.1
      rw [a4] at dk
      have lt : ¬ n ≤ f1 k := of_decide_eq_false dk.symm
      have := O k ⟨hk.1, hk.2.1, a4⟩ (fun k' hk' => by
        rcases Nat.lt_or_ge k' k with y | y
        · exact absurd (back k' hk') (least k' y)
        · exact y) (by omega)
      omega
    · have no : ∀ k, ¬ cv_A nx d1 k := fun k hk => ex ⟨k, back k hk⟩
      have n10 : nx < 10 := w4.elim (fun y => y) (fun y => absurd y ex)
      have := w3 n10 no
      omega
theorem cv_Fc {n nx t o : Nat} {b f f' f'' : Nat → Nat} {d d' d'' : Nat → Bool} {ra : Nat → Nat → Nat} (F : cv_F n nx t b f d ra (fun q => q < o) f' d') (F' : cv_F n nx t b f' d' ra (fun q => q = o) f'' d'') : cv_F n nx t b f d ra (fun q => q < o + 1) f'' d'' := by
  intro k
  obtain ⟨Fa, Fn⟩ := F k
  obtain ⟨Fa', Fn'⟩ := F' k
  dsimp only at Fa Fn Fa' Fn'
  dsimp only
  refine ⟨fun a u => ?_, fun z => ?_⟩
  · rcases Nat.lt_or_ge (cv_uo k) o with y | y
    · obtain ⟨m1, m2⟩ := Fn' (fun x => by have := x.2; omega)
      rw [m1, m2]
      exact Fa a y
    · obtain ⟨m1, m2⟩ := Fn (fun x => by have := x.2; omega)
      have a' : cv_A nx d' k := ⟨a.1, a.2.1, by rw [m2]; exact a.2.2⟩
      have q := Fa' a' (by omega)
      rw [m1] at q
      exact q
  · obtain ⟨m1, m2⟩ := Fn (fun x => z ⟨x.1, by have := x.2; omega⟩)
    obtain ⟨m3, m4⟩ := Fn' (fun x => z ⟨⟨x.1.1, x.1.2.1, by rw [← m2]; exact x.1.2.2⟩, by have := x.2; omega⟩)
    exact ⟨m3.trans m1, m4.trans m2⟩
theorem cv_Fl {n nx t : Nat} {b f f' : Nat → Nat} {d d' : Nat → Bool} {ra : Nat → Nat → Nat} {p : Nat → Prop} (F : cv_F n nx t b f d ra p f' d') (k : Nat) : f k ≤ f' k := by
  by_cases a : cv_A nx d k ∧ p (cv_uo k)
  · exact ((F k).1 a.1 a.2).1
  · rw [((F k).2 a).1]
    exact Nat.le_refl _
/-- one cycle -/
theorem cv_r29 {post : Int32 → St2 → Prop} {J10 : Int32 → Int32 → Int32 → Int32 → Int32 → Int32 → Int32 → (Nat → Int32) → (Nat → Int32) → (Nat → Int32) → (Nat → Int32) → (Nat → Int32) → (Nat → Int32) → (Nat → Int32) → (Nat → Int32) → (Nat → Int32) → (Nat → Int32) → (Nat → Int32) → (Nat → Int32) → (Nat → Int32) → (Nat → Int32) → (Nat → Int32) → (Nat → Int32) → Prop} {n ln dl T : Nat} {st sd fa : Int32} {C L : Nat → Int32} {nx t : Nat} {b f0 : Nat → Nat} {d0 : Nat → Bool} {ra : Nat → Nat → Nat} (hE : cv_E n ln dl T st sd C L) (ht : t < 1000) (I0 : cv_I n nx b f0 d0) (Y : cv_Y dl t b f0 ra)
    (w4 : nx < 10 ∨ ∃ k, cv_A nx d0 k)
    (H : ∀ (nx' : Nat) (b1 f1 : Nat → Nat) (d1 : Nat → Bool) (ra1 : Nat → Nat → Nat) (lc de le pl nn nw sm : Int32) (a1 a2 a3 a4 a5 a6 a7 a8 a9 a10 a11 a12 a13 a14 a15 a16 : Nat → Int32), cv_R n ln dl T st sd fa C L nx' (t + 1) b1 f1 d1 ra1 lc de le pl nn nw sm a1 a2 a3 a4 a5 a6 a7 a8 a9 a10 a11 a12 a13 a14 a15 a16 → cv_Y dl (t + 1) b1 f1 ra1 → cv_Ph n nx' (t + 1) b1 f1 d1 ra1 < cv_Ph n nx t b f0 d0 ra → J10 lc de le pl nn nw sm a1 a2 a3 a4 a5 a6 a7 a8 a9 a10 a11 a12 a13 a14 a15 a16) :
    ∀ (fu o : Nat) (f : Nat → Nat) (d : Nat → Bool) (lc de le pl nn nw sm : Int32) (a1 a2 a3 a4 a5 a6 a7 a8 a9 a10 a11 a12 a13 a14 a15 a16 : Nat → Int32), cv_R n ln dl T st sd fa C L nx t b f d ra lc de le pl nn nw sm a1 a2 a3 a4 a5 a6 a7 a8 a9 a10 a11 a12 a13 a14 a15 a16 → cv_F n nx t b f0 d0 ra (fun q => q < o) f d → o ≤ 4 → 4 < o + fu → wX_run_29 post J10 fu (nI o) lc de le pl nn nw sm a1 a2 a3 a4 a5 a6 a7 a8 a9 a10 a11 a12 a13 a14 a15 a16 := by
  have hd := hE.2.2.2.2.1
  intro fu
  induction fu with
  | zero =>
    intro o f d lc de le pl nn nw sm a1 a2 a3 a4 a5 a6 a7 a8 a9 a10 a11 a12 a13 a14 a15 a16 R F ho hf
    omega
  | succ fu ih =>
    intro o f d lc de le pl nn nw sm a1 a2 a3 a4 a5 a6 a7 a8 a9 a10 a11 a12 a13 a14 a15 a16 R F ho hf
    refine pk_le 4 o (fun z => ?_) (fun z => ?_)
    · have o4 : o = 4 := by omega
      subst o4
      have h1 : ∀ k, f k ≤ b k := fun k => (R.2.2.2.2.2.2.2.2.2.1 k).1
      refine cv_bio hE R (fun b1 ra1 lc de le pl nn nw sm a1 a2 a3 a4 a5 a6 a7 a8 a9 a10 a11 a12 a13 a14 a15 a16 R1 G O => ?_)
      dsimp only
      have I1 := R1.2.2.2.2.2.2.2.2
      refine cv_iss hE R1 (fun nx' lc de le pl nn nw sm a1 a2 a3 a4 a5 a6 a7 a8 a9 a10 a11 a12 a13 a14 a15 a16 R2 w1 w2 w3 => ?_)
      dsimp only
      obtain ⟨⟨k1, k2, k3, k4, k5⟩, R3⟩ := R2
      refine nm_r (by rw [k5]; exact nI_1 t) (H nx' b1 f d ra1 _ _ _ _ _ _ _ _ _ _ _ _ _ _ _ _ _ _ _ _ _ _ _ ⟨⟨k1, k2, k3, k4, rfl⟩, R3⟩ (cv_Y1 F G Y) (cv_Pd hd I0 F I1 h1 G O Y w1 w2 w3 w4))
    · refine cv_fin hE ht z R (fun k _ i g1 g2 => ?_) (fun f' d' lc de le pl nn nw sm a1 a2 a3 a4 a5 a6 a7 a8 a9 a10 a11 a12 a13 a14 a15 a16 R' F' => ?_)
      · have := Y k i (Nat.le_trans (cv_Fl F k) g1) g2
        omega
      · dsimp only
        exact nm_r (nI_1 o) (ih (o + 1) f' d' _ _ _ _ _ _ _ _ _ _ _ _ _ _ _ _ _ _ _ _ _ _ _ R' (cv_Fc F F') (by omega) (by omega))
theorem cv_idle {post : Int32 → Prop} {lc de le pl nn nw sm : Int32} {a1 a2 a3 a4 a5 a6 a7 a8 a9 a10 a11 a12 a13 a14 a15 a16 : Nat → Int32} (h1 : pl ≤ nn → a8 0 = 0 → a8 1 = 0 → a8 2 = 0 → a8 3 = 0 → post 1) (h0 : ¬ (pl ≤ nn ∧ a8 0 = 0 ∧ a8 1 = 0 ∧ a8 2 = 0 ∧ a8 3 = 0) → post 0) : wpX_isIdle post (lc, de, le, pl, nn, nw, sm, a1, a2, a3, a4, a5, a6, a7, a8, a9, a10, a11, a12, a13, a14, a15, a16) := by
  unfold wpX_isIdle
  try dsimp only
  exact br_c (fun y => br_c (fun y0 => br_c (fun y1 => br_c (fun y2 => br_c (fun y3 => h1 y y0 y1 y2 y3) (fun q => h0 (fun z => q z.2.2.2.2))) (fun q => h0 (fun z => q z.2.2.2.1))) (fun q => h0 (fun z => q z.2.2.1))) (fun q => h0 (fun z => q z.2.1))) (fun q => h0 (fun z => q z.1))
/-- all cycles -/
theorem cv_r10 {post : Int32 → St2 → Prop} {n ln dl T : Nat} {st sd fa : Int32} {C L : Nat → Int32} (hE : cv_E n ln dl T st sd C L)
    (H : ∀ (t : Nat) (b f : Nat → Nat) (d : Nat → Bool) (ra : Nat → Nat → Nat) (lc de le pl nn nw sm : Int32) (a1 a2 a3 a4 a5 a6 a7 a8 a9 a10 a11 a12 a13 a14 a15 a16 : Nat → Int32), cv_R n ln dl T st sd fa C L 10 t b f d ra lc de le pl nn nw sm a1 a2 a3 a4 a5 a6 a7 a8 a9 a10 a11 a12 a13 a14 a15 a16 → (∀ k, 5 ≤ k → k < 10 → d k = true) → a8 0 = 0 → a8 1 = 0 → a8 2 = 0 → a8 3 = 0 → post (nI 10) (lc, de, le, 0, nn, nw, sm, a1, a2, a3, a4, a5, a6, a7, a8, a9, a10, a11, a12, a13, a14, a15, a16)) :
    ∀ (fu nx t : Nat) (b f : Nat → Nat) (d : Nat → Bool) (ra : Nat → Nat → Nat) (lc de le pl nn nw sm : Int32) (a1 a2 a3 a4 a5 a6 a7 a8 a9 a10 a11 a12 a13 a14 a15 a16 : Nat → Int32), cv_R n ln dl T st sd fa C L nx t b f d ra lc de le pl nn nw sm a1 a2 a3 a4 a5 a6 a7 a8 a9 a10 a11 a12 a13 a14 a15 a16 → cv_Y dl t b f ra → t + cv_Ph n nx t b f d ra ≤ 500 → cv_Ph n nx t b f d ra < fu → wX_run_10 post fu lc de le pl nn nw sm a1 a2 a3 a4 a5 a6 a7 a8 a9 a10 a11 a12 a13 a14 a15 a16 := by
  intro fu
  induction fu with
  | zero =>
    intro nx t b f d ra lc de le pl nn nw sm a1 a2 a3 a4 a5 a6 a7 a8 a9 a10 a11 a12 a13 a14 a15 a16 R Y h1 h2
    omega
  | succ fu ih =>
    intro nx t b f d ra lc de le pl nn nw sm a1 a2 a3 a4 a5 a6 a7 a8 a9 a10 a11 a12 a13 a14 a15 a16 R Y h1 h2
    have k3 := R.1.2.2.1
    have k4 := R.1.2.2.2.1
    have k5 := R.1.2.2.2.2
    have U := R.2.2.2.2.2.2.1
    have I := R.2.2.2.2.2.2.2.2
    have i1 := I.1
    refine pk_le 1000 t (fun z => absurd z (by omega)) (fun z => cv_idle (fun y y0 y1 y2 y3 => br_f (by decide) ?_) (fun y => br_t rfl ⟨5, ?_⟩)) rfl k5
    · rw [k3, k4] at y
      have n10 : nx = 10 := by
        have := (nI_leI (by omega) (by omega)).mp y
        omega
      subst n10
      unfold wX_run_66
      rw [k3]
      refine H t b f d ra lc de le (nI 10) nn nw sm a1 a2 a3 a4 a5 a6 a7 a8 a9 a10 a11 a12 a13 a14 a15 a16 ?_ (fun k g1 g2 => ?_) y0 y1 y2 y3
      · rw [k3] at R
        exact R
      · cases e : d k with
        | true => rfl
        | false =>
          have u := (U.2 k ⟨g1, g2, e⟩).1
          have c : cv_uo k = 0 ∨ cv_uo k = 1 ∨ cv_uo k = 2 ∨ cv_uo k = 3 := by
            have := cv_uo_lt k
            omega
          rcases c with c | c | c | c
          · rw [c, y0] at u
            exact absurd u (by decide)
          · rw [c, y1] at u
            exact absurd u (by decide)
          · rw [c, y2] at u
            exact absurd u (by decide)
          · rw [c, y3] at u
            exact absurd u (by decide)
    · refine cv_r29 hE z I Y ?_ (fun nx' b1 f1 d1 ra1 lc de le pl nn nw sm a1 a2 a3 a4 a5 a6 a7 a8 a9 a10 a11 a12 a13 a14 a15 a16 R' Y' lt => ih nx' (t + 1) b1 f1 d1 ra1 _ _ _ _ _ _ _ _ _ _ _ _ _ _ _ _ _ _ _ _ _ _ _ R' Y' (by omega) (by omega)) 5 0 f d _ _ _ _ _ _ _ _ _ _ _ _ _ _ _ _ _ _ _ _ _ _ _ R (fun k => ⟨fun _ u => absurd u (by simp), fun _ => ⟨rfl, rfl⟩⟩) (by omega) (by omega)
      rcases Nat.lt_or_ge nx 10 with w | w
      · exact Or.inl w
      · refine Or.inr ?_
        apply Classical.byContradiction
        intro no
        have zero : ∀ o, o < 4 → a8 o = 0 := by
          intro o ho
          rcases U.1 o ho with e | ⟨k, hk, _⟩
          · exact e
          · exact absurd ⟨k, hk⟩ no
        refine y ⟨?_, zero 0 (by decide), zero 1 (by decide), zero 2 (by decide), zero 3 (by decide)⟩
        rw [k3, k4]
        exact nI_le w (by omega)
/-- run, from a fresh program -/
theorem cv_run {post : Int32 → St2 → Prop} {n ln dl T : Nat} {st sd fa : Int32} {C L : Nat → Int32} {lc de le pl nn nw sm : Int32} {a1 a2 a3 a4 a5 a6 a7 a8 a9 a10 a11 a12 a13 a14 a15 a16 : Nat → Int32} (hE : cv_E n ln dl T st sd C L) (e1 : lc = nI ln) (e2 : de = nI dl) (e3 : pl = nI 10) (P : cv_P n T st sd fa a4 a5 a6 a7) (z1 : ∀ i, i < 64 → a1 i = 0) (z3 : ∀ k, k < 64 → a3 k = C k) (z8 : ∀ o, o < 4 → a8 o = 0)
    (H : ∀ (t : Nat) (b f : Nat → Nat) (d : Nat → Bool) (ra : Nat → Nat → Nat) (lc de le pl nn nw sm : Int32) (a1 a2 a3 a4 a5 a6 a7 a8 a9 a10 a11 a12 a13 a14 a15 a16 : Nat → Int32), cv_R n ln dl T st sd fa C L 10 t b f d ra lc de le pl nn nw sm a1 a2 a3 a4 a5 a6 a7 a8 a9 a10 a11 a12 a13 a14 a15 a16 → (∀ k, 5 ≤ k → k < 10 → d k = true) → a8 0 = 0 → a8 1 = 0 → a8 2 = 0 → a8 3 = 0 → post (nI 10) (lc, de, le, 0, nn, nw, sm, a1, a2, a3, a4, a5, a6, a7, a8, a9, a10, a11, a12, a13, a14, a15, a16)) :
    wpX_run post (lc, de, le, pl, nn, nw, sm, a1, a2, a3, a4, a5, a6, a7, a8, a9, a10, a11, a12, a13, a14, a15, a16) := by
  have hn := hE.1
  unfold wpX_run
  try dsimp only
  have no : ∀ k, ¬ cv_A 0 (fun _ => false) k := fun k hk => absurd hk.2.1 (by omega)
  refine ⟨500, cv_r10 hE H 500 0 0 (fun _ => 0) (fun _ => 0) (fun _ => false) (fun _ _ => 0) _ _ _ _ _ _ _ _ _ _ _ _ _ _ _ _ _ _ _ _ _ _ _ ⟨⟨e1, e2, e3, rfl, rfl⟩, P, fun z => absurd z (by decide), fun i hi => ⟨?_, ?_⟩, ?_, fun k hk => ?_, ⟨fun o ho => Or.inl (z8 o ho), fun k hk => absurd hk (no k)⟩, fun k hk => absurd hk (no k), ?_⟩ (fun k i _ h => absurd h (by simp)) ?_ ?_⟩
  · exact z1 i (by omega)
  · exact z1 (16 + i) (by omega)
  · exact ⟨fun z => absurd z (by decide), fun z => absurd z (by decide), fun z => absurd z (by decide), fun z => absurd z (by decide), fun z => absurd z (by simp), fun z => absurd z (by decide)⟩
  · exact z3 k hk
  · exact ⟨by decide, fun k => ⟨Nat.le_refl _, Nat.zero_le _⟩, Nat.le_refl _, Nat.le_refl _, Nat.le_refl _, Nat.le_refl _, fun k z => absurd z (by simp), fun k _ => rfl, fun z => absurd z (by decide)⟩
  · show 0 + ((10 - 0) + (6 * (n - 0) + 6 * (n - 0) + 1 + 0) + (6 * (n - 0) + 6 * (n - 0) + 1 + 0) + (6 * (n - 0) + 6 * (n - 0) + 1 + 0) + (6 * (n - 0) + 6 * (n - 0) + 1 + 0) + (6 * (n - 0) + 6 * (n - 0) + 1 + 0)) ≤ 500
    omega
  · show (10 - 0) + (6 * (n - 0) + 6 * (n - 0) + 1 + 0) + (6 * (n - 0) + 6 * (n - 0) + 1 + 0) + (6 * (n - 0) + 6 * (n - 0) + 1 + 0) + (6 * (n - 0) + 6 * (n - 0) + 1 + 0) + (6 * (n - 0) + 6 * (n - 0) + 1 + 0) < 500
    omega
/-- run with no program: nothing happens -/
theorem cv_run0 {post : Int32 → St2 → Prop} {lc de le pl nn nw sm : Int32} {a1 a2 a3 a4 a5 a6 a7 a8 a9 a10 a11 a12 a13 a14 a15 a16 : Nat → Int32} (e3 : pl = 0) (y0 : a8 0 = 0) (y1 : a8 1 = 0) (y2 : a8 2 = 0) (y3 : a8 3 = 0) (H : post 0 (lc, de, le, 0, 0, 0, sm, a1, a2, a3, a4, a5, a6, a7, a8, a9, a10, a11, a12, a13, a14, a15, a16)) : wpX_run post (lc, de, le, pl, nn, nw, sm, a1, a2, a3, a4, a5, a6, a7, a8, a9, a10, a11, a12, a13, a14, a15, a16) := by
  subst e3
  unfold wpX_run
  try dsimp only
  refine ⟨1, ?_⟩
  refine br_f (by decide) (cv_idle (fun _ _ _ _ _ => br_f (by decide) H) (fun y => absurd ⟨by decide, y0, y1, y2, y3⟩ y))
end
section
/-! the small methods the law calls -/
def cv_cell (a b c x : Int32) : Int32 := if x &&& 3 = 0 then a + x else if x &&& 3 = 1 then b - x else if x &&& 3 = 2 then c * x else x
theorem cv_cel {post : Int32 → Prop} {a b c x : Int32} (H : post (cv_cell a b c x)) : wpL_cell post () x a b c := by
  unfold wpL_cell
  unfold cv_cell at H
  refine br_c (fun e0 => ?_) (fun e0 => br_c (fun e1 => ?_) (fun e1 => br_c (fun e2 => ?_) (fun e2 => ?_)))
  · rw [if_pos e0] at H
    exact H
  · rw [if_neg e0, if_pos e1] at H
    exact H
  · rw [if_neg e0, if_neg e1, if_pos e2] at H
    exact H
  · rw [if_neg e0, if_neg e1, if_neg e2] at H
    exact H
theorem cv_nm (x : Int32) : nI (x &&& 63).toNatClampNeg = x &&& 63 := by
  obtain ⟨q, hq, e⟩ := pk_andE x (m := 63) 6 (by decide)
  rw [e, nI_clamp (by omega)]
theorem cv_sub {k T : Nat} (hk : k < 64) (hT : T < 64) : (nI k - nI T) &&& 63 = nI ((k + (64 - T)) % 64) := by
  rw [pk_and _ 6 (by decide), Int32.toBitVec_sub, BitVec.toNat_sub, pk_tn (by omega), pk_tn (by omega)]
  congr 1
  omega
theorem cv_reg {post : Int32 → Prop} {lc de le pl nn nw sm : Int32} {a1 a2 a3 a4 a5 a6 a7 a8 a9 a10 a11 a12 a13 a14 a15 a16 : Nat → Int32} {q : Nat} (hq : q < 4) (H : post 1) : wpX_isRegister post (lc, de, le, pl, nn, nw, sm, a1, a2, a3, a4, a5, a6, a7, a8, a9, a10, a11, a12, a13, a14, a15, a16) (nI q) := by
  unfold wpX_isRegister
  try dsimp only
  exact br_f (nI_pos (by omega)) (br_f (nI_nlt (a := 3) (b := q) (by omega) (by decide)) H)
theorem cv_emit {post : Int32 → St2 → Prop} {lc de le pl nn nw sm : Int32} {a1 a2 a3 a4 a5 a6 a7 a8 a9 a10 a11 a12 a13 a14 a15 a16 : Nat → Int32} (p op x : Nat) {y z : Int32} (hp : p < 16) (e : pl = nI p) (ho : op ≤ 12) (hx : x < 4) (hy : op = 10 ∨ op = 12 ∨ ∃ q, q < 4 ∧ y = nI q) (hz : (5 < op ∧ op ≠ 11) ∨ ∃ q, q < 4 ∧ z = nI q)
    (H : post (nI (p + 1)) (lc, de, le, nI (p + 1), nn, nw, sm, a1, a2, a3, upd a4 p (nI op), upd a5 p (nI x), upd a6 p y, upd a7 p z, a8, a9, a10, a11, a12, a13, a14, a15, a16)) : wpX_emit post (lc, de, le, pl, nn, nw, sm, a1, a2, a3, a4, a5, a6, a7, a8, a9, a10, a11, a12, a13, a14, a15, a16) (nI op) (nI x) y z := by
  subst e
  have cp : (nI p).toNatClampNeg = p := nI_clamp (by omega)
  have h76 : wX_emit_76 post (nI op) (nI x) y z lc de le (nI p) nn nw sm a1 a2 a3 a4 a5 a6 a7 a8 a9 a10 a11 a12 a13 a14 a15 a16 := by
    unfold wX_emit_76
    rw [cp, cv_i8 op (by omega), cv_i8 x (by omega)]
    exact ⟨pk_in p 16 hp, nm_e ⟨pk_in p 16 hp, nm_e ⟨pk_in p 16 hp, nm_e ⟨pk_in p 16 hp, nm_e (nm_r (nI_1 p) H)⟩⟩⟩⟩
  have h65 : (op ≤ 5 ∨ op = 11) → wX_emit_65 post (nI op) (nI x) y z lc de le (nI p) nn nw sm a1 a2 a3 a4 a5 a6 a7 a8 a9 a10 a11 a12 a13 a14 a15 a16 := by
    intro c
    unfold wX_emit_65
    rcases hz with g | ⟨q, hq, eq⟩
    · omega
    · subst eq
      exact cv_reg hq (br_f (by decide) h76)
  have h54 : wX_emit_54 post (nI op) (nI x) y z lc de le (nI p) nn nw sm a1 a2 a3 a4 a5 a6 a7 a8 a9 a10 a11 a12 a13 a14 a15 a16 := by
    unfold wX_emit_54
    exact pk_le op 5 (fun g => h65 (Or.inl g)) (fun _ => pk_eq op 11 (fun g => h65 (Or.inr g)) (fun _ => h76))
  unfold wpX_emit
  try dsimp only
  refine pk_lt p 16 (fun _ => br_f (nI_pos (by omega)) (br_f (nI_nlt (a := 12) (b := op) ho (by decide)) (cv_reg hx (br_f (by decide) (pk_eq op 10 (fun _ => h54) (fun n10 => pk_eq op 12 (fun _ => h54) (fun n12 => ?_))))))) (fun g => absurd g (by omega))
  rcases hy with g | g | ⟨q, hq, eq⟩
  · exact absurd g n10
  · exact absurd g n12
  · subst eq
    exact cv_reg hq (br_f (by decide) h54)
theorem cv_set {post : Int32 → St2 → Prop} {lc de le pl nn nw sm : Int32} {a1 a2 a3 a4 a5 a6 a7 a8 a9 a10 a11 a12 a13 a14 a15 a16 : Nat → Int32} {k : Nat} {v : Int32} (hk : k < 64) (H : post 1 (lc, de, le, pl, nn, nw, sm, a1, a2, upd a3 k v, a4, a5, a6, a7, a8, a9, a10, a11, a12, a13, a14, a15, a16)) : wpX_setMemory post (lc, de, le, pl, nn, nw, sm, a1, a2, a3, a4, a5, a6, a7, a8, a9, a10, a11, a12, a13, a14, a15, a16) (nI k) v := by
  have ck : (nI k).toNatClampNeg = k := nI_clamp (by omega)
  unfold wpX_setMemory
  try dsimp only
  rw [ck]
  exact br_f (nI_pos (by omega)) (br_t (nI_le (b := 63) (by omega) (by decide)) ⟨pk_in k 64 hk, nm_e H⟩)
theorem cv_mem {post : Int32 → Prop} {lc de le pl nn nw sm : Int32} {a1 a2 a3 a4 a5 a6 a7 a8 a9 a10 a11 a12 a13 a14 a15 a16 : Nat → Int32} {k : Nat} (hk : k < 64) (H : post (a3 k)) : wpX_memory post (lc, de, le, pl, nn, nw, sm, a1, a2, a3, a4, a5, a6, a7, a8, a9, a10, a11, a12, a13, a14, a15, a16) (nI k) := by
  have ck : (nI k).toNatClampNeg = k := nI_clamp (by omega)
  unfold wpX_memory
  try dsimp only
  rw [ck]
  exact br_f (nI_pos (by omega)) (br_t (nI_le (b := 63) (by omega) (by decide)) ⟨pk_in k 64 hk, H⟩)
theorem cv_el {post : Int32 → Prop} {lc de le pl nn nw sm : Int32} {a1 a2 a3 a4 a5 a6 a7 a8 a9 a10 a11 a12 a13 a14 a15 a16 : Nat → Int32} {o i : Nat} (ho : o < 4) (hi : i < 16) (H : post (a1 (16 * o + i))) : wpX_element post (lc, de, le, pl, nn, nw, sm, a1, a2, a3, a4, a5, a6, a7, a8, a9, a10, a11, a12, a13, a14, a15, a16) (nI o) (nI i) := by
  have ck : (nI (16 * o + i)).toNatClampNeg = 16 * o + i := nI_clamp (by omega)
  unfold wpX_element
  try dsimp only
  rw [cv_ix, ck]
  exact cv_reg ho (br_f (by decide) (br_f (nI_pos (by omega)) (br_f (nI_nlt (a := 15) (b := i) (by omega) (by decide)) ⟨pk_in (16 * o + i) 64 (by omega), H⟩)))
theorem cv_scal {post : Int32 → Prop} {lc de le pl nn nw sm : Int32} {a1 a2 a3 a4 a5 a6 a7 a8 a9 a10 a11 a12 a13 a14 a15 a16 : Nat → Int32} {o : Nat} (ho : o < 4) (H : post (a2 o)) : wpX_scalar post (lc, de, le, pl, nn, nw, sm, a1, a2, a3, a4, a5, a6, a7, a8, a9, a10, a11, a12, a13, a14, a15, a16) (nI o) := by
  have ck : (nI o).toNatClampNeg = o := nI_clamp (by omega)
  unfold wpX_scalar
  try dsimp only
  rw [ck]
  exact cv_reg ho (br_f (by decide) ⟨pk_in o 4 ho, H⟩)
theorem cv_i145 {post : St2 → Prop} {mc ms kc ks r : Nat} {z0 f0 f1 f2 f3 f4 f5 f6 : Int32} {g1 g2 g3 g4 g5 g6 g7 g8 g9 g10 g11 g12 g13 g14 g15 g16 : Nat → Int32} (hr : r < 8)
    (H : ∀ dl, 1 ≤ dl → dl ≤ 5 → post (z0, nI dl, 16, f3, f4, f5, f6, g1, g2, g3, g4, g5, g6, g7, g8, g9, g10, g11, g12, g13, g14, g15, g16)) :
    wX_init_145 post mc ms (nI r) z0 kc ks f0 f1 f2 f3 f4 f5 f6 g1 g2 g3 g4 g5 g6 g7 g8 g9 g10 g11 g12 g13 g14 g15 g16 := by
  unfold wX_init_145
  exact pk_le 1 r (fun h1 => pk_le r 5 (fun h2 => H r h1 h2) (fun _ => H 5 (by decide) (by decide))) (fun _ => H 1 (by decide) (by decide))
theorem cv_init {post : St2 → Prop} {mc ms q r : Nat} (hm : 16 ≤ mc) (hs : 412 ≤ ms) (hq : q < 8) (hr : r < 8)
    (H : ∀ ln dl, 1 ≤ ln → ln ≤ 4 → 1 ≤ dl → dl ≤ 5 → post (nI ln, nI dl, 16, 0, 0, 0, 0, (fun _ => 0), (fun _ => 0), (fun _ => 0), (fun _ => 0), (fun _ => 0), (fun _ => 0), (fun _ => 0), (fun _ => 0), (fun _ => 0), (fun _ => 0), (fun _ => 0), (fun _ => 0), (fun _ => 0), (fun _ => 0), (fun _ => 0), (fun _ => 0))) :
    wpX_init post mc ms (0, 0, 0, 0, 0, 0, 0) (nI q) (nI r) := by
  unfold wpX_init
  try dsimp only
  refine ⟨by omega, by omega, by omega, by omega, by omega, by omega, by omega, by omega, by omega, by omega, by omega, by omega, by omega, by omega, by omega, by omega, by omega, by omega, by omega, by omega, by omega, by omega, by omega, by omega, by omega, by omega, by omega, by omega, by omega, by omega, by omega, by omega, ?_⟩
  exact pk_le 1 q (fun h1 => pk_le q 4 (fun h2 => cv_i145 hr (fun dl d1 d2 => H q dl h1 h2 d1 d2)) (fun _ => cv_i145 hr (fun dl d1 d2 => H 4 dl (by decide) (by decide) d1 d2))) (fun _ => cv_i145 hr (fun dl d1 d2 => H 1 dl (by decide) (by decide) d1 d2))
end
section
/-! the law's loops -/
theorem cv_l349 {post : Int32 → St0 → Prop} {mc ms kc ks n T : Nat} {a b c fa st sd x10 : Int32} {lc de le pl nn nw sm : Int32} {a1 a2 a3 a4 a5 a6 a7 a8 a9 a10 a11 a12 a13 a14 a15 a16 : Nat → Int32} {L : Nat → Int32} (hn : n ≤ 7) (hT : T < 64) (hL : ∀ i, cv_cell a b c ((st + nI i * sd) &&& 63) = L i) (e2 : a2 2 = x10) (el : le = nI n)
    (h3 : ∀ k, k < 64 → a3 k = if (k + (64 - T)) % 64 < n then cv_S L fa ((k + (64 - T)) % 64) else cv_cell a b c (nI k)) (H : post 1 ()) :
    ∀ (fu k : Nat), k ≤ 64 → 64 < k + fu → wL_lawOf_349 post mc ms a b c fa st sd (nI T) (nI n) x10 kc ks lc de le pl nn nw sm a1 a2 a3 a4 a5 a6 a7 a8 a9 a10 a11 a12 a13 a14 a15 a16 fu (nI k) := by
  intro fu
  induction fu with
  | zero =>
    intro k hk hf
    omega
  | succ fu ih =>
    intro k hk hf
    refine pk_le 64 k (fun z => cv_scal (o := 2) (by decide) (br_t e2 (br_t el H))) (fun z => nm_r (cv_sub z hT) (cv_cel ?_))
    have h411 : ∀ v, a3 k = v → wL_lawOf_411 post mc ms (wL_lawOf_349 post mc ms a b c fa st sd (nI T) (nI n) x10 kc ks lc de le pl nn nw sm a1 a2 a3 a4 a5 a6 a7 a8 a9 a10 a11 a12 a13 a14 a15 a16 fu) a b c fa st sd (nI T) (nI n) x10 (nI k) v kc ks lc de le pl nn nw sm a1 a2 a3 a4 a5 a6 a7 a8 a9 a10 a11 a12 a13 a14 a15 a16 := by
      intro v ev
      unfold wL_lawOf_411
      exact cv_mem z (br_t ev (nm_r (nI_1 k) (ih (k + 1) (by omega) (by omega))))
    rw [hL]
    exact pk_le n ((k + (64 - T)) % 64) (fun y => cv_cel (h411 _ (by rw [h3 k z, if_neg (by omega)]))) (fun y => h411 _ (by rw [h3 k z, if_pos y]; rfl))
theorem cv_l235 {post : Int32 → St0 → Prop} {mc ms kc ks n T : Nat} {a b c fa st sd : Int32} {lc de le pl nn nw sm : Int32} {a1 a2 a3 a4 a5 a6 a7 a8 a9 a10 a11 a12 a13 a14 a15 a16 : Nat → Int32} {L : Nat → Int32} (hn : n ≤ 7) (hT : T < 64) (hL : ∀ i, cv_cell a b c ((st + nI i * sd) &&& 63) = L i) (e2 : a2 2 = cv_Q L fa n) (el : le = nI n)
    (h3 : ∀ k, k < 64 → a3 k = if (k + (64 - T)) % 64 < n then cv_S L fa ((k + (64 - T)) % 64) else cv_cell a b c (nI k))
    (v0 : ∀ i, i < 16 → a1 (16 * 0 + i) = if i < n then cv_S L fa i else 0) (v1 : ∀ i, i < 16 → a1 (16 * 1 + i) = if i < n then L i * fa else 0) (H : post 1 ()) :
    ∀ (fu i : Nat) (x10 : Int32), i ≤ 16 → 16 < i + fu → x10 = cv_Q L fa (min i n) → wL_lawOf_235 post mc ms a b c fa st sd (nI T) (nI n) kc ks lc de le pl nn nw sm a1 a2 a3 a4 a5 a6 a7 a8 a9 a10 a11 a12 a13 a14 a15 a16 fu x10 (nI i) := by
  intro fu
  induction fu with
  | zero =>
    intro i x10 hi hf
    omega
  | succ fu ih =>
    intro i x10 hi hf e
    refine pk_le 16 i (fun z => ⟨65, cv_l349 hn hT hL ?_ el h3 H 65 0 (by omega) (by omega)⟩) (fun z => cv_cel ?_)
    · rw [e2, e, show min i n = n by omega]
    rw [hL]
    have h321 : ∀ z0 z1, z1 = z0 → wL_lawOf_321 post mc ms (wL_lawOf_235 post mc ms a b c fa st sd (nI T) (nI n) kc ks lc de le pl nn nw sm a1 a2 a3 a4 a5 a6 a7 a8 a9 a10 a11 a12 a13 a14 a15 a16 fu) a b c fa st sd (nI T) (nI n) x10 (nI i) (L i + L i * fa) z0 z1 kc ks lc de le pl nn nw sm a1 a2 a3 a4 a5 a6 a7 a8 a9 a10 a11 a12 a13 a14 a15 a16 := by
      intro z0 z1 ez
      unfold wL_lawOf_321
      refine br_t ez (pk_le n i (fun y => nm_r (nI_1 i) (ih (i + 1) x10 (by omega) (by omega) ?_)) (fun y => nm_e (nm_r (nI_1 i) (ih (i + 1) (x10 + (L i + L i * fa)) (by omega) (by omega) ?_))))
      · rw [e, show min i n = n by omega, show min (i + 1) n = n by omega]
      · rw [e, show min i n = i by omega, show min (i + 1) n = i + 1 by omega]
        rfl
    have h292 : ∀ z0 z1, z1 = z0 → wL_lawOf_292 post mc ms (wL_lawOf_235 post mc ms a b c fa st sd (nI T) (nI n) kc ks lc de le pl nn nw sm a1 a2 a3 a4 a5 a6 a7 a8 a9 a10 a11 a12 a13 a14 a15 a16 fu) a b c fa st sd (nI T) (nI n) x10 (nI i) (L i) (L i + L i * fa) z0 z1 kc ks lc de le pl nn nw sm a1 a2 a3 a4 a5 a6 a7 a8 a9 a10 a11 a12 a13 a14 a15 a16 := by
      intro z0 z1 ez
      unfold wL_lawOf_292
      exact br_t ez (cv_el (o := 1) (by decide) z (pk_le n i (fun y => h321 _ _ (by rw [v1 i z, if_neg (by omega)])) (fun y => h321 _ _ (by rw [v1 i z, if_pos y]))))
    exact nm_e (cv_el (o := 0) (by decide) z (pk_le n i (fun y => h292 _ _ (by rw [v0 i z, if_neg (by omega)])) (fun y => h292 _ _ (by rw [v0 i z, if_pos y]; rfl))))
theorem cv_ten {p : Nat → Prop} (h0 : p 0) (h1 : p 1) (h2 : p 2) (h3 : p 3) (h4 : p 4) (h5 : p 5) (h6 : p 6) (h7 : p 7) (h8 : p 8) (h9 : p 9) : ∀ k, k < 10 → p k := by
  intro k hk
  have c : k = 0 ∨ k = 1 ∨ k = 2 ∨ k = 3 ∨ k = 4 ∨ k = 5 ∨ k = 6 ∨ k = 7 ∨ k = 8 ∨ k = 9 := by omega
  rcases c with e | e | e | e | e | e | e | e | e | e <;> subst e <;> assumption
/-- ten places filled one behind another -/
def cv_fill (g : Nat → Int32) (x0 x1 x2 x3 x4 x5 x6 x7 x8 x9 : Int32) : Nat → Int32 :=
  upd (upd (upd (upd (upd (upd (upd (upd (upd (upd g 0 x0) 1 x1) 2 x2) 3 x3) 4 x4) 5 x5) 6 x6) 7 x7) 8 x8) 9 x9
theorem cv_prog {n T : Nat} {st sd fa : Int32} {g4 g5 g6 g7 : Nat → Int32} :
    cv_P n T st sd fa (cv_fill g4 (nI 10) (nI 10) (nI 12) (nI 10) (nI 10) (nI 6) (nI 5) (nI 0) (nI 7) (nI 9)) (cv_fill g5 (nI 0) (nI 1) (nI 1) (nI 2) (nI 3) (nI 0) (nI 1) (nI 0) (nI 0) (nI 2))
      (cv_fill g6 st (nI n) 0 fa (nI T) 0 0 0 3 0) (cv_fill g7 0 0 0 0 0 sd 2 1 1 0) := by
  refine ⟨cv_ten rfl rfl rfl rfl rfl rfl rfl rfl rfl rfl, cv_ten rfl rfl rfl rfl rfl rfl rfl rfl rfl rfl, ?_, ?_, rfl, rfl, rfl, rfl, rfl⟩
  · intro k h5 hk
    have c : k = 5 ∨ k = 6 ∨ k = 7 ∨ k = 8 ∨ k = 9 := by omega
    rcases c with e | e | e | e | e <;> subst e <;> rfl
  · intro k h6 hk
    have c : k = 6 ∨ k = 7 ∨ k = 8 ∨ k = 9 := by omega
    rcases c with e | e | e | e <;> subst e <;> rfl
/-- behind the memory's loop: the program is written, run, run again, and checked -/
theorem cv_l59 {post : Int32 → St0 → Prop} {mc ms kc ks n ln dl T : Nat} {a b c fa st sd : Int32} (hn : n ≤ 7) (hl1 : 1 ≤ ln) (hl4 : ln ≤ 4) (hd1 : 1 ≤ dl) (hd5 : dl ≤ 5) (hT : T < 64) (H : post 1 ()) :
    ∀ (fu k : Nat) (a3 : Nat → Int32), k ≤ 64 → 64 < k + fu → (∀ i, i < k → a3 i = cv_cell a b c (nI i)) →
      wL_lawOf_59 post mc ms a b c fa st sd (nI T) (nI n) kc ks fu (nI k) (nI ln) (nI dl) 16 0 0 0 0 (fun _ => 0) (fun _ => 0) a3 (fun _ => 0) (fun _ => 0) (fun _ => 0) (fun _ => 0) (fun _ => 0) (fun _ => 0) (fun _ => 0) (fun _ => 0) (fun _ => 0) (fun _ => 0) (fun _ => 0) (fun _ => 0) (fun _ => 0) := by
  intro fu
  induction fu with
  | zero =>
    intro k a3 hk hf
    omega
  | succ fu ih =>
    intro k a3 hk hf h3
    refine pk_le 64 k (fun z => ?_) (fun z => cv_cel (cv_set z ?_))
    · have hE : cv_E n ln dl T st sd (fun k => cv_cell a b c (nI k)) (fun i => cv_cell a b c (nI ((st + nI i * sd) &&& 63).toNatClampNeg)) := ⟨hn, hl1, hl4, hd1, hd5, hT, fun _ => rfl⟩
      have hL : ∀ i, cv_cell a b c ((st + nI i * sd) &&& 63) = (fun i => cv_cell a b c (nI ((st + nI i * sd) &&& 63).toNatClampNeg)) i := fun i => by
        dsimp only
        rw [cv_nm]
      refine cv_emit 0 10 0 (by decide) rfl (by decide) (by decide) (Or.inl rfl) (Or.inl (by decide)) ?_
      dsimp only
      refine cv_emit 1 10 1 (by decide) rfl (by decide) (by decide) (Or.inl rfl) (Or.inl (by decide)) ?_
      dsimp only
      refine cv_emit 2 12 1 (by decide) rfl (by decide) (by decide) (Or.inr (Or.inl rfl)) (Or.inl (by decide)) ?_
      dsimp only
      refine cv_emit 3 10 2 (by decide) rfl (by decide) (by decide) (Or.inl rfl) (Or.inl (by decide)) ?_
      dsimp only
      refine cv_emit 4 10 3 (by decide) rfl (by decide) (by decide) (Or.inl rfl) (Or.inl (by decide)) ?_
      dsimp only
      refine cv_emit 5 6 0 (by decide) rfl (by decide) (by decide) (Or.inr (Or.inr ⟨0, by decide, rfl⟩)) (Or.inl (by decide)) ?_
      dsimp only
      refine cv_emit 6 5 1 (by decide) rfl (by decide) (by decide) (Or.inr (Or.inr ⟨0, by decide, rfl⟩)) (Or.inr ⟨2, by decide, rfl⟩) ?_
      dsimp only
      refine cv_emit 7 0 0 (by decide) rfl (by decide) (by decide) (Or.inr (Or.inr ⟨0, by decide, rfl⟩)) (Or.inr ⟨1, by decide, rfl⟩) ?_
      dsimp only
      refine cv_emit 8 7 0 (by decide) rfl (by decide) (by decide) (Or.inr (Or.inr ⟨3, by decide, rfl⟩)) (Or.inl (by decide)) ?_
      dsimp only
      refine cv_emit 9 9 2 (by decide) rfl (by decide) (by decide) (Or.inr (Or.inr ⟨0, by decide, rfl⟩)) (Or.inl (by decide)) ?_
      dsimp only
      refine br_t rfl ?_
      refine cv_run hE rfl rfl rfl (cv_prog (n := n) (T := T) (st := st) (sd := sd) (fa := fa)) (fun _ _ => rfl) (fun i hi => h3 i (by omega)) (fun _ _ => rfl) (fun t b' f d ra lc de le pl nn nw sm a1 a2 a3 a4 a5 a6 a7 a8 a9 a10 a11 a12 a13 a14 a15 a16 R D y0 y1 y2 y3 => ?_)
      dsimp only
      refine br_t rfl (cv_run0 rfl y0 y1 y2 y3 ?_)
      dsimp only
      refine br_t rfl ⟨17, ?_⟩
      obtain ⟨K, P, hs, V, Z, W, U, B, I⟩ := R
      have f5 := (I.2.2.2.2.2.2.1 5 (D 5 (by decide) (by decide))).1
      have f6 := (I.2.2.2.2.2.2.1 6 (D 6 (by decide) (by decide))).1
      have f7 := (I.2.2.2.2.2.2.1 7 (D 7 (by decide) (by decide))).1
      have f8 := (I.2.2.2.2.2.2.1 8 (D 8 (by decide) (by decide))).1
      refine cv_l235 hn hT hL (Z.2.2.2.2.1 (D 9 (by decide) (by decide))) (Z.2.2.1 (by decide)) (fun k hk => ?_) (fun i hi => ?_) (fun i hi => ?_) H 17 0 0 (by omega) (by omega) ?_
      · have w := W k hk
        rw [f8] at w
        exact w
      · have v := (V i hi).1
        rw [f7, f5] at v
        rw [show 16 * 0 + i = i by omega, v]
        by_cases y : i < n
        · rw [if_pos y, if_pos y]
        · rw [if_neg y, if_neg y, if_neg y]
      · have v := (V i hi).2
        rw [f6] at v
        exact v
      · rw [show min 0 n = 0 by omega]
        rfl
    · dsimp only
      refine nm_r (nI_1 k) (ih (k + 1) (upd a3 k (cv_cell a b c (nI k))) (by omega) (by omega) (fun i hi => ?_))
      by_cases y : i = k
      · rw [y, pk_us]
      · rw [pk_un y]
        exact h3 i (by omega)
theorem cv_law {post : Int32 → St0 → Prop} {p0 a b c fa : Int32} (H : post 1 ()) : wpL_lawOf post 210 3360 () p0 a b c fa := by
  obtain ⟨T, hT, eT⟩ := pk_andE (p0 >>> ((11 : Int32) &&& 31)) (m := 63) 6 (by decide)
  obtain ⟨n, hn, en⟩ := pk_andE (p0 >>> ((17 : Int32) &&& 31)) (m := 7) 3 (by decide)
  obtain ⟨q, hq, eq⟩ := pk_andE (p0 >>> ((20 : Int32) &&& 31)) (m := 7) 3 (by decide)
  obtain ⟨r, hr, er⟩ := pk_andE (p0 >>> ((23 : Int32) &&& 31)) (m := 7) 3 (by decide)
  unfold wpL_lawOf
  rw [eT, en, eq, er]
  refine nm_e (nm_e (nm_e (nm_e ⟨by decide, by decide, 16, 412, by decide, by decide, cv_init (by decide) (by decide) (by omega) (by omega) (fun ln dl l1 l2 d1 d2 => ?_)⟩)))
  dsimp only
  exact ⟨65, cv_l59 (by omega) l1 l2 d1 d2 (by omega) H 65 0 (fun _ => 0) (by omega) (by omega) (fun i hi => absurd hi (by omega))⟩
end
section
/-! the owed statement -/
theorem cv_at {post : Int32 → Prop} {L : Nat} {xs : Nat → Int32} (k : Nat) (hL : L ≤ 5) (hk : k < 5) (H : ∀ x, post x) : wpL_cellAt post L xs () (nI k) := by
  unfold wpL_cellAt
  exact pk_le L k (fun _ => H 0) (fun z => ⟨pk_in k L z, H _⟩)
theorem i_vc (xs : Nat → Int32) (L : Nat) (hL : L ≤ 5) : wpL_law (fun r => r = 1) L xs := by
  unfold wpL_law
  exact cv_at 0 hL (by decide) (fun _ => cv_at 1 hL (by decide) (fun _ => cv_at 2 hL (by decide) (fun _ => cv_at 3 hL (by decide) (fun _ => cv_at 4 hL (by decide) (fun _ => ⟨210, 3360, by decide, by decide, cv_law rfl⟩)))))
end
