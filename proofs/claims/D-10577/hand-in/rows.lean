section
section
variable {vc hn rc w : Int32} {a1 a2 a3 a4 a5 a6 a7 a8 a9 a10 a11 a12 a13 a14 : Nat → Int32}
theorem st_fill {f s : Nat → Int32} {i k : Nat} {x : Int32} (hk : k = i) (h : ∀ j, j < i → s j = f j) (hx : x = f i) : ∀ j, j < i + 1 → upd s k x j = f j := by
  intro j hj
  rw [hk]
  by_cases e : j = i
  · rw [e, pk_us, hx]
  · rw [pk_un e]
    exact h j (by omega)
theorem st_50 (i : Nat) : (5 : Int32) * 0 + nI i = nI i := by
  rw [show (5 : Int32) * 0 = nI 0 from rfl, nI_add, Nat.zero_add]
theorem st_80 (i : Nat) : (8 : Int32) * 0 + nI i = nI i := by
  rw [show (8 : Int32) * 0 = nI 0 from rfl, nI_add, Nat.zero_add]
theorem st_byte : ∀ j, j < 100 → (nI j).toInt8.toInt32 = nI j := by decide +kernel
/-- the first column at the version made by one edit -/
def st_F (k x z a b y : Int32) : Int32 := if k = 1 then (if x = 0 then b else a) else if k = 2 ∧ x = 0 then a + y else if k = 4 ∧ ¬ x = z then b else if k = 5 ∧ x = 0 then a + b else a
/-- the row is hidden there -/
def st_H (k x a b y : Int32) : Prop := k = 3 ∧ ¬ y ≤ (if x = 0 then a else b)
theorem st_H30 {a b y : Int32} : st_H 3 0 a b y ↔ ¬ y ≤ a := by simp [st_H]
theorem st_H31 {a b y : Int32} : st_H 3 1 a b y ↔ ¬ y ≤ b := by simp [st_H]
theorem st_Hn {k x a b y : Int32} (h : ¬ k = 3) : ¬ st_H k x a b y := fun z => h z.1
/-- an edit that is taken -/
def st_G (k x z : Int32) : Prop := k = 0 ∨ (k = 1 ∧ (x = 0 ∨ x = 1)) ∨ (k = 2 ∧ (x = 0 ∨ x = 1)) ∨ (k = 3 ∧ (x = 0 ∨ x = 1)) ∨ (k = 4 ∧ (x = 0 ∨ x = 1) ∧ (z = 0 ∨ z = 1)) ∨ (k = 5 ∧ ((x = 0 ∧ z = 1) ∨ (x = 1 ∧ z = 0)))
/-- version 1 in the tables -/
def st_V (k x z y : Int32) (a1 a2 a3 a4 a5 a6 : Nat → Int32) : Prop := a1 1 = 0 ∧ a2 1 = k ∧ a3 1 = x ∧ a4 1 = z ∧ a5 1 = y ∧ a6 0 = 2 ∧ ¬ a6 1 ≤ 0 ∧ (k = 1 → a6 1 = 1)
theorem st_isV0 {post : Int32 → Prop} (hv : ¬ vc ≤ 0) (h : post 1) : wpX_isVersion post (vc, hn, rc, w, a1, a2, a3, a4, a5, a6, a7, a8, a9, a10, a11, a12, a13, a14) 0 := br_f (by decide) (br_f hv h)
theorem st_isV1f {post : Int32 → Prop} (h : post 0) : wpX_isVersion post (1, hn, rc, w, a1, a2, a3, a4, a5, a6, a7, a8, a9, a10, a11, a12, a13, a14) 1 := br_f (by decide) (br_t (by decide) h)
theorem st_isV1t {post : Int32 → Prop} (h : post 1) : wpX_isVersion post (2, hn, rc, w, a1, a2, a3, a4, a5, a6, a7, a8, a9, a10, a11, a12, a13, a14) 1 := br_f (by decide) (br_f (by decide) h)
theorem st_isC10 {post : Int32 → Prop} (h6 : ¬ a6 1 ≤ 0) (h : post 1) : wpX_isColumn post (vc, hn, rc, w, a1, a2, a3, a4, a5, a6, a7, a8, a9, a10, a11, a12, a13, a14) 1 0 := br_f (by decide) ⟨pk_in 1 8 (by omega), br_f h6 h⟩
theorem st_find0 {post : Int32 → Prop} {key : Int32} (h : post (-1)) : wpX_find post (vc, hn, 0, w, a1, a2, a3, a4, a5, a6, a7, a8, a9, a10, a11, a12, a13, a14) key := ⟨1, br_t (by decide) h⟩
theorem st_find1 {post : Int32 → Prop} {key : Int32} (h7 : a7 0 = key) (h : post 0) : wpX_find post (vc, hn, 1, w, a1, a2, a3, a4, a5, a6, a7, a8, a9, a10, a11, a12, a13, a14) key := ⟨1, br_f (by decide) ⟨pk_in 0 12 (by omega), br_t h7 h⟩⟩
theorem st_cf00 {post : Int32 → Prop} (h : post 1) : wpX_comesFrom post (vc, hn, rc, w, a1, a2, a3, a4, a5, a6, a7, a8, a9, a10, a11, a12, a13, a14) 0 0 := ⟨1, br_t (by decide) (br_t rfl h)⟩
theorem st_cf01 {post : Int32 → Prop} (h : post 0) : wpX_comesFrom post (vc, hn, rc, w, a1, a2, a3, a4, a5, a6, a7, a8, a9, a10, a11, a12, a13, a14) 0 1 := ⟨1, br_t (by decide) (br_f (by decide) h)⟩
theorem st_cf10 {post : Int32 → Prop} (h1 : a1 1 = 0) (h : post 1) : wpX_comesFrom post (vc, hn, rc, w, a1, a2, a3, a4, a5, a6, a7, a8, a9, a10, a11, a12, a13, a14) 1 0 := ⟨2, br_f (by decide) ⟨pk_in 1 8 (by omega), nm_r h1 (br_t (by decide) (br_t rfl h))⟩⟩
theorem st_draft0 {post : Int32 → St2 → Prop} {v : Int32} (H : ∀ b10 : Nat → Int32, b10 0 = v → post 1 (vc, hn, rc, w, a1, a2, a3, a4, a5, a6, a7, a8, a9, b10, a11, a12, a13, a14)) : wpX_draft post (vc, hn, rc, w, a1, a2, a3, a4, a5, a6, a7, a8, a9, a10, a11, a12, a13, a14) 0 v := br_f (by decide) (br_t (by decide) ⟨pk_in 0 5 (by omega), nm_e (H _ pk_us)⟩)
theorem st_draft1 {post : Int32 → St2 → Prop} {v : Int32} (H : ∀ b10 : Nat → Int32, b10 0 = a10 0 → b10 1 = v → post 1 (vc, hn, rc, w, a1, a2, a3, a4, a5, a6, a7, a8, a9, b10, a11, a12, a13, a14)) : wpX_draft post (vc, hn, rc, w, a1, a2, a3, a4, a5, a6, a7, a8, a9, a10, a11, a12, a13, a14) 1 v := br_f (by decide) (br_t (by decide) ⟨pk_in 1 5 (by omega), nm_e (H _ (pk_un (by decide)) pk_us)⟩)
theorem st_store {post : St2 → Prop} (H : ∀ b8 : Nat → Int32, (∀ j, j < 5 → b8 j = a11 j) → post (vc, hn, rc, w, a1, a2, a3, a4, a5, a6, a7, b8, a9, a10, a11, a12, a13, a14)) : wpX_store post (vc, hn, rc, w, a1, a2, a3, a4, a5, a6, a7, a8, a9, a10, a11, a12, a13, a14) 0 :=
  pk_loop (fun n i s => wX_store_2 post 0 vc hn rc w n (nI i) a1 a2 a3 a4 a5 a6 a7 s a9 a10 a11 a12 a13 a14) (fun i s => ∀ j, j < i → s j = a11 j) 5 0 a8 (by omega) lt_0
    (fun n s h => pk_le 5 5 (fun _ => H s h) (fun z => absurd z (by omega)))
    (fun n i s hi h hw => pk_le 5 i (fun z => absurd z (by omega)) (fun _ => ⟨pk_in i 5 hi, pk_in i 60 (by omega) (st_50 i), nm_e (nm_r (nI_1 i) (hw _ (st_fill (by rw [st_50]; exact nI_clamp (by omega)) h (by rw [nI_clamp (by omega)]))))⟩))
theorem st_load {post : St2 → Prop} (H : ∀ b11 : Nat → Int32, (∀ j, j < 5 → b11 j = a8 j) → post (vc, 0, rc, a6 0, a1, a2, a3, a4, a5, a6, a7, a8, a9, a10, b11, a12, a13, a14)) : wpX_load post (vc, 0, rc, w, a1, a2, a3, a4, a5, a6, a7, a8, a9, a10, a11, a12, a13, a14) 0 :=
  ⟨pk_in 0 8 (by omega), nm_e (pk_loop (fun n i s => wX_load_15 post 0 vc 0 rc (a6 0) n (nI i) a1 a2 a3 a4 a5 a6 a7 a8 a9 a10 s a12 a13 a14) (fun i s => ∀ j, j < i → s j = a8 j) 5 0 a11 (by omega) lt_0
    (fun n s h => pk_le 5 5 (fun _ => H s h) (fun z => absurd z (by omega)))
    (fun n i s hi h hw => pk_le 5 i (fun z => absurd z (by omega)) (fun _ => ⟨pk_in i 60 (by omega) (st_50 i), pk_in i 5 hi, nm_e (nm_r (nI_1 i) (hw _ (st_fill (nI_clamp (by omega)) h (by rw [st_50, nI_clamp (by omega)]))))⟩)))⟩
/-- the copy that climbs, up to the loop over the versions -/
theorem st_climbing {post : Int32 → St2 → Prop} {v : Int32} (hv : vp_in v 8) (H : ∀ b14 : Nat → Int32, (∀ j, j < 5 → b14 j = a11 j) → ∃ n, wX_isShownAt_35 post 0 n (a6 v.toNatClampNeg) v vc hn rc w a1 a2 a3 a4 a5 a6 a7 a8 a9 a10 a11 a12 a13 b14) : wpX_isShownAt post (vc, hn, rc, w, a1, a2, a3, a4, a5, a6, a7, a8, a9, a10, a11, a12, a13, a14) 0 v :=
  pk_loop (fun n i s => wX_isShownAt_2 post 0 v vc hn rc w n (nI i) a1 a2 a3 a4 a5 a6 a7 a8 a9 a10 a11 a12 a13 s) (fun i s => ∀ j, j < i → s j = a11 j) 5 0 a14 (by omega) lt_0
    (fun n s h => pk_le 5 5 (fun _ => ⟨hv, nm_e (H s h)⟩) (fun z => absurd z (by omega)))
    (fun n i s hi h hw => pk_le 5 i (fun z => absurd z (by omega)) (fun _ => ⟨pk_in i 5 hi, pk_in i 5 hi, nm_e (nm_r (nI_1 i) (hw _ (st_fill (nI_clamp (by omega)) h (by rw [nI_clamp (by omega)]))))⟩))
theorem st_shown0 {post : Int32 → St2 → Prop} (H : ∀ b14 : Nat → Int32, post 1 (vc, hn, rc, w, a1, a2, a3, a4, a5, a6, a7, a8, a9, a10, a11, a12, a13, b14)) : wpX_isShownAt post (vc, hn, rc, w, a1, a2, a3, a4, a5, a6, a7, a8, a9, a10, a11, a12, a13, a14) 0 0 :=
  st_climbing (pk_in 0 8 (by omega)) (fun b14 _ => ⟨1, br_t (by decide) (H b14)⟩)
theorem st_carry00 {post : St2 → Prop} (h : post (vc, hn, rc, w, a1, a2, a3, a4, a5, a6, a7, a8, a9, a10, a11, a12, a13, a14)) : wpX_carry post (vc, hn, rc, w, a1, a2, a3, a4, a5, a6, a7, a8, a9, a10, a11, a12, a13, a14) 0 0 0 1 :=
  ⟨1, st_cf00 (br_f (by decide) ⟨1, br_t rfl (nm_e ⟨1, br_t (by decide) h⟩)⟩)⟩
theorem st_sort {post : St2 → Prop} (h : post (vc, hn, 1, w, a1, a2, a3, a4, a5, a6, a7, a8, a9, a10, a11, a12, a13, a14)) : wpX_sortLast post (vc, hn, 1, w, a1, a2, a3, a4, a5, a6, a7, a8, a9, a10, a11, a12, a13, a14) := nm_e ⟨1, br_t (by decide) h⟩
end
end
section
section
variable {vc hn rc w : Int32} {a1 a2 a3 a4 a5 a6 a7 a8 a9 a10 a11 a12 a13 a14 : Nat → Int32}
theorem st_110 {post : Int32 → St2 → Prop} {key : Int32} (hk : key.toInt8.toInt32 = key)
    (H : ∀ b7 b8 b11 b14 : Nat → Int32, b7 0 = key → (∀ j, j < 5 → b8 j = a10 j) → post 1 (vc, 0, 1, w, a1, a2, a3, a4, a5, a6, b7, b8, a9, a10, b11, a12, a13, b14)) :
    ∃ n, wX_insert_110 post 0 key 0 vc 0 0 w n 0 a1 a2 a3 a4 a5 a6 a7 a8 a9 a10 a11 a12 a13 a14 :=
  pk_loop (fun n i s => wX_insert_110 post 0 key 0 vc 0 0 w n (nI i) a1 a2 a3 a4 a5 a6 a7 a8 a9 a10 s a12 a13 a14) (fun i s => ∀ j, j < i → s j = a10 j) 5 0 a11 (by omega) lt_0
    (fun n s h => pk_le 5 5 (fun _ => st_shown0 (fun b14 => br_f (by decide) (st_carry00 (st_store (fun b8 h8 => ⟨pk_in 0 12 (by omega), nm_e (nm_r (show (0 : Int32) + 1 = 1 from rfl) (st_sort (H _ b8 s b14 (pk_us.trans hk) (fun j hj => (h8 j hj).trans (h j hj)))))⟩))))) (fun z => absurd z (by omega)))
    (fun n i s hi h hw => pk_le 5 i (fun z => absurd z (by omega)) (fun _ => ⟨pk_in i 5 hi, pk_in i 5 hi, nm_e (nm_r (nI_1 i) (hw _ (st_fill (nI_clamp (by omega)) h (by rw [nI_clamp (by omega)]))))⟩))
theorem st_51 {post : Int32 → St2 → Prop} {key : Int32}
    (H : ∀ b9 b12 : Nat → Int32, ∃ n, wX_insert_110 post 0 key 0 vc 0 0 (a6 0) n 0 a1 a2 a3 a4 a5 a6 a7 a8 b9 a10 a11 b12 a13 a14) :
    ∃ n, wX_insert_51 post 0 key 0 vc 0 0 w n 0 a1 a2 a3 a4 a5 a6 a7 a8 a9 a10 a11 a12 a13 a14 :=
  pk_loop (σ := (Nat → Int32) × (Nat → Int32)) (fun n i s => wX_insert_51 post 0 key 0 vc 0 0 w n (nI i) a1 a2 a3 a4 a5 a6 a7 a8 s.1 a10 a11 s.2 a13 a14) (fun _ _ => True) 8 0 (a9, a12) (by omega) trivial
    (fun n s _ => pk_le 8 8 (fun _ => ⟨pk_in 0 8 (by omega), nm_e (H s.1 s.2)⟩) (fun z => absurd z (by omega)))
    (fun n i s hi _ hw => pk_le 8 i (fun z => absurd z (by omega)) (fun _ => ⟨pk_in i 8 hi, pk_in i 96 (by omega) (st_80 i), nm_e ⟨pk_in i 8 hi, pk_in i 8 hi, nm_e (nm_r (nI_1 i) (hw (_, _) trivial))⟩⟩))
theorem st_ins {post : Int32 → St2 → Prop} {key : Int32} (hv : ¬ vc ≤ 0) (hk : ¬ key < 0) (hk2 : key ≤ 99)
    (H : ∀ (w' : Int32) (b7 b8 b9 b11 b12 b14 : Nat → Int32), b7 0 = key → (∀ j, j < 5 → b8 j = a10 j) → post 1 (vc, 0, 1, w', a1, a2, a3, a4, a5, a6, b7, b8, b9, a10, b11, b12, a13, b14)) :
    wpX_insert post (vc, 0, 0, w, a1, a2, a3, a4, a5, a6, a7, a8, a9, a10, a11, a12, a13, a14) 0 key := by
  have hb : key.toInt8.toInt32 = key := by
    obtain ⟨j, hj, e⟩ := nI_of2 (M := 99) (n := 99) (by decide) hk hk2
    rw [e]
    exact st_byte j (by omega)
  unfold wpX_insert
  exact st_isV0 hv (br_f (by decide) (br_f hk (br_t hk2 (st_find0 (br_t (by decide) (br_t (by decide) (st_51 (fun b9 b12 => st_110 hb (fun b7 b8 b11 b14 h7 h8 => H _ b7 b8 b9 b11 b12 b14 h7 h8)))))))))
theorem st_insN {post : Int32 → St2 → Prop} {key : Int32} (hv : ¬ vc ≤ 0) (hk : key < 0 ∨ 99 < key) (H : post (-1) (vc, hn, rc, w, a1, a2, a3, a4, a5, a6, a7, a8, a9, a10, a11, a12, a13, a14)) : wpX_insert post (vc, hn, rc, w, a1, a2, a3, a4, a5, a6, a7, a8, a9, a10, a11, a12, a13, a14) 0 key := by
  unfold wpX_insert
  refine st_isV0 hv (br_f (by decide) ?_)
  by_cases h : key < 0
  · exact br_t h H
  · have h2 : ¬ key ≤ 99 := by
      rcases hk with z | z
      · exact absurd z h
      · exact Int32.not_le.mpr z
    exact br_f h (br_f h2 H)
end
end
section
section
variable {vc hn rc w : Int32} {a1 a2 a3 a4 a5 a6 a7 a8 a9 a10 a11 a12 a13 a14 : Nat → Int32}
/-! down the one edit, looking (mode 0), row 0 -/
theorem st_d0 {post : St2 → Prop} (h2 : a2 1 = 0) (H : ∀ (w' : Int32) (b11 b12 : Nat → Int32), b11 0 = a11 0 → post (vc, hn, rc, w', a1, a2, a3, a4, a5, a6, a7, a8, a9, a10, b11, b12, a13, a14)) : wpX_descend post (vc, hn, rc, 2, a1, a2, a3, a4, a5, a6, a7, a8, a9, a10, a11, a12, a13, a14) 0 1 0 :=
  ⟨pk_in 1 8 (by omega), nm_r h2 ⟨pk_in 1 8 (by omega), nm_e (br_t rfl (br_f (by decide) ⟨pk_in 1 96 (by omega), pk_in 2 5 (by omega), nm_e (nm_e (H _ _ _ (pk_un (by decide))))⟩))⟩⟩
theorem st_d10 {post : St2 → Prop} (h2 : a2 1 = 1) (h3 : a3 1 = 0) (H : ∀ (w' : Int32) (b11 b12 : Nat → Int32), b11 0 = a11 1 → post (vc, hn, rc, w', a1, a2, a3, a4, a5, a6, a7, a8, a9, a10, b11, b12, a13, a14)) : wpX_descend post (vc, hn, rc, 2, a1, a2, a3, a4, a5, a6, a7, a8, a9, a10, a11, a12, a13, a14) 0 1 0 :=
  ⟨pk_in 1 8 (by omega), nm_r h2 ⟨pk_in 1 8 (by omega), nm_r h3 (br_f (by decide) (br_t rfl ⟨pk_in 0 5 (by omega), br_t rfl ⟨pk_in 1 8 (by omega), nm_e (nm_r (show (2 : Int32) - 1 = 1 from rfl) ⟨2, br_f (by decide) ⟨pk_in 1 5 (by omega), pk_in 0 5 (by omega), nm_e (nm_e (br_t (by decide) (H _ _ _ pk_us)))⟩⟩)⟩⟩))⟩⟩
theorem st_d11 {post : St2 → Prop} (h2 : a2 1 = 1) (h3 : a3 1 = 1) (H : ∀ (w' : Int32) (b11 b12 : Nat → Int32), b11 0 = a11 0 → post (vc, hn, rc, w', a1, a2, a3, a4, a5, a6, a7, a8, a9, a10, b11, b12, a13, a14)) : wpX_descend post (vc, hn, rc, 2, a1, a2, a3, a4, a5, a6, a7, a8, a9, a10, a11, a12, a13, a14) 0 1 0 :=
  ⟨pk_in 1 8 (by omega), nm_r h2 ⟨pk_in 1 8 (by omega), nm_r h3 (br_f (by decide) (br_t rfl ⟨pk_in 1 5 (by omega), br_t rfl ⟨pk_in 1 8 (by omega), nm_e (nm_r (show (2 : Int32) - 1 = 1 from rfl) ⟨1, br_t (by decide) (H _ _ _ rfl)⟩)⟩⟩))⟩⟩
theorem st_d20 {post : St2 → Prop} (h2 : a2 1 = 2) (h3 : a3 1 = 0) (H : ∀ b11 : Nat → Int32, b11 0 = a11 0 + a5 1 → post (vc, hn, rc, w, a1, a2, a3, a4, a5, a6, a7, a8, a9, a10, b11, a12, a13, a14)) : wpX_descend post (vc, hn, rc, w, a1, a2, a3, a4, a5, a6, a7, a8, a9, a10, a11, a12, a13, a14) 0 1 0 :=
  ⟨pk_in 1 8 (by omega), nm_r h2 ⟨pk_in 1 8 (by omega), nm_r h3 (br_f (by decide) (br_f (by decide) (br_t rfl ⟨pk_in 0 5 (by omega), pk_in 1 8 (by omega), pk_in 0 5 (by omega), nm_e (H _ pk_us)⟩)))⟩⟩
theorem st_d21 {post : St2 → Prop} (h2 : a2 1 = 2) (h3 : a3 1 = 1) (H : ∀ b11 : Nat → Int32, b11 0 = a11 0 → post (vc, hn, rc, w, a1, a2, a3, a4, a5, a6, a7, a8, a9, a10, b11, a12, a13, a14)) : wpX_descend post (vc, hn, rc, w, a1, a2, a3, a4, a5, a6, a7, a8, a9, a10, a11, a12, a13, a14) 0 1 0 :=
  ⟨pk_in 1 8 (by omega), nm_r h2 ⟨pk_in 1 8 (by omega), nm_r h3 (br_f (by decide) (br_f (by decide) (br_t rfl ⟨pk_in 1 5 (by omega), pk_in 1 8 (by omega), pk_in 1 5 (by omega), nm_e (H _ (pk_un (by decide)))⟩)))⟩⟩
theorem st_d3 {post : St2 → Prop} (h2 : a2 1 = 3) (H : post (vc, hn, rc, w, a1, a2, a3, a4, a5, a6, a7, a8, a9, a10, a11, a12, a13, a14)) : wpX_descend post (vc, hn, rc, w, a1, a2, a3, a4, a5, a6, a7, a8, a9, a10, a11, a12, a13, a14) 0 1 0 :=
  ⟨pk_in 1 8 (by omega), nm_r h2 ⟨pk_in 1 8 (by omega), nm_e (br_f (by decide) (br_f (by decide) (br_f (by decide) (br_f (by decide) (br_f (by decide) H)))))⟩⟩
theorem st_xc {post : St2 → Prop} {x z : Int32} (hx : vp_in x 5) (hz : vp_in z 5) (H : post (vc, hn, rc, w, a1, a2, a3, a4, a5, a6, a7, a8, a9, a10, upd (upd a11 x.toNatClampNeg (a11 z.toNatClampNeg)) z.toNatClampNeg (a11 x.toNatClampNeg), a12, a13, a14)) : wpX_exchangeColumns post (vc, hn, rc, w, a1, a2, a3, a4, a5, a6, a7, a8, a9, a10, a11, a12, a13, a14) x z :=
  ⟨hx, nm_e ⟨hz, hx, nm_e ⟨hz, nm_e H⟩⟩⟩
theorem st_d4 {post : St2 → Prop} {x z : Int32} (h2 : a2 1 = 4) (h3 : a3 1 = x) (h4 : a4 1 = z) (hx : vp_in x 5) (hz : vp_in z 5) (H : post (vc, hn, rc, w, a1, a2, a3, a4, a5, a6, a7, a8, a9, a10, upd (upd a11 x.toNatClampNeg (a11 z.toNatClampNeg)) z.toNatClampNeg (a11 x.toNatClampNeg), a12, a13, a14)) : wpX_descend post (vc, hn, rc, w, a1, a2, a3, a4, a5, a6, a7, a8, a9, a10, a11, a12, a13, a14) 0 1 0 := by
  refine ⟨pk_in 1 8 (by omega), nm_r h2 ⟨pk_in 1 8 (by omega), nm_r h3 (br_f (by decide) (br_f (by decide) (br_f (by decide) (br_t rfl ⟨pk_in 1 8 (by omega), ?_⟩))))⟩⟩
  have e : a4 (1 : Int32).toNatClampNeg = z := h4
  rw [e]
  exact st_xc hx hz H
theorem st_d5 {post : St2 → Prop} {x z : Int32} (h2 : a2 1 = 5) (h3 : a3 1 = x) (h4 : a4 1 = z) (hx : vp_in x 5) (hz : vp_in z 5) (H : post (vc, hn, rc, w, a1, a2, a3, a4, a5, a6, a7, a8, a9, a10, upd a11 x.toNatClampNeg (a11 x.toNatClampNeg + a11 z.toNatClampNeg), a12, a13, a14)) : wpX_descend post (vc, hn, rc, w, a1, a2, a3, a4, a5, a6, a7, a8, a9, a10, a11, a12, a13, a14) 0 1 0 := by
  have e : a4 (1 : Int32).toNatClampNeg = z := h4
  refine ⟨pk_in 1 8 (by omega), nm_r h2 ⟨pk_in 1 8 (by omega), nm_r h3 (br_f (by decide) (br_f (by decide) (br_f (by decide) (br_f (by decide) (br_t rfl ⟨hx, pk_in 1 8 (by omega), ?_, hx, ?_⟩)))))⟩⟩
  · rw [e]
    exact hz
  · exact nm_r (by rw [e]) H
theorem st_desc {post : St2 → Prop} {k x z y : Int32} (hV : st_V k x z y a1 a2 a3 a4 a5 a6) (hG : st_G k x z)
    (H : ∀ (w' : Int32) (b11 b12 : Nat → Int32), b11 0 = st_F k x z (a11 0) (a11 1) y → (k = 3 → b11 0 = a11 0 ∧ b11 1 = a11 1) → post (vc, hn, rc, w', a1, a2, a3, a4, a5, a6, a7, a8, a9, a10, b11, b12, a13, a14)) : wpX_descend post (vc, hn, rc, 2, a1, a2, a3, a4, a5, a6, a7, a8, a9, a10, a11, a12, a13, a14) 0 1 0 := by
  obtain ⟨h1, h2, h3, h4, h5, -, -, -⟩ := hV
  rcases hG with rfl | ⟨rfl, rfl | rfl⟩ | ⟨rfl, rfl | rfl⟩ | ⟨rfl, hx⟩ | ⟨rfl, rfl | rfl, rfl | rfl⟩ | ⟨rfl, ⟨rfl, rfl⟩ | ⟨rfl, rfl⟩⟩
  · exact st_d0 h2 (fun w' b11 b12 e => H w' b11 b12 (by rw [e]; simp [st_F]) (fun q => absurd q (by decide)))
  · exact st_d10 h2 h3 (fun w' b11 b12 e => H w' b11 b12 (by rw [e]; simp [st_F]) (fun q => absurd q (by decide)))
  · exact st_d11 h2 h3 (fun w' b11 b12 e => H w' b11 b12 (by rw [e]; simp [st_F]) (fun q => absurd q (by decide)))
  · exact st_d20 h2 h3 (fun b11 e => H 2 b11 a12 (by rw [e, h5]; simp [st_F]) (fun q => absurd q (by decide)))
  · exact st_d21 h2 h3 (fun b11 e => H 2 b11 a12 (by rw [e]; simp [st_F]) (fun q => absurd q (by decide)))
  · exact st_d3 h2 (H 2 a11 a12 (by simp [st_F]) (fun _ => ⟨rfl, rfl⟩))
  · exact st_d4 h2 h3 h4 (pk_in 0 5 (by omega)) (pk_in 0 5 (by omega)) (H 2 _ a12 ((show _ = a11 0 from pk_us).trans (by simp [st_F])) (fun q => absurd q (by decide)))
  · exact st_d4 h2 h3 h4 (pk_in 0 5 (by omega)) (pk_in 1 5 (by omega)) (H 2 _ a12 (((pk_un (by decide)).trans (show _ = a11 1 from pk_us)).trans (by simp [st_F])) (fun q => absurd q (by decide)))
  · exact st_d4 h2 h3 h4 (pk_in 1 5 (by omega)) (pk_in 0 5 (by omega)) (H 2 _ a12 ((show _ = a11 1 from pk_us).trans (by simp [st_F])) (fun q => absurd q (by decide)))
  · exact st_d4 h2 h3 h4 (pk_in 1 5 (by omega)) (pk_in 1 5 (by omega)) (H 2 _ a12 (((pk_un (by decide)).trans (show _ = a11 0 from pk_un (by decide))).trans (by simp [st_F])) (fun q => absurd q (by decide)))
  · exact st_d5 h2 h3 h4 (pk_in 0 5 (by omega)) (pk_in 1 5 (by omega)) (H 2 _ a12 ((show _ = a11 0 + a11 1 from pk_us).trans (by simp [st_F])) (fun q => absurd q (by decide)))
  · exact st_d5 h2 h3 h4 (pk_in 1 5 (by omega)) (pk_in 0 5 (by omega)) (H 2 _ a12 ((show _ = a11 0 from pk_un (by decide)).trans (by simp [st_F])) (fun q => absurd q (by decide)))
theorem st_carry01 {post : St2 → Prop} {k x z y : Int32} (hV : st_V k x z y a1 a2 a3 a4 a5 a6) (hG : st_G k x z)
    (H : ∀ (w' : Int32) (b11 b12 b13 : Nat → Int32), b11 0 = st_F k x z (a11 0) (a11 1) y → (k = 3 → b11 0 = a11 0 ∧ b11 1 = a11 1) → post (vc, hn, rc, w', a1, a2, a3, a4, a5, a6, a7, a8, a9, a10, b11, b12, b13, a14)) : wpX_carry post (vc, hn, rc, 2, a1, a2, a3, a4, a5, a6, a7, a8, a9, a10, a11, a12, a13, a14) 0 0 1 0 := by
  have h1 := hV.1
  refine ⟨1, st_cf10 h1 (br_f (by decide) ⟨2, br_f (by decide) ⟨pk_in 0 8 (by omega), nm_e (nm_r (show (0 : Int32) + 1 = 1 from rfl) ⟨pk_in 1 8 (by omega), nm_r h1 (br_t rfl (nm_r (show (1 : Int32) - 1 = 0 from rfl) ⟨2, br_f (by decide) ⟨pk_in 0 8 (by omega), ?_⟩⟩))⟩)⟩⟩)⟩
  rw [show upd a13 (0 : Int32).toNatClampNeg (1 : Int32).toInt8.toInt32 (0 : Int32).toNatClampNeg = 1 from pk_us]
  exact st_desc hV hG (fun w' b11 b12 e e3 => nm_e (br_t (by decide) (H w' b11 b12 _ e e3)))
/-! whether it is shown: the copy climbs the one edit -/
theorem st_cp {post : St2 → Prop} {k x z : Int32} (hk : k = 2 ∨ k = 3 ∨ k = 4 ∨ k = 5) (hx : vp_in x 5) (hz : k = 4 ∨ k = 5 → vp_in z 5) (H : ∀ b14 : Nat → Int32, post (vc, hn, rc, w, a1, a2, a3, a4, a5, a6, a7, a8, a9, a10, a11, a12, a13, b14)) : wpX_climbPlain post (vc, hn, rc, w, a1, a2, a3, a4, a5, a6, a7, a8, a9, a10, a11, a12, a13, a14) 1 k x z := by
  rcases hk with rfl | rfl | rfl | rfl
  · exact br_t rfl ⟨hx, pk_in 1 8 (by omega), hx, nm_e (H _)⟩
  · exact br_f (by decide) (br_f (by decide) (br_f (by decide) (H _)))
  · have hz := hz (Or.inl rfl)
    exact br_f (by decide) (br_f (by decide) (br_t rfl ⟨hx, nm_e ⟨hz, hx, nm_e ⟨hz, nm_e (H _)⟩⟩⟩))
  · have hz := hz (Or.inr rfl)
    exact br_f (by decide) (br_t rfl ⟨hx, hz, hx, nm_e (H _)⟩)
theorem st_83p {post : Int32 → St2 → Prop} {c k x : Int32} {n : Nat} (h1 : a1 1 = 0) (hk : k = 2 ∨ k = 3 ∨ k = 4 ∨ k = 5) (hx : vp_in x 5) (hz : k = 4 ∨ k = 5 → vp_in (a4 1) 5) (H : ∀ b14 : Nat → Int32, post 1 (vc, hn, rc, w, a1, a2, a3, a4, a5, a6, a7, a8, a9, a10, a11, a12, a13, b14)) : wX_isShownAt_83 post (wX_isShownAt_35 post 0 (n + 1)) 0 c 1 x k vc hn rc w a1 a2 a3 a4 a5 a6 a7 a8 a9 a10 a11 a12 a13 a14 := by
  have k0 : ¬ k = 0 := by rcases hk with rfl | rfl | rfl | rfl <;> decide
  have k1 : ¬ k = 1 := by rcases hk with rfl | rfl | rfl | rfl <;> decide
  exact br_f k0 (br_f k1 ⟨pk_in 1 8 (by omega), st_cp hk hx hz (fun b14 => ⟨pk_in 1 8 (by omega), nm_r h1 (br_t (by decide) (H b14))⟩)⟩)
theorem st_173 {post : Int32 → St2 → Prop} {c x v : Int32} {n : Nat} (h1 : a1 1 = 0) (hx : vp_in x 5) (H : ∀ b14 : Nat → Int32, post 1 (vc, hn, rc, w, a1, a2, a3, a4, a5, a6, a7, a8, a9, a10, a11, a12, a13, b14)) : wX_isShownAt_173 post (wX_isShownAt_35 post 0 (n + 1)) 0 c 1 v x vc hn rc w a1 a2 a3 a4 a5 a6 a7 a8 a9 a10 a11 a12 a13 a14 :=
  ⟨hx, nm_e (nm_e ⟨pk_in 1 8 (by omega), nm_r h1 (br_t (by decide) (H _))⟩)⟩
theorem st_35 {post : Int32 → St2 → Prop} {k x z y : Int32} (hV : st_V k x z y a1 a2 a3 a4 a5 a6) (hG : st_G k x z)
    (H1 : ¬ st_H k x (a14 0) (a14 1) y → ∀ b14 : Nat → Int32, post 1 (vc, 0, rc, w, a1, a2, a3, a4, a5, a6, a7, a8, a9, a10, a11, a12, a13, b14)) (H0 : st_H k x (a14 0) (a14 1) y → ∀ b14 : Nat → Int32, post 0 (vc, 0, rc, w, a1, a2, a3, a4, a5, a6, a7, a8, a9, a10, a11, a12, a13, b14)) :
    wX_isShownAt_35 post 0 2 (a6 1) 1 vc 0 rc w a1 a2 a3 a4 a5 a6 a7 a8 a9 a10 a11 a12 a13 a14 := by
  obtain ⟨h1, h2, h3, h4, h5, -, -, h6⟩ := hV
  refine br_f (by decide) ⟨pk_in 1 8 (by omega), nm_r h3 ⟨pk_in 1 8 (by omega), nm_r h2 ?_⟩⟩
  rcases hG with rfl | ⟨rfl, hx⟩ | ⟨rfl, hx⟩ | ⟨rfl, rfl | rfl⟩ | ⟨rfl, hx, hz⟩ | ⟨rfl, hxz⟩
  · exact br_f (by decide) (br_t rfl (nm_e ⟨pk_in 1 8 (by omega), nm_r h1 (br_t (by decide) (H1 (st_Hn (by decide)) a14))⟩))
  · have e6 := h6 rfl
    refine br_f (by decide) (br_f (by decide) (br_t rfl ⟨2, ?_⟩))
    rw [e6]
    rcases hx with rfl | rfl
    · exact br_f (by decide) ⟨pk_in 0 5 (by omega), pk_in 1 5 (by omega), nm_e (nm_e (br_t (by decide) (st_cf01 (br_t rfl ⟨pk_in 1 8 (by omega), st_173 h1 (pk_in 0 5 (by omega)) (H1 (st_Hn (by decide)))⟩))))⟩
    · exact br_t (by decide) (st_cf01 (br_t rfl ⟨pk_in 1 8 (by omega), st_173 h1 (pk_in 1 5 (by omega)) (H1 (st_Hn (by decide)))⟩))
  · have ix : vp_in x 5 := by
      rcases hx with rfl | rfl
      · exact pk_in 0 5 (by omega)
      · exact pk_in 1 5 (by omega)
    exact br_f (by decide) (st_83p h1 (Or.inl rfl) ix (fun q => absurd q (by decide)) (H1 (st_Hn (by decide))))
  · exact br_t rfl ⟨pk_in 0 5 (by omega), pk_in 1 8 (by omega), br_c (fun h => st_83p h1 (Or.inr (Or.inl rfl)) (pk_in 0 5 (by omega)) (fun q => absurd q (by decide)) (H1 (fun q => st_H30.mp q (h5 ▸ h)))) (fun h => H0 (st_H30.mpr (h5 ▸ h)) a14)⟩
  · exact br_t rfl ⟨pk_in 1 5 (by omega), pk_in 1 8 (by omega), br_c (fun h => st_83p h1 (Or.inr (Or.inl rfl)) (pk_in 1 5 (by omega)) (fun q => absurd q (by decide)) (H1 (fun q => st_H31.mp q (h5 ▸ h)))) (fun h => H0 (st_H31.mpr (h5 ▸ h)) a14)⟩
  · have ix : vp_in x 5 := by
      rcases hx with rfl | rfl
      · exact pk_in 0 5 (by omega)
      · exact pk_in 1 5 (by omega)
    have iz : vp_in (a4 1) 5 := by
      rw [h4]
      rcases hz with rfl | rfl
      · exact pk_in 0 5 (by omega)
      · exact pk_in 1 5 (by omega)
    exact br_f (by decide) (st_83p h1 (Or.inr (Or.inr (Or.inl rfl))) ix (fun _ => iz) (H1 (st_Hn (by decide))))
  · have ix : vp_in x 5 := by
      rcases hxz with ⟨rfl, rfl⟩ | ⟨rfl, rfl⟩
      · exact pk_in 0 5 (by omega)
      · exact pk_in 1 5 (by omega)
    have iz : vp_in (a4 1) 5 := by
      rw [h4]
      rcases hxz with ⟨rfl, rfl⟩ | ⟨rfl, rfl⟩
      · exact pk_in 1 5 (by omega)
      · exact pk_in 0 5 (by omega)
    exact br_f (by decide) (st_83p h1 (Or.inr (Or.inr (Or.inr rfl))) ix (fun _ => iz) (H1 (st_Hn (by decide))))
theorem st_shown1 {post : Int32 → St2 → Prop} {k x z y : Int32} (hV : st_V k x z y a1 a2 a3 a4 a5 a6) (hG : st_G k x z)
    (H1 : ¬ st_H k x (a11 0) (a11 1) y → ∀ b14 : Nat → Int32, post 1 (vc, 0, rc, w, a1, a2, a3, a4, a5, a6, a7, a8, a9, a10, a11, a12, a13, b14)) (H0 : st_H k x (a11 0) (a11 1) y → ∀ b14 : Nat → Int32, post 0 (vc, 0, rc, w, a1, a2, a3, a4, a5, a6, a7, a8, a9, a10, a11, a12, a13, b14)) :
    wpX_isShownAt post (vc, 0, rc, w, a1, a2, a3, a4, a5, a6, a7, a8, a9, a10, a11, a12, a13, a14) 0 1 := by
  refine st_climbing (pk_in 1 8 (by omega)) (fun b14 h => ⟨2, ?_⟩)
  refine st_35 hV hG (fun q => H1 (fun q' => q ?_)) (fun q => H0 ?_)
  · rw [h 0 (by omega), h 1 (by omega)]
    exact q'
  · rw [h 0 (by omega), h 1 (by omega)] at q
    exact q
theorem st_look {post : Int32 → St2 → Prop} {k x z y : Int32} (hV : st_V k x z y a1 a2 a3 a4 a5 a6) (hG : st_G k x z)
    (H1 : ¬ st_H k x (a8 0) (a8 1) y → ∀ (w' : Int32) (b11 b12 b13 b14 : Nat → Int32), b11 0 = st_F k x z (a8 0) (a8 1) y → post 1 (vc, 0, rc, w', a1, a2, a3, a4, a5, a6, a7, a8, a9, a10, b11, b12, b13, b14))
    (H0 : st_H k x (a8 0) (a8 1) y → ∀ (w' : Int32) (b11 b12 b13 b14 : Nat → Int32), post 0 (vc, 0, rc, w', a1, a2, a3, a4, a5, a6, a7, a8, a9, a10, b11, b12, b13, b14)) :
    wpX_look post (vc, 0, rc, w, a1, a2, a3, a4, a5, a6, a7, a8, a9, a10, a11, a12, a13, a14) 0 1 := by
  unfold wpX_look
  refine st_load (fun c11 hc => ?_)
  have e6 : a6 0 = 2 := hV.2.2.2.2.2.1
  rw [e6]
  refine st_carry01 hV hG (fun w' b11 b12 b13 e e3 => ?_)
  rw [hc 0 (by omega), hc 1 (by omega)] at e e3
  have eH : st_H k x (b11 0) (b11 1) y ↔ st_H k x (a8 0) (a8 1) y := by
    constructor
    · intro q
      rw [(e3 q.1).1, (e3 q.1).2] at q
      exact q
    · intro q
      rw [(e3 q.1).1, (e3 q.1).2]
      exact q
  exact st_shown1 hV hG (fun q b14 => ⟨rfl, H1 (fun q' => q (eH.mpr q')) w' b11 b12 b13 b14 e⟩) (fun q b14 => ⟨rfl, H0 (eH.mp q) w' b11 b12 b13 b14⟩)
end
end
section
section
variable {vc hn rc w : Int32} {a1 a2 a3 a4 a5 a6 a7 a8 a9 a10 a11 a12 a13 a14 : Nat → Int32}
def st_GN (k x z : Nat) : Prop := k ≤ 5 ∧ (k = 0 ∨ x < 2) ∧ (k < 4 ∨ z < 2) ∧ (k ≠ 5 ∨ x ≠ z)
theorem st_two {x : Nat} (h : x < 2) : nI x = 0 ∨ nI x = 1 := by
  rcases (by omega : x = 0 ∨ x = 1) with rfl | rfl
  · exact Or.inl rfl
  · exact Or.inr rfl
theorem st_GofN {k x z : Nat} (h : st_GN k x z) : st_G (nI k) (nI x) (nI z) := by
  obtain ⟨h1, h2, h3, h4⟩ := h
  rcases (by omega : k = 0 ∨ k = 1 ∨ k = 2 ∨ k = 3 ∨ k = 4 ∨ k = 5) with rfl | rfl | rfl | rfl | rfl | rfl
  · exact Or.inl rfl
  · exact Or.inr (Or.inl ⟨rfl, st_two (by omega)⟩)
  · exact Or.inr (Or.inr (Or.inl ⟨rfl, st_two (by omega)⟩))
  · exact Or.inr (Or.inr (Or.inr (Or.inl ⟨rfl, st_two (by omega)⟩)))
  · exact Or.inr (Or.inr (Or.inr (Or.inr (Or.inl ⟨rfl, st_two (by omega), st_two (by omega)⟩))))
  · rcases (by omega : (x = 0 ∧ z = 1) ∨ (x = 1 ∧ z = 0)) with ⟨rfl, rfl⟩ | ⟨rfl, rfl⟩
    · exact Or.inr (Or.inr (Or.inr (Or.inr (Or.inr ⟨rfl, Or.inl ⟨rfl, rfl⟩⟩))))
    · exact Or.inr (Or.inr (Or.inr (Or.inr (Or.inr ⟨rfl, Or.inr ⟨rfl, rfl⟩⟩))))
theorem st_isC0 {post : Int32 → Prop} {x : Nat} (hx : x < 8) (h6 : a6 0 = 2) (hB : 2 ≤ x → post 0) (hG : x < 2 → post 1) : wpX_isColumn post (vc, hn, rc, w, a1, a2, a3, a4, a5, a6, a7, a8, a9, a10, a11, a12, a13, a14) 0 (nI x) :=
  br_f (nI_pos (by omega)) ⟨pk_in 0 8 (by omega), pk_le 2 x hB hG h6⟩
theorem st_e141 {post : Int32 → St2 → Prop} {y z0 z1 : Int32} {k x z c : Nat} (hk : k < 8) (hx : x < 8) (hz : z < 8) (h6 : a6 0 = 2) (hc : z1 + z0 = nI c) (c1 : 1 ≤ c) (c3 : c ≤ 3) (ck : k = 1 → c = 1)
    (HG : ∀ b1 b2 b3 b4 b5 b6 : Nat → Int32, st_V (nI k) (nI x) (nI z) y b1 b2 b3 b4 b5 b6 → post 1 (2, hn, 0, w, b1, b2, b3, b4, b5, b6, a7, a8, a9, a10, a11, a12, a13, a14)) :
    wX_edit_141 post 0 y (nI k) (nI x) (nI z) z0 z1 1 hn 0 w a1 a2 a3 a4 a5 a6 a7 a8 a9 a10 a11 a12 a13 a14 := by
  refine nm_r hc (pk_lt c 1 (fun q => absurd q (by omega)) (fun _ => pk_le c 5 (fun _ => nm_r (show (1 : Int32) + 1 = 2 from rfl) ⟨pk_in 1 8 (by omega), nm_e ⟨pk_in 1 8 (by omega), nm_r (by rw [st_byte k (by omega)]) ⟨pk_in 1 8 (by omega), nm_r (by rw [st_byte x (by omega)]) ⟨pk_in 1 8 (by omega), nm_r (by rw [st_byte z (by omega)]) ⟨pk_in 1 8 (by omega), nm_e ⟨pk_in 1 8 (by omega), nm_r (by rw [st_byte c (by omega)]) ⟨1, br_t (by decide) ?_⟩⟩⟩⟩⟩⟩⟩) (fun q => absurd q (by omega))))
  refine HG _ _ _ _ _ _ ⟨pk_us, pk_us, pk_us, pk_us, pk_us, (pk_un (by decide)).trans h6, ?_, fun e => ?_⟩
  · rw [show upd a6 (1 : Int32).toNatClampNeg (nI c) 1 = nI c from pk_us]
    exact nI_nle (by omega) (by omega)
  · rw [show upd a6 (1 : Int32).toNatClampNeg (nI c) 1 = nI c from pk_us, ck ((nI_eq (by omega) (by omega)).mp (show nI k = nI 1 from e))]
    rfl
theorem st_e115 {post : Int32 → St2 → Prop} {y : Int32} {k x z : Nat} (hk : k < 8) (hx : x < 8) (hz : z < 8) (h6 : a6 0 = 2)
    (HG : ∀ b1 b2 b3 b4 b5 b6 : Nat → Int32, st_V (nI k) (nI x) (nI z) y b1 b2 b3 b4 b5 b6 → post 1 (2, hn, 0, w, b1, b2, b3, b4, b5, b6, a7, a8, a9, a10, a11, a12, a13, a14)) :
    wX_edit_115 post 0 y (nI k) (nI x) (nI z) 1 hn 0 w a1 a2 a3 a4 a5 a6 a7 a8 a9 a10 a11 a12 a13 a14 := by
  have e : a6 (0 : Int32).toNatClampNeg = 2 := h6
  refine ⟨pk_in 0 8 (by omega), pk_eq k 0 (fun q => st_e141 (c := 3) hk hx hz h6 (by rw [e]; rfl) (by omega) (by omega) (by omega) HG) (fun q => pk_eq k 1 (fun q => st_e141 (c := 1) hk hx hz h6 (by rw [e]; rfl) (by omega) (by omega) (by omega) HG) (fun q => st_e141 (c := 2) hk hx hz h6 (by rw [e]; rfl) (by omega) (by omega) (by omega) HG))⟩
theorem st_e100 {post : Int32 → St2 → Prop} {y : Int32} {k x z : Nat} (hk : k < 8) (hx : x < 8) (hz : z < 8) (h6 : a6 0 = 2)
    (HB : k = 5 → x = z → post (-1) (1, hn, 0, w, a1, a2, a3, a4, a5, a6, a7, a8, a9, a10, a11, a12, a13, a14))
    (HG : (k = 5 → x ≠ z) → ∀ b1 b2 b3 b4 b5 b6 : Nat → Int32, st_V (nI k) (nI x) (nI z) y b1 b2 b3 b4 b5 b6 → post 1 (2, hn, 0, w, b1, b2, b3, b4, b5, b6, a7, a8, a9, a10, a11, a12, a13, a14)) :
    wX_edit_100 post 0 y (nI k) (nI x) (nI z) 1 hn 0 w a1 a2 a3 a4 a5 a6 a7 a8 a9 a10 a11 a12 a13 a14 :=
  pk_eq k 5 (fun q => pk_eq x z (fun q2 => HB q q2) (fun q2 => st_e115 hk hx hz h6 (HG (fun _ => q2)))) (fun q => st_e115 hk hx hz h6 (HG (fun q2 => absurd q2 q)))
theorem st_e88 {post : Int32 → St2 → Prop} {y : Int32} {k x z : Nat} (hk : k < 8) (hx : x < 8) (hz : z < 8) (h6 : a6 0 = 2) (hk4 : 4 ≤ k)
    (HB : ¬ ((k < 4 ∨ z < 2) ∧ (k ≠ 5 ∨ x ≠ z)) → post (-1) (1, hn, 0, w, a1, a2, a3, a4, a5, a6, a7, a8, a9, a10, a11, a12, a13, a14))
    (HG : ((k < 4 ∨ z < 2) ∧ (k ≠ 5 ∨ x ≠ z)) → ∀ b1 b2 b3 b4 b5 b6 : Nat → Int32, st_V (nI k) (nI x) (nI z) y b1 b2 b3 b4 b5 b6 → post 1 (2, hn, 0, w, b1, b2, b3, b4, b5, b6, a7, a8, a9, a10, a11, a12, a13, a14)) :
    wX_edit_88 post 0 y (nI k) (nI x) (nI z) 1 hn 0 w a1 a2 a3 a4 a5 a6 a7 a8 a9 a10 a11 a12 a13 a14 := by
  unfold wX_edit_88
  exact st_isC0 hz h6 (fun q => br_t rfl (HB (by omega))) (fun q => br_f (by decide) (st_e100 hk hx hz h6 (fun p p2 => HB (by omega)) (fun p => HG (by omega))))
theorem st_e76 {post : Int32 → St2 → Prop} {y : Int32} {k x z : Nat} (hk : k < 8) (hx : x < 8) (hz : z < 8) (h6 : a6 0 = 2) (hk5 : k ≤ 5)
    (HB : ¬ ((k < 4 ∨ z < 2) ∧ (k ≠ 5 ∨ x ≠ z)) → post (-1) (1, hn, 0, w, a1, a2, a3, a4, a5, a6, a7, a8, a9, a10, a11, a12, a13, a14))
    (HG : ((k < 4 ∨ z < 2) ∧ (k ≠ 5 ∨ x ≠ z)) → ∀ b1 b2 b3 b4 b5 b6 : Nat → Int32, st_V (nI k) (nI x) (nI z) y b1 b2 b3 b4 b5 b6 → post 1 (2, hn, 0, w, b1, b2, b3, b4, b5, b6, a7, a8, a9, a10, a11, a12, a13, a14)) :
    wX_edit_76 post 0 y (nI k) (nI x) (nI z) 1 hn 0 w a1 a2 a3 a4 a5 a6 a7 a8 a9 a10 a11 a12 a13 a14 :=
  pk_eq k 4 (fun q => st_e88 hk hx hz h6 (by omega) HB HG) (fun q => pk_eq k 5 (fun q2 => st_e88 hk hx hz h6 (by omega) HB HG) (fun q2 => st_e100 hk hx hz h6 (fun p _ => absurd p q2) (fun p => HG (by omega))))
theorem st_edN {post : Int32 → St2 → Prop} {p1 y : Int32} {k x z : Nat} (hk : k < 8) (hx : x < 8) (hz : z < 8) (h6 : a6 0 = 2) (h0 : ¬ p1 < 0) (h1 : p1 ≤ 511)
    (ek : p1 &&& 7 = nI k) (ex : (p1 >>> ((3 : Int32) &&& 31)) &&& 7 = nI x) (ez : p1 >>> ((6 : Int32) &&& 31) = nI z)
    (HB : ¬ st_GN k x z → post (-1) (1, hn, 0, w, a1, a2, a3, a4, a5, a6, a7, a8, a9, a10, a11, a12, a13, a14))
    (HG : st_GN k x z → ∀ b1 b2 b3 b4 b5 b6 : Nat → Int32, st_V (nI k) (nI x) (nI z) y b1 b2 b3 b4 b5 b6 → post 1 (2, hn, 0, w, b1, b2, b3, b4, b5, b6, a7, a8, a9, a10, a11, a12, a13, a14)) :
    wpX_edit post (1, hn, 0, w, a1, a2, a3, a4, a5, a6, a7, a8, a9, a10, a11, a12, a13, a14) 0 p1 y := by
  unfold wpX_edit
  exact st_isV0 (by decide) (br_f (by decide) (br_f h0 (br_t h1 (br_t (by decide) (nm_r ek (nm_r ex (nm_r ez (pk_lt 5 k (fun q => HB (fun g => absurd g.1 (by omega)))
    (fun q => pk_eq k 0 (fun q2 => st_e76 hk hx hz h6 q (fun p => HB (fun g => p g.2.2)) (fun p => HG ⟨q, Or.inl q2, p⟩))
      (fun q2 => st_isC0 hx h6 (fun q3 => br_t rfl (HB (fun g => absurd g.2.1 (by omega)))) (fun q3 => br_f (by decide) (st_e76 hk hx hz h6 q (fun p => HB (fun g => p g.2.2)) (fun p => HG ⟨q, Or.inr q3, p⟩)))))))))))))
theorem st_edR {post : Int32 → St2 → Prop} {p1 y : Int32} (h : p1 < 0 ∨ 511 < p1) (H : post (-1) (1, hn, rc, w, a1, a2, a3, a4, a5, a6, a7, a8, a9, a10, a11, a12, a13, a14)) : wpX_edit post (1, hn, rc, w, a1, a2, a3, a4, a5, a6, a7, a8, a9, a10, a11, a12, a13, a14) 0 p1 y := by
  unfold wpX_edit
  refine st_isV0 (by decide) (br_f (by decide) ?_)
  by_cases h0 : p1 < 0
  · exact br_t h0 H
  · have h2 : ¬ p1 ≤ 511 := by
      rcases h with z | z
      · exact absurd z h0
      · exact Int32.not_le.mpr z
    exact br_f h0 (br_f h2 H)
end
end
section
section
variable {vc hn rc w : Int32} {a1 a2 a3 a4 a5 a6 a7 a8 a9 a10 a11 a12 a13 a14 : Nat → Int32}
/-! the two questions, in each case -/
theorem st_valb {post : Int32 → St2 → Prop} {x4 : Int32} (hf : ∀ P : Int32 → Prop, (∀ r, P r) → wpX_find P (1, hn, rc, w, a1, a2, a3, a4, a5, a6, a7, a8, a9, a10, a11, a12, a13, a14) x4) (H : post 0 (1, hn, rc, w, a1, a2, a3, a4, a5, a6, a7, a8, a9, a10, a11, a12, a13, a14)) : wpX_value post (1, hn, rc, w, a1, a2, a3, a4, a5, a6, a7, a8, a9, a10, a11, a12, a13, a14) 1 x4 0 := by
  unfold wpX_value
  exact hf _ (fun r => st_isV1f (br_t rfl H))
theorem st_valn {post : Int32 → St2 → Prop} {x4 : Int32} (h6 : ¬ a6 1 ≤ 0) (H : post 0 (2, hn, 0, w, a1, a2, a3, a4, a5, a6, a7, a8, a9, a10, a11, a12, a13, a14)) : wpX_value post (2, hn, 0, w, a1, a2, a3, a4, a5, a6, a7, a8, a9, a10, a11, a12, a13, a14) 1 x4 0 := by
  unfold wpX_value
  exact st_find0 (st_isV1t (br_f (by decide) (st_isC10 h6 (br_f (by decide) (br_t (by decide) H)))))
theorem st_valk {post : Int32 → St2 → Prop} {x4 k x z y : Int32} (hV : st_V k x z y a1 a2 a3 a4 a5 a6) (hG : st_G k x z) (h7 : a7 0 = x4)
    (H1 : ¬ st_H k x (a8 0) (a8 1) y → ∀ (w' : Int32) (b11 b12 b13 b14 : Nat → Int32), post (st_F k x z (a8 0) (a8 1) y) (2, 0, 1, w', a1, a2, a3, a4, a5, a6, a7, a8, a9, a10, b11, b12, b13, b14))
    (H0 : st_H k x (a8 0) (a8 1) y → ∀ (w' : Int32) (b11 b12 b13 b14 : Nat → Int32), post 0 (2, 0, 1, w', a1, a2, a3, a4, a5, a6, a7, a8, a9, a10, b11, b12, b13, b14)) :
    wpX_value post (2, 0, 1, w, a1, a2, a3, a4, a5, a6, a7, a8, a9, a10, a11, a12, a13, a14) 1 x4 0 := by
  unfold wpX_value
  exact st_find1 h7 (st_isV1t (br_f (by decide) (st_isC10 hV.2.2.2.2.2.2.1 (br_f (by decide) (br_f (by decide) (st_look hV hG
    (fun q w' b11 b12 b13 b14 e => br_f (by decide) ⟨pk_in 0 5 (by omega), ek_v (P := fun r => post r (2, 0, 1, w', a1, a2, a3, a4, a5, a6, a7, a8, a9, a10, b11, b12, b13, b14)) e (H1 q w' b11 b12 b13 b14)⟩)
    (fun q w' b11 b12 b13 b14 => br_t rfl (H0 q w' b11 b12 b13 b14))))))))
theorem st_cntb {post : Int32 → St2 → Prop} (H : post (-1) (1, hn, rc, w, a1, a2, a3, a4, a5, a6, a7, a8, a9, a10, a11, a12, a13, a14)) : wpX_count post (1, hn, rc, w, a1, a2, a3, a4, a5, a6, a7, a8, a9, a10, a11, a12, a13, a14) 1 := by
  unfold wpX_count
  exact st_isV1f (br_t rfl H)
theorem st_cntn {post : Int32 → St2 → Prop} (H : post 0 (2, hn, 0, w, a1, a2, a3, a4, a5, a6, a7, a8, a9, a10, a11, a12, a13, a14)) : wpX_count post (2, hn, 0, w, a1, a2, a3, a4, a5, a6, a7, a8, a9, a10, a11, a12, a13, a14) 1 := by
  unfold wpX_count
  exact st_isV1t (br_f (by decide) ⟨1, br_t (by decide) H⟩)
theorem st_cntk {post : Int32 → St2 → Prop} {k x z y : Int32} (hV : st_V k x z y a1 a2 a3 a4 a5 a6) (hG : st_G k x z)
    (H1 : ¬ st_H k x (a8 0) (a8 1) y → ∀ (w' : Int32) (b11 b12 b13 b14 : Nat → Int32), post 1 (2, 0, 1, w', a1, a2, a3, a4, a5, a6, a7, a8, a9, a10, b11, b12, b13, b14))
    (H0 : st_H k x (a8 0) (a8 1) y → ∀ (w' : Int32) (b11 b12 b13 b14 : Nat → Int32), post 0 (2, 0, 1, w', a1, a2, a3, a4, a5, a6, a7, a8, a9, a10, b11, b12, b13, b14)) :
    wpX_count post (2, 0, 1, w, a1, a2, a3, a4, a5, a6, a7, a8, a9, a10, a11, a12, a13, a14) 1 := by
  unfold wpX_count
  exact st_isV1t (br_f (by decide) ⟨2, br_f (by decide) (st_look hV hG
    (fun q w' b11 b12 b13 b14 _ => br_f (by decide) (nm_r (show (0 : Int32) + 1 = 1 from rfl) (nm_r (show (0 : Int32) + 1 = 1 from rfl) (br_t (by decide) (H1 q w' b11 b12 b13 b14)))))
    (fun q w' b11 b12 b13 b14 => br_t rfl (nm_r (show (0 : Int32) + 1 = 1 from rfl) (br_t (by decide) (H0 q w' b11 b12 b13 b14)))))⟩)
/-! the law's questions, behind the insertion -/
theorem st_300b {post : Int32 → St0 → Prop} {mc ms kc ks : Nat} {x4 x11 z0 : Int32} (hp : post 1 ()) (hf : ∀ P : Int32 → Prop, (∀ r, P r) → wpX_find P (1, hn, rc, w, a1, a2, a3, a4, a5, a6, a7, a8, a9, a10, a11, a12, a13, a14) x4) :
    wL_lawOf_300 post mc ms x4 0 x11 0 z0 z0 kc ks 1 hn rc w a1 a2 a3 a4 a5 a6 a7 a8 a9 a10 a11 a12 a13 a14 :=
  br_t rfl (st_valb hf (br_t rfl (br_t rfl (st_cntb (br_t rfl (br_t rfl hp))))))
theorem st_300n {post : Int32 → St0 → Prop} {mc ms kc ks : Nat} {x4 x11 z0 : Int32} (hp : post 1 ()) (h6 : ¬ a6 1 ≤ 0) :
    wL_lawOf_300 post mc ms x4 1 x11 0 z0 z0 kc ks 2 hn 0 w a1 a2 a3 a4 a5 a6 a7 a8 a9 a10 a11 a12 a13 a14 :=
  br_t rfl (st_valn h6 (br_t rfl (br_t rfl (st_cntn (br_f (by decide) (br_t rfl (br_t rfl hp)))))))
theorem st_300y {post : Int32 → St0 → Prop} {mc ms kc ks : Nat} {x4 z0 k x z y : Int32} (hp : post 1 ()) (hV : st_V k x z y a1 a2 a3 a4 a5 a6) (hG : st_G k x z) (h7 : a7 0 = x4) (hH : ¬ st_H k x (a8 0) (a8 1) y) :
    wL_lawOf_300 post mc ms x4 1 (st_F k x z (a8 0) (a8 1) y) 1 z0 z0 kc ks 2 0 1 w a1 a2 a3 a4 a5 a6 a7 a8 a9 a10 a11 a12 a13 a14 :=
  br_t rfl (st_valk hV hG h7 (fun _ w' b11 b12 b13 b14 => br_f (by decide) (br_t rfl (st_cntk hV hG (fun _ _ _ _ _ _ => br_f (by decide) (br_f (by decide) (br_t rfl hp))) (fun q => absurd q hH)))) (fun q => absurd q hH))
theorem st_300h {post : Int32 → St0 → Prop} {mc ms kc ks : Nat} {x4 x11 z0 k x z y : Int32} (hp : post 1 ()) (hV : st_V k x z y a1 a2 a3 a4 a5 a6) (hG : st_G k x z) (h7 : a7 0 = x4) (hH : st_H k x (a8 0) (a8 1) y) :
    wL_lawOf_300 post mc ms x4 1 x11 0 z0 z0 kc ks 2 0 1 w a1 a2 a3 a4 a5 a6 a7 a8 a9 a10 a11 a12 a13 a14 :=
  br_t rfl (st_valk hV hG h7 (fun q => absurd hH q) (fun _ w' b11 b12 b13 b14 => br_t rfl (br_t rfl (st_cntk hV hG (fun q => absurd hH q) (fun _ _ _ _ _ _ => br_f (by decide) (br_t rfl (br_t rfl hp)))))))
/-! the drafts and the insertion -/
theorem st_255bn {post : Int32 → St0 → Prop} {mc ms kc ks : Nat} {x2 x3 x4 x11 z0 : Int32} (hp : post 1 ()) (hk : x4 < 0 ∨ 99 < x4) :
    wL_lawOf_255 post mc ms x2 x3 x4 0 0 x11 0 z0 z0 kc ks 1 0 0 w a1 a2 a3 a4 a5 a6 a7 a8 a9 a10 a11 a12 a13 a14 :=
  br_t rfl (st_draft0 (fun b10 _ => br_f (by decide) (st_draft1 (fun c10 _ _ => br_f (by decide) (st_insN (by decide) hk (br_t rfl (st_300b hp (fun P h => st_find0 (h _)))))))))
theorem st_255bk {post : Int32 → St0 → Prop} {mc ms kc ks : Nat} {x2 x3 x4 x11 z0 : Int32} (hp : post 1 ()) (hk : ¬ x4 < 0) (hk2 : x4 ≤ 99) :
    wL_lawOf_255 post mc ms x2 x3 x4 0 1 x11 0 z0 z0 kc ks 1 0 0 w a1 a2 a3 a4 a5 a6 a7 a8 a9 a10 a11 a12 a13 a14 :=
  br_t rfl (st_draft0 (fun b10 _ => br_f (by decide) (st_draft1 (fun c10 _ _ => br_f (by decide) (st_ins (by decide) hk hk2 (fun w' b7 b8 b9 b11 b12 b14 h7 h8 => br_f (by decide) (st_300b hp (fun P h => st_find1 h7 (h _)))))))))
theorem st_255gn {post : Int32 → St0 → Prop} {mc ms kc ks : Nat} {x2 x3 x4 x11 z0 : Int32} (hp : post 1 ()) (hk : x4 < 0 ∨ 99 < x4) (h6 : ¬ a6 1 ≤ 0) :
    wL_lawOf_255 post mc ms x2 x3 x4 1 0 x11 0 z0 z0 kc ks 2 0 0 w a1 a2 a3 a4 a5 a6 a7 a8 a9 a10 a11 a12 a13 a14 :=
  br_t rfl (st_draft0 (fun b10 _ => br_f (by decide) (st_draft1 (fun c10 _ _ => br_f (by decide) (st_insN (by decide) hk (br_t rfl (st_300n hp h6)))))))
theorem st_255gy {post : Int32 → St0 → Prop} {mc ms kc ks : Nat} {x2 x3 x4 z0 k x z y : Int32} (hp : post 1 ()) (hV : st_V k x z y a1 a2 a3 a4 a5 a6) (hG : st_G k x z) (hk : ¬ x4 < 0) (hk2 : x4 ≤ 99) (hH : ¬ st_H k x x2 x3 y) :
    wL_lawOf_255 post mc ms x2 x3 x4 1 1 (st_F k x z x2 x3 y) 1 z0 z0 kc ks 2 0 0 w a1 a2 a3 a4 a5 a6 a7 a8 a9 a10 a11 a12 a13 a14 := by
  refine br_t rfl (st_draft0 (fun b10 e0 => br_f (by decide) (st_draft1 (fun c10 e1 e2 => br_f (by decide) (st_ins (by decide) hk hk2 (fun w' b7 b8 b9 b11 b12 b14 h7 h8 => br_f (by decide) ?_))))))
  have f0 : b8 0 = x2 := (h8 0 (by omega)).trans (e1.trans e0)
  have f1 : b8 1 = x3 := (h8 1 (by omega)).trans e2
  rw [← f0, ← f1]
  rw [← f0, ← f1] at hH
  exact st_300y hp hV hG h7 hH
theorem st_255gh {post : Int32 → St0 → Prop} {mc ms kc ks : Nat} {x2 x3 x4 x11 z0 k x z y : Int32} (hp : post 1 ()) (hV : st_V k x z y a1 a2 a3 a4 a5 a6) (hG : st_G k x z) (hk : ¬ x4 < 0) (hk2 : x4 ≤ 99) (hH : st_H k x x2 x3 y) :
    wL_lawOf_255 post mc ms x2 x3 x4 1 1 x11 0 z0 z0 kc ks 2 0 0 w a1 a2 a3 a4 a5 a6 a7 a8 a9 a10 a11 a12 a13 a14 := by
  refine br_t rfl (st_draft0 (fun b10 e0 => br_f (by decide) (st_draft1 (fun c10 e1 e2 => br_f (by decide) (st_ins (by decide) hk hk2 (fun w' b7 b8 b9 b11 b12 b14 h7 h8 => br_f (by decide) ?_))))))
  have f0 : b8 0 = x2 := (h8 0 (by omega)).trans (e1.trans e0)
  have f1 : b8 1 = x3 := (h8 1 (by omega)).trans e2
  rw [← f0, ← f1] at hH
  exact st_300h hp hV hG h7 hH
end
end
section
section
variable {vc hn rc w : Int32} {a1 a2 a3 a4 a5 a6 a7 a8 a9 a10 a11 a12 a13 a14 : Nat → Int32}
/-- the state behind the constructor -/
abbrev st_S0 : St2 := (1, 0, 0, 0, (fun _ => 0), (fun _ => 0), (fun _ => 0), (fun _ => 0), (fun _ => 0), upd (fun _ => 0) 0 2, (fun _ => 0), (fun _ => 0), (fun _ => 0), (fun _ => 0), (fun _ => 0), (fun _ => 0), (fun _ => 0), (fun _ => 0))
theorem st_init {post : St2 → Prop} (h : post st_S0) : wpX_init post 14 247 (0, 0, 0, 0) := by
  unfold wpX_init
  dsimp only
  refine ⟨by omega, by omega, by omega, by omega, by omega, by omega, by omega, by omega, by omega, by omega, by omega, by omega, by omega, by omega, by omega, by omega, by omega, by omega, by omega, by omega, by omega, by omega, by omega, by omega, by omega, by omega, by omega, by omega, ?_⟩
  exact nm_e h
def st_EB (x0 x1 : Int32) : Prop := ∀ post : Int32 → St2 → Prop, post (-1) st_S0 → wpX_edit post st_S0 0 x0 x1
def st_EG (x0 x1 k x z : Int32) : Prop := ∀ post : Int32 → St2 → Prop, (∀ b1 b2 b3 b4 b5 b6 : Nat → Int32, st_V k x z x1 b1 b2 b3 b4 b5 b6 → post 1 (2, 0, 0, 0, b1, b2, b3, b4, b5, b6, (fun _ => 0), (fun _ => 0), (fun _ => 0), (fun _ => 0), (fun _ => 0), (fun _ => 0), (fun _ => 0), (fun _ => 0))) → wpX_edit post st_S0 0 x0 x1
theorem st_226bn {post : Int32 → St0 → Prop} {x0 x1 x2 x3 x4 x11 : Int32} (hp : post 1 ()) (E : st_EB x0 x1) (hk : x4 < 0 ∨ 99 < x4) : wL_lawOf_226 post 142 2272 x0 x1 x2 x3 x4 0 0 x11 0 0 0 :=
  ⟨by omega, by omega, 14, 247, by omega, by omega, st_init (E _ (br_t rfl (st_255bn hp hk)))⟩
theorem st_226bk {post : Int32 → St0 → Prop} {x0 x1 x2 x3 x4 x11 : Int32} (hp : post 1 ()) (E : st_EB x0 x1) (hk : ¬ x4 < 0) (hk2 : x4 ≤ 99) : wL_lawOf_226 post 142 2272 x0 x1 x2 x3 x4 0 1 x11 0 0 0 :=
  ⟨by omega, by omega, 14, 247, by omega, by omega, st_init (E _ (br_t rfl (st_255bk hp hk hk2)))⟩
theorem st_226gn {post : Int32 → St0 → Prop} {x0 x1 x2 x3 x4 x11 k x z : Int32} (hp : post 1 ()) (E : st_EG x0 x1 k x z) (hk : x4 < 0 ∨ 99 < x4) : wL_lawOf_226 post 142 2272 x0 x1 x2 x3 x4 1 0 x11 0 0 0 :=
  ⟨by omega, by omega, 14, 247, by omega, by omega, st_init (E _ (fun b1 b2 b3 b4 b5 b6 hV => br_f (by decide) (st_255gn hp hk hV.2.2.2.2.2.2.1)))⟩
theorem st_226gy {post : Int32 → St0 → Prop} {x0 x1 x2 x3 x4 k x z : Int32} (hp : post 1 ()) (E : st_EG x0 x1 k x z) (hG : st_G k x z) (hk : ¬ x4 < 0) (hk2 : x4 ≤ 99) (hH : ¬ st_H k x x2 x3 x1) : wL_lawOf_226 post 142 2272 x0 x1 x2 x3 x4 1 1 (st_F k x z x2 x3 x1) 1 0 0 :=
  ⟨by omega, by omega, 14, 247, by omega, by omega, st_init (E _ (fun b1 b2 b3 b4 b5 b6 hV => br_f (by decide) (st_255gy hp hV hG hk hk2 hH)))⟩
theorem st_226gh {post : Int32 → St0 → Prop} {x0 x1 x2 x3 x4 x11 k x z : Int32} (hp : post 1 ()) (E : st_EG x0 x1 k x z) (hG : st_G k x z) (hk : ¬ x4 < 0) (hk2 : x4 ≤ 99) (hH : st_H k x x2 x3 x1) : wL_lawOf_226 post 142 2272 x0 x1 x2 x3 x4 1 1 x11 0 0 0 :=
  ⟨by omega, by omega, 14, 247, by omega, by omega, st_init (E _ (fun b1 b2 b3 b4 b5 b6 hV => br_f (by decide) (st_255gh hp hV hG hk hk2 hH)))⟩
/-! the law's own names: left, first, hidden -/
theorem st_185 {post : Int32 → St0 → Prop} {mc ms kc ks : Nat} {x0 x1 x2 x3 x4 x5 x8 x9 x10 z0 : Int32}
    (H0 : ¬ (x5 = 3 ∧ ¬ x1 ≤ x10) → wL_lawOf_204 post mc ms x0 x1 x2 x3 x4 x8 x9 z0 0 kc ks) (H1 : (x5 = 3 ∧ ¬ x1 ≤ x10) → wL_lawOf_204 post mc ms x0 x1 x2 x3 x4 x8 x9 z0 1 kc ks) :
    wL_lawOf_185 post mc ms x0 x1 x2 x3 x4 x5 x8 x9 x10 z0 kc ks :=
  br_c (fun e => br_c (fun q => H0 (fun p => p.2 q)) (fun q => H1 ⟨e, q⟩)) (fun e => H0 (fun p => e p.1))
theorem st_112 {post : Int32 → St0 → Prop} {mc ms kc ks : Nat} {x0 x1 x2 x3 x4 x5 x6 x7 x8 x9 z0 : Int32}
    (H : wL_lawOf_185 post mc ms x0 x1 x2 x3 x4 x5 x8 x9 z0 (st_F x5 x6 x7 x2 x3 x1) kc ks) : wL_lawOf_112 post mc ms x0 x1 x2 x3 x4 x5 x6 x7 x8 x9 z0 kc ks := by
  have K : ∀ v, st_F x5 x6 x7 x2 x3 x1 = v → wL_lawOf_185 post mc ms x0 x1 x2 x3 x4 x5 x8 x9 z0 v kc ks := fun v e => e ▸ H
  have K167 : ¬ x5 = 1 → (x5 = 2 → ¬ x6 = 0) → (x5 = 4 → x6 = x7) → wL_lawOf_167 post mc ms x0 x1 x2 x3 x4 x5 x6 x8 x9 z0 kc ks := by
    intro n1 n2 n4
    have f2 : ¬ (x5 = 2 ∧ x6 = 0) := fun p => n2 p.1 p.2
    have f4 : ¬ (x5 = 4 ∧ ¬ x6 = x7) := fun p => p.2 (n4 p.1)
    refine br_c (fun e5 => br_c (fun e6 => K _ ?_) (fun e6 => K _ ?_)) (fun e5 => K _ ?_)
    · unfold st_F
      rw [if_neg n1, if_neg f2, if_neg f4, if_pos ⟨e5, e6⟩]
    · unfold st_F
      rw [if_neg n1, if_neg f2, if_neg f4, if_neg (fun p => e6 p.2)]
    · unfold st_F
      rw [if_neg n1, if_neg f2, if_neg f4, if_neg (fun p => e5 p.1)]
  have K150 : ¬ x5 = 1 → (x5 = 2 → ¬ x6 = 0) → wL_lawOf_150 post mc ms x0 x1 x2 x3 x4 x5 x6 x7 x8 x9 z0 kc ks := by
    intro n1 n2
    have f2 : ¬ (x5 = 2 ∧ x6 = 0) := fun p => n2 p.1 p.2
    refine br_c (fun e4 => br_c (fun e6 => K167 n1 n2 (fun _ => e6)) (fun e6 => K _ ?_)) (fun e4 => K167 n1 n2 (fun p => absurd p e4))
    unfold st_F
    rw [if_neg n1, if_neg f2, if_pos ⟨e4, e6⟩]
  refine br_c (fun e1 => br_c (fun e6 => K _ ?_) (fun e6 => K _ ?_)) (fun e1 => br_c (fun e2 => br_c (fun e6 => K _ ?_) (fun e6 => K150 e1 (fun _ => e6))) (fun e2 => K150 e1 (fun p => absurd p e2)))
  · unfold st_F
    rw [if_pos e1, if_pos e6]
  · unfold st_F
    rw [if_pos e1, if_neg e6]
  · unfold st_F
    rw [if_neg e1, if_pos ⟨e2, e6⟩]
theorem st_100 {post : Int32 → St0 → Prop} {mc ms kc ks : Nat} {x0 x1 x2 x3 x4 x5 x6 x7 x8 x9 : Int32}
    (H0 : ¬ st_H x5 x6 x2 x3 x1 → wL_lawOf_204 post mc ms x0 x1 x2 x3 x4 x8 x9 (st_F x5 x6 x7 x2 x3 x1) 0 kc ks) (H1 : st_H x5 x6 x2 x3 x1 → wL_lawOf_204 post mc ms x0 x1 x2 x3 x4 x8 x9 (st_F x5 x6 x7 x2 x3 x1) 1 kc ks) :
    wL_lawOf_100 post mc ms x0 x1 x2 x3 x4 x5 x6 x7 x8 x9 kc ks := by
  unfold st_H at H0 H1
  refine br_c (fun e => ?_) (fun e => ?_)
  · rw [if_pos e] at H0 H1
    exact st_112 (st_185 H0 H1)
  · rw [if_neg e] at H0 H1
    exact st_112 (st_185 H0 H1)
theorem st_81b {post : Int32 → St0 → Prop} {x0 x1 x2 x3 x4 x5 x6 x7 : Int32} (hp : post 1 ()) (E : st_EB x0 x1) : wL_lawOf_81 post 142 2272 x0 x1 x2 x3 x4 x5 x6 x7 0 0 0 :=
  br_c (fun h => st_100 (fun _ => br_t rfl (st_226bn hp E (Or.inl h))) (fun _ => br_t rfl (st_226bn hp E (Or.inl h))))
    (fun h => br_c (fun h2 => st_100 (fun _ => br_t rfl (st_226bn hp E (Or.inr h2))) (fun _ => br_t rfl (st_226bn hp E (Or.inr h2))))
      (fun h2 => st_100 (fun _ => br_t rfl (st_226bk hp E h (Int32.not_lt.mp h2))) (fun _ => br_t rfl (st_226bk hp E h (Int32.not_lt.mp h2)))))
theorem st_81g {post : Int32 → St0 → Prop} {x0 x1 x2 x3 x4 x5 x6 x7 : Int32} (hp : post 1 ()) (E : st_EG x0 x1 x5 x6 x7) (hG : st_G x5 x6 x7) : wL_lawOf_81 post 142 2272 x0 x1 x2 x3 x4 x5 x6 x7 1 0 0 :=
  br_c (fun h => st_100 (fun _ => br_f (by decide) (br_t rfl (st_226gn hp E (Or.inl h)))) (fun _ => br_f (by decide) (br_t rfl (st_226gn hp E (Or.inl h)))))
    (fun h => br_c (fun h2 => st_100 (fun _ => br_f (by decide) (br_t rfl (st_226gn hp E (Or.inr h2)))) (fun _ => br_f (by decide) (br_t rfl (st_226gn hp E (Or.inr h2)))))
      (fun h2 => st_100 (fun q => br_f (by decide) (br_f (by decide) (br_t rfl (st_226gy hp E hG h (Int32.not_lt.mp h2) q)))) (fun q => br_f (by decide) (br_f (by decide) (br_f (by decide) (st_226gh hp E hG h (Int32.not_lt.mp h2) q))))))
theorem st_l51 {post : Int32 → St0 → Prop} {mc ms kc ks : Nat} {x0 x1 x2 x3 x4 : Int32} {k x z : Nat} (hk : k < 8) (hx : x < 8) (hz : z < 8) (h5 : k ≤ 5) (h2 : k = 0 ∨ x < 2)
    (HB : ¬ st_GN k x z → wL_lawOf_81 post mc ms x0 x1 x2 x3 x4 (nI k) (nI x) (nI z) 0 kc ks) (HG : st_GN k x z → wL_lawOf_81 post mc ms x0 x1 x2 x3 x4 (nI k) (nI x) (nI z) 1 kc ks) :
    wL_lawOf_51 post mc ms x0 x1 x2 x3 x4 (nI k) (nI x) (nI z) kc ks := by
  have K : (k < 4 ∨ z < 2) → wL_lawOf_63 post mc ms x0 x1 x2 x3 x4 (nI k) (nI x) (nI z) kc ks := fun h3 =>
    pk_eq k 5 (fun q => pk_eq x z (fun q2 => HB (fun g => absurd g.2.2.2 (by omega))) (fun q2 => HG ⟨h5, h2, h3, by omega⟩)) (fun q => HG ⟨h5, h2, h3, by omega⟩)
  exact pk_lt k 4 (fun q => K (Or.inl q)) (fun q => pk_le 2 z (fun q2 => HB (fun g => absurd g.2.2.1 (by omega))) (fun q2 => K (Or.inr q2)))
theorem st_lawOf {post : Int32 → St0 → Prop} (hp : post 1 ()) (p0 p1 p2 p3 p4 : Int32) : wpL_lawOf post 142 2272 () p0 p1 p2 p3 p4 := by
  by_cases h0 : p0 < 0
  · exact nm_e (nm_e (nm_e (br_t h0 (st_81b hp (fun P h => st_edR (Or.inl h0) h)))))
  by_cases h1 : 511 < p0
  · exact nm_e (nm_e (nm_e (br_f h0 (br_t h1 (st_81b hp (fun P h => st_edR (Or.inr h1) h))))))
  have h2 : p0 ≤ 511 := Int32.not_lt.mp h1
  obtain ⟨v, hv, e⟩ := nI_of2 (M := 511) (n := 511) (by decide) h0 h2
  have ek : p0 &&& 7 = nI (v % 8) := by
    rw [e]
    exact pk_andN (by omega) 3 (by decide)
  have ex : (p0 >>> ((3 : Int32) &&& 31)) &&& 7 = nI (v / 8 % 8) := by
    rw [e, pk_shrN (by omega) _ 3 (by decide)]
    exact pk_andN (by omega) 3 (by decide)
  have ez : p0 >>> ((6 : Int32) &&& 31) = nI (v / 64) := by
    rw [e]
    exact pk_shrN (by omega) _ 6 (by decide)
  have ez' : (p0 >>> ((6 : Int32) &&& 31)) &&& 7 = nI (v / 64) := by
    rw [ez, pk_andN (by omega) 3 (by decide), show v / 64 % 2 ^ 3 = v / 64 by omega]
  have hk : v % 8 < 8 := by omega
  have hx : v / 8 % 8 < 8 := by omega
  have hz : v / 64 < 8 := by omega
  generalize v % 8 = k at ek hk
  generalize v / 8 % 8 = x at ex hx
  generalize v / 64 = z at ez ez' hz
  have HB : ¬ st_GN k x z → wL_lawOf_81 post 142 2272 p0 p1 p2 p3 p4 (nI k) (nI x) (nI z) 0 0 0 := fun g =>
    st_81b hp (fun P h => st_edN hk hx hz rfl h0 h2 ek ex ez (fun _ => h) (fun g' => absurd g' g))
  have HG : st_GN k x z → wL_lawOf_81 post 142 2272 p0 p1 p2 p3 p4 (nI k) (nI x) (nI z) 1 0 0 := fun g =>
    st_81g hp (fun P h => st_edN hk hx hz rfl h0 h2 ek ex ez (fun g' => absurd g g') (fun _ => h)) (st_GofN g)
  exact nm_r ek (nm_r ex (nm_r ez' (br_f h0 (br_f h1 (pk_lt 5 k (fun q => HB (fun g => absurd g.1 (by omega)))
    (fun q => pk_eq k 0 (fun q2 => st_l51 hk hx hz q (Or.inl q2) HB HG)
      (fun q2 => pk_le 2 x (fun q3 => HB (fun g => absurd g.2.1 (by omega))) (fun q3 => st_l51 hk hx hz q (Or.inr q3) HB HG))))))))
end
end
section
theorem st_cell {P : Int32 → Prop} {L : Nat} {xs : Nat → Int32} (hL : L ≤ 5) (i : Nat) (hi : i < 5) (H : ∀ r, P r) : wpL_cellAt P L xs () (nI i) :=
  pk_le L i (fun _ => H _) (fun q => ⟨pk_in i L q, H _⟩)
theorem i_vc (xs : Nat → Int32) (L : Nat) (hL : L ≤ 5) : wpL_law (fun r => r = 1) L xs :=
  st_cell hL 0 (by omega) (fun r1 => st_cell hL 1 (by omega) (fun r2 => st_cell hL 2 (by omega) (fun r3 => st_cell hL 3 (by omega) (fun r4 => st_cell hL 4 (by omega) (fun r5 => ⟨142, 2272, by omega, by omega, st_lawOf rfl r1 r2 r3 r4 r5⟩)))))
end
