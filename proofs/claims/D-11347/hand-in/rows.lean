section
/-! bytes, index sums -/
theorem cw_nb : ∀ k, k < 128 → (nI k).toInt8.toInt32 = nI k := by decide +kernel
theorem cw_vb {k : Nat} (h : k < 128) : vp_nar .byte (nI k) = nI k := cw_nb k h
theorem cw_vn1 : vp_nar .byte (-1) = -1 := by rw [vp_nar_byte]; decide
theorem cw_5 (x i : Nat) : 5 * nI x + nI i = nI (5 * x + i) := by
  show nI 5 * nI x + nI i = _
  rw [pk_mul, nI_add]
theorem cw_6 (x : Nat) : 6 * nI x = nI (6 * x) := by
  show nI 6 * nI x = _
  rw [pk_mul]
theorem cw_6i (x i : Nat) : 6 * nI x + nI i = nI (6 * x + i) := by
  rw [cw_6, nI_add]
theorem cw_fill {s : Nat → Int32} {v : Int32} {i k : Nat} (hk : k = i) (h : ∀ j, j < i → s j = v) : ∀ j, j < i + 1 → upd s k v j = v := by
  intro j hj
  rw [hk]
  by_cases e : j = i
  · rw [e, pk_us]
  · rw [pk_un e]
    exact h j (by omega)
/-! settle, validMeta, loadWriter -/
theorem cw_settle {post : St2 → Prop} {w : Int32} {a1 a2 a3 a4 a5 a6 a7 a8 a9 a10 a11 a12 a13 a14 a15 a16 : Nat → Int32} (H : ∀ b5 : Nat → Int32, (∀ j, j < 100 → b5 j = 0) → post (w, a1, a2, a3, a4, b5, a6, a7, a8, a9, a10, a11, a12, a13, a14, a15, a16)) : wpX_settle post (w, a1, a2, a3, a4, a5, a6, a7, a8, a9, a10, a11, a12, a13, a14, a15, a16) :=
  pk_loop (fun n i s => wX_settle_2 post w n (nI i) a1 a2 a3 a4 s a6 a7 a8 a9 a10 a11 a12 a13 a14 a15 a16) (fun i s => ∀ j, j < i → s j = 0) 100 0 a5 (by omega) (fun j hj => absurd hj (by omega))
    (fun n s h => pk_le 100 100 (fun _ => H s h) (fun z => absurd z (by omega)))
    (fun n i s hi h hw => pk_le 100 i (fun z => absurd z (by omega)) (fun _ => ⟨pk_in i 100 (by omega), nm_e (nm_r (nI_1 i) (hw _ (cw_fill (nI_clamp (by omega)) h)))⟩))
theorem cw_vm0 {post : Int32 → Prop} {w : Int32} {a1 a2 a3 a4 a5 a6 a7 a8 a9 a10 a11 a12 a13 a14 a15 a16 : Nat → Int32} (h0 : a10 0 = 1) (h1 : a10 1 = 0) (H : post 0) : wpX_validMeta post (w, a1, a2, a3, a4, a5, a6, a7, a8, a9, a10, a11, a12, a13, a14, a15, a16) :=
  br_f (by rw [h0]; decide) (br_t h1 H)
theorem cw_vm1 {post : Int32 → Prop} {w : Int32} {a1 a2 a3 a4 a5 a6 a7 a8 a9 a10 a11 a12 a13 a14 a15 a16 : Nat → Int32} (h0 : a10 0 = 1) (h1 : a10 1 = 1) (h2 : a9 0 = 0) (h3 : a9 1 = 1) (H : post 1) : wpX_validMeta post (w, a1, a2, a3, a4, a5, a6, a7, a8, a9, a10, a11, a12, a13, a14, a15, a16) :=
  br_f (by rw [h0]; decide) (br_f (by rw [h1]; decide) (br_t (by rw [h2, h3]; decide) H))
theorem cw_c0 : (0 : Int32).toNatClampNeg = 0 := by decide
theorem cw_c1 : (1 : Int32).toNatClampNeg = 1 := by decide
theorem cw_load0 {post : St2 → Prop} {w : Int32} {a1 a2 a3 a4 a5 a6 a7 a8 a9 a10 a11 a12 a13 a14 a15 a16 : Nat → Int32} (h0 : a10 0 = 1) (h1 : a10 1 = 0) (h7 : a7 0 = -1) (h8 : a8 0 = 0)
    (H : ∀ b5 : Nat → Int32, (∀ j, j < 100 → b5 j = 0) → post (w, a1, a2, a3, a4, b5, a6, a7, a8, a9, a10, upd a11 3 (-1), upd a12 3 0, a13, a14, a15, a16)) : wpX_loadWriter post (w, a1, a2, a3, a4, a5, a6, a7, a8, a9, a10, a11, a12, a13, a14, a15, a16) := by
  unfold wpX_loadWriter
  exact cw_vm0 h0 h1 (cw_settle (fun b5 h5 => ⟨pk_in 0 2 (by omega), nm_r (by rw [cw_c0, h7, cw_vn1]) ⟨pk_in 0 2 (by omega), nm_r (by rw [cw_c0, h8]; rfl) (H b5 h5)⟩⟩))
theorem cw_load1 {post : St2 → Prop} {w : Int32} {a1 a2 a3 a4 a5 a6 a7 a8 a9 a10 a11 a12 a13 a14 a15 a16 : Nat → Int32} (h0 : a10 0 = 1) (h1 : a10 1 = 1) (h2 : a9 0 = 0) (h3 : a9 1 = 1) (h7 : a7 1 = 0) (h8 : a8 1 = 1)
    (H : ∀ b5 : Nat → Int32, (∀ j, j < 100 → b5 j = 0) → post (w, a1, a2, a3, a4, b5, a6, a7, a8, a9, a10, upd a11 3 0, upd a12 3 1, a13, a14, a15, a16)) : wpX_loadWriter post (w, a1, a2, a3, a4, a5, a6, a7, a8, a9, a10, a11, a12, a13, a14, a15, a16) := by
  unfold wpX_loadWriter
  exact cw_vm1 h0 h1 h2 h3 (cw_settle (fun b5 h5 => ⟨pk_in 1 2 (by omega), nm_r (by rw [cw_c1, h7]; rfl) ⟨pk_in 1 2 (by omega), nm_r (by rw [cw_c1, h8]; rfl) (H b5 h5)⟩⟩))
/-- after new: no page fresh, the first place for roots valid and empty, no reader, an empty writer -/
def cw_P0 (a5 a7 a8 a9 a10 a11 a12 : Nat → Int32) : Prop :=
  (∀ j, j < 100 → a5 j = 0) ∧ a7 0 = -1 ∧ a8 0 = 0 ∧ a9 0 = 0 ∧ a10 0 = 1 ∧ a10 1 = 0 ∧ (∀ j, j < 3 → a11 j = -2) ∧ a11 3 = -1 ∧ a12 3 = 0
theorem cw_init {post : St2 → Prop} {mc ms : Nat} {x : Int32} (hc : 16 ≤ mc) (hs : 2036 ≤ ms)
    (H : ∀ (w : Int32) (a1 a2 a3 a4 a5 a6 a7 a8 a9 a10 a11 a12 a13 a14 a15 a16 : Nat → Int32), cw_P0 a5 a7 a8 a9 a10 a11 a12 → post (w, a1, a2, a3, a4, a5, a6, a7, a8, a9, a10, a11, a12, a13, a14, a15, a16)) : wpX_init post mc ms x := by
  refine ⟨by omega, by omega, by omega, by omega, by omega, by omega, by omega, by omega, by omega, by omega, by omega, by omega, by omega, by omega, by omega, by omega, by omega, by omega, by omega, by omega, by omega, by omega, by omega, by omega, by omega, by omega, by omega, by omega, by omega, by omega, by omega, by omega, nm_e (nm_e ?_)⟩
  exact pk_loop (fun n i s => wX_init_144 post mc ms 16 2036 x n (nI i) (fun _ => 0) (fun _ => 0) (fun _ => 0) (fun _ => 0) (fun _ => 0) (fun _ => 0) (upd (fun _ => 0) 0 (-1)) (fun _ => 0) (fun _ => 0) (upd (fun _ => 0) 0 1) s (fun _ => 0) (fun _ => 0) (fun _ => 0) (fun _ => 0) (fun _ => 0))
    (fun i s => ∀ j, j < i → s j = -2) 4 0 (fun _ => 0) (by omega) (fun j hj => absurd hj (by omega))
    (fun n s h => pk_le 4 4 (fun _ => cw_load0 pk_us rfl pk_us rfl (fun b5 h5 => H _ _ _ _ _ _ _ _ _ _ _ _ _ _ _ _ _ ⟨h5, pk_us, rfl, rfl, pk_us, rfl, fun j hj => by rw [pk_un (by omega)]; exact h j (by omega), pk_us, pk_us⟩)) (fun z => absurd z (by omega)))
    (fun n i s hi h hw => pk_le 4 i (fun z => absurd z (by omega)) (fun _ => ⟨pk_in i 4 (by omega), nm_e (nm_r (nI_1 i) (hw _ (cw_fill (nI_clamp (by omega)) h)))⟩))
end
section
/-! find: in an empty tree, in a tree of one leaf -/
theorem cw_find0 {post : Int32 → St2 → Prop} {w : Int32} {a1 a2 a3 a4 a5 a6 a7 a8 a9 a10 a11 a12 a13 a14 a15 a16 : Nat → Int32} {r key : Int32} (hr : r < 0) (H : post 0 (0, a1, a2, a3, a4, a5, a6, a7, a8, a9, a10, a11, a12, a13, a14, a15, a16)) : wpX_find post (w, a1, a2, a3, a4, a5, a6, a7, a8, a9, a10, a11, a12, a13, a14, a15, a16) r key := ⟨1, br_t hr H⟩
/-- page x is a leaf of c keys, and i is the place of key there -/
def cw_L (a1 a2 a4 : Nat → Int32) (x c i key : Nat) : Prop :=
  x < 100 ∧ c ≤ 4 ∧ key < 100 ∧ a1 x = nI c ∧ a4 (6 * x) = -1 ∧ i ≤ c ∧ (∀ j, j < i → ¬ nI key ≤ a2 (5 * x + j)) ∧ (i < c → nI key ≤ a2 (5 * x + i))
theorem cw_find1 {post : Int32 → St2 → Prop} {w : Int32} {a1 a2 a3 a4 a5 a6 a7 a8 a9 a10 a11 a12 a13 a14 a15 a16 : Nat → Int32} {x c i key : Nat} {r : Int32} (hr : r = nI x) (L : cw_L a1 a2 a4 x c i key)
    (H1 : i < c → a2 (5 * x + i) = nI key → post 1 (nI 1, a1, a2, a3, a4, a5, a6, a7, a8, a9, a10, a11, a12, a13, upd a14 0 (nI x), upd a15 0 (nI i), a16))
    (H0 : ¬ (i < c ∧ a2 (5 * x + i) = nI key) → post 0 (nI 1, a1, a2, a3, a4, a5, a6, a7, a8, a9, a10, a11, a12, a13, upd a14 0 (nI x), upd a15 0 (nI i), a16)) : wpX_find post (w, a1, a2, a3, a4, a5, a6, a7, a8, a9, a10, a11, a12, a13, a14, a15, a16) r (nI key) := by
  subst hr
  obtain ⟨hx, hc, hk, h1, h4, hi, hl, hg⟩ := L
  have ex : (nI x).toNatClampNeg = x := nI_clamp (by omega)
  have e5 : ∀ j, j ≤ 4 → (5 * nI x + nI j).toNatClampNeg = 5 * x + j := fun j hj => pk_cl (5 * x + j) (cw_5 x j)
  have F81 : ¬ (i < c ∧ a2 (5 * x + i) = nI key) → wX_find_81 post (wX_find_7 post (nI key) 1) (nI key) (nI x) (nI i) (nI 1) a1 a2 a3 a4 a5 a6 a7 a8 a9 a10 a11 a12 a13 (upd a14 0 (nI x)) (upd a15 0 (nI i)) a16 := fun hn =>
    ⟨pk_in (6 * x) 600 (by omega) (cw_6 x), br_f (by rw [pk_cl (6 * x) (cw_6 x), h4]; decide) (br_f (by decide) (br_t (by decide) (H0 hn)))⟩
  have F46 : wX_find_46 post (wX_find_7 post (nI key) 1) (nI key) (nI x) (nI i) 0 a1 a2 a3 a4 a5 a6 a7 a8 a9 a10 a11 a12 a13 a14 a15 a16 :=
    ⟨pk_in 0 8 (by omega), nm_r (e' := upd a14 0 (nI x)) (by rw [cw_c0, cw_nb x (by omega)]) ⟨pk_in 0 8 (by omega), nm_r (e' := upd a15 0 (nI i)) (by rw [cw_c0, cw_nb i (by omega)]) (nm_r (e' := nI 1) rfl
      ⟨pk_in x 100 hx, pk_le c i (fun z => F81 (fun t => absurd t.1 (by omega)))
        (fun z => ⟨pk_in (5 * x + i) 500 (by omega) (cw_5 x i), br_c (fun e => H1 z (by rw [e5 i (by omega)] at e; exact e)) (fun e => F81 (fun t => e (by rw [e5 i (by omega)]; exact t.2)))⟩) (by rw [ex]; exact h1)⟩)⟩⟩
  exact ⟨2, br_f (nI_pos (by omega)) (pk_loop (σ := Unit) (fun n j _ => wX_find_14 post (wX_find_7 post (nI key) 1) (nI key) (nI x) 0 a1 a2 a3 a4 a5 a6 a7 a8 a9 a10 a11 a12 a13 a14 a15 a16 n (nI j)) (fun _ _ => True) i 0 () (by omega) trivial
    (fun n _ _ => ⟨pk_in x 100 hx, pk_le c i (fun _ => F46) (fun z => ⟨pk_in (5 * x + i) 500 (by omega) (cw_5 x i), br_t (by rw [e5 i (by omega)]; exact hg z) F46⟩) (by rw [ex]; exact h1)⟩)
    (fun n j _ hj _ hw => ⟨pk_in x 100 hx, pk_le c j (fun z => absurd z (by omega)) (fun z => ⟨pk_in (5 * x + j) 500 (by omega) (cw_5 x j), br_f (by rw [e5 j (by omega)]; exact hl j hj) (nm_r (nI_1 j) (hw () trivial))⟩) (by rw [ex]; exact h1)⟩))⟩
/-! isKey, sees, has, get, size -/
theorem cw_key {post : Int32 → Prop} {w : Int32} {a1 a2 a3 a4 a5 a6 a7 a8 a9 a10 a11 a12 a13 a14 a15 a16 : Nat → Int32} {key : Nat} (h : key < 100) (H : post 1) : wpX_isKey post (w, a1, a2, a3, a4, a5, a6, a7, a8, a9, a10, a11, a12, a13, a14, a15, a16) (nI key) :=
  br_f (nI_pos (by omega)) (br_f (nI_nlt (a := 99) (b := key) (by omega) (by omega)) H)
theorem cw_sees {post : Int32 → Prop} {w : Int32} {a1 a2 a3 a4 a5 a6 a7 a8 a9 a10 a11 a12 a13 a14 a15 a16 : Nat → Int32} {k x : Nat} (hk : k ≤ 3) (hx : x < 100) (hr : a11 k = nI x) (H : post 1) : wpX_sees post (w, a1, a2, a3, a4, a5, a6, a7, a8, a9, a10, a11, a12, a13, a14, a15, a16) (nI k) :=
  br_f (nI_pos (by omega)) (br_f (nI_nlt (a := 3) (b := k) (by omega) (by omega)) ⟨pk_in k 4 (by omega), br_f (by
    rw [nI_clamp (by omega), hr]
    intro z
    exact absurd (show nI x < 0 by rw [z]; decide) (nI_pos (by omega))) H⟩)
theorem cw_has {post : Int32 → St2 → Prop} {w : Int32} {a1 a2 a3 a4 a5 a6 a7 a8 a9 a10 a11 a12 a13 a14 a15 a16 : Nat → Int32} {k x c i key : Nat} (hk : k ≤ 3) (hr : a11 k = nI x) (L : cw_L a1 a2 a4 x c i key)
    (H1 : i < c → a2 (5 * x + i) = nI key → post 1 (nI 1, a1, a2, a3, a4, a5, a6, a7, a8, a9, a10, a11, a12, a13, upd a14 0 (nI x), upd a15 0 (nI i), a16))
    (H0 : ¬ (i < c ∧ a2 (5 * x + i) = nI key) → post 0 (nI 1, a1, a2, a3, a4, a5, a6, a7, a8, a9, a10, a11, a12, a13, upd a14 0 (nI x), upd a15 0 (nI i), a16)) : wpX_has post (w, a1, a2, a3, a4, a5, a6, a7, a8, a9, a10, a11, a12, a13, a14, a15, a16) (nI k) (nI key) := by
  unfold wpX_has
  exact cw_sees hk L.1 hr (br_f (by decide) (cw_key L.2.2.1 (br_f (by decide) ⟨pk_in k 4 (by omega), cw_find1 (by rw [nI_clamp (by omega)]; exact hr) L (fun z e => br_f (by decide) (H1 z e)) (fun z => br_t rfl (H0 z))⟩)))
theorem cw_get {post : Int32 → St2 → Prop} {w : Int32} {a1 a2 a3 a4 a5 a6 a7 a8 a9 a10 a11 a12 a13 a14 a15 a16 : Nat → Int32} {k x c i key : Nat} (hk : k ≤ 3) (hr : a11 k = nI x) (L : cw_L a1 a2 a4 x c i key)
    (H1 : i < c → a2 (5 * x + i) = nI key → post (a3 (5 * x + i)) (nI 1, a1, a2, a3, a4, a5, a6, a7, a8, a9, a10, a11, a12, a13, upd a14 0 (nI x), upd a15 0 (nI i), a16))
    (H0 : ¬ (i < c ∧ a2 (5 * x + i) = nI key) → post 0 (nI 1, a1, a2, a3, a4, a5, a6, a7, a8, a9, a10, a11, a12, a13, upd a14 0 (nI x), upd a15 0 (nI i), a16)) : wpX_get post (w, a1, a2, a3, a4, a5, a6, a7, a8, a9, a10, a11, a12, a13, a14, a15, a16) (nI k) (nI key) := by
  have e0 : (nI 1 - 1).toNatClampNeg = 0 := by decide
  have E : 5 * (upd a14 0 (nI x) (nI 1 - 1).toNatClampNeg) + upd a15 0 (nI i) (nI 1 - 1).toNatClampNeg = nI (5 * x + i) := by
    rw [e0, pk_us, pk_us, cw_5]
  have hx := L.1
  have hc := L.2.1
  unfold wpX_get
  exact cw_has hk hr L (fun z e => br_f (by decide) ⟨pk_in 0 8 (by omega), pk_in 0 8 (by omega), pk_in (5 * x + i) 500 (by omega) E, ek_v (P := fun v => post v (nI 1, a1, a2, a3, a4, a5, a6, a7, a8, a9, a10, a11, a12, a13, upd a14 0 (nI x), upd a15 0 (nI i), a16)) (congrArg a3 (pk_cl (5 * x + i) E)) (H1 z e)⟩) (fun z => br_t rfl (H0 z))
theorem cw_size {post : Int32 → Prop} {w : Int32} {a1 a2 a3 a4 a5 a6 a7 a8 a9 a10 a11 a12 a13 a14 a15 a16 : Nat → Int32} {k x : Nat} (hk : k ≤ 3) (hx : x < 100) (hr : a11 k = nI x) (H : post (a12 k)) : wpX_size post (w, a1, a2, a3, a4, a5, a6, a7, a8, a9, a10, a11, a12, a13, a14, a15, a16) (nI k) := by
  unfold wpX_size
  exact cw_sees hk hx hr (br_f (by decide) ⟨pk_in k 4 (by omega), ek_v (P := post) (congrArg a12 (nI_clamp (by omega))) H⟩)
end
section
/-! markTree of a leaf, findUsed, newPage -/
theorem cw_mark {post : St2 → Prop} {w : Int32} {a1 a2 a3 a4 a5 a6 a7 a8 a9 a10 a11 a12 a13 a14 a15 a16 : Nat → Int32} {x : Nat} {r : Int32} (hr : r = nI x) (hx : x < 100) (h4 : a4 (6 * x) = -1) (H : post (w, a1, a2, a3, a4, a5, upd a6 x 1, a7, a8, a9, a10, a11, a12, a13, a14, a15, upd a16 0 (nI x))) : wpX_markTree post (w, a1, a2, a3, a4, a5, a6, a7, a8, a9, a10, a11, a12, a13, a14, a15, a16) r := by
  subst hr
  exact nm_r (e' := upd a16 0 (nI x)) (by rw [cw_nb x (by omega)]) ⟨2, br_f (by decide) (nm_r (e' := nI 0) (by decide) ⟨pk_in 0 100 (by omega), nm_r (e' := nI x) (by rw [nI_clamp (by omega), pk_us])
    ⟨pk_in x 100 hx, nm_r (e' := upd a6 x 1) (by rw [nI_clamp (by omega)]) ⟨pk_in (6 * x) 600 (by omega) (cw_6 x), br_f (by rw [pk_cl (6 * x) (cw_6 x), h4]; decide) (br_t (by decide) H)⟩⟩⟩)⟩
/-- what findUsed leaves: Q says whether there is a tree at all; all trees are page 0 -/
def cw_U (Q : Prop) (b6 : Nat → Int32) : Prop := (∀ j, 0 < j → j < 100 → b6 j = 0) ∧ (Q → b6 0 = 1) ∧ (¬ Q → b6 0 = 0)
theorem cw_used {post : St2 → Prop} {w : Int32} {a1 a2 a3 a4 a5 a6 a7 a8 a9 a10 a11 a12 a13 a14 a15 a16 : Nat → Int32} {Q : Prop} (hr : ∀ j, j < 4 → a11 j < 0 ∨ (Q ∧ a11 j = nI 0)) (h3 : Q → a11 3 = nI 0) (hm : ∀ j, j < 2 → a10 j = 0 ∨ a7 j < 0 ∨ (Q ∧ a7 j = nI 0)) (h4 : Q → a4 0 = -1)
    (H : ∀ b6 b16 : Nat → Int32, cw_U Q b6 → post (w, a1, a2, a3, a4, a5, b6, a7, a8, a9, a10, a11, a12, a13, a14, a15, b16)) : wpX_findUsed post (w, a1, a2, a3, a4, a5, a6, a7, a8, a9, a10, a11, a12, a13, a14, a15, a16) := by
  have mk : ∀ {b6 : Nat → Int32}, (∀ j, 0 < j → j < 100 → b6 j = 0) → (∀ j, 0 < j → j < 100 → upd b6 0 1 j = 0) := fun h j h0 h1 => by
    rw [pk_un (by omega)]
    exact h j h0 h1
  have L55 : ∀ b6 b16 : Nat → Int32, cw_U Q b6 → ∃ fu, wX_findUsed_55 post fu 0 w a1 a2 a3 a4 a5 b6 a7 a8 a9 a10 a11 a12 a13 a14 a15 b16 := fun b6 b16 h =>
    pk_loop (fun n i (s : (Nat → Int32) × (Nat → Int32)) => wX_findUsed_55 post n (nI i) w a1 a2 a3 a4 a5 s.1 a7 a8 a9 a10 a11 a12 a13 a14 a15 s.2) (fun _ s => cw_U Q s.1) 2 0 (b6, b16) (by omega) h
      (fun n s h => pk_le 2 2 (fun _ => H s.1 s.2 h) (fun z => absurd z (by omega)))
      (fun n i s hi h hw => pk_le 2 i (fun z => absurd z (by omega)) (fun _ => ⟨pk_in i 2 hi, by
        have e : (nI i).toNatClampNeg = i := nI_clamp (by omega)
        by_cases g : a10 i = 0
        · exact br_t (by rw [e]; exact g) (nm_r (nI_1 i) (hw s h))
        · refine br_f (by rw [e]; exact g) ⟨pk_in i 2 hi, ?_⟩
          rcases hm i hi with g2 | g2 | g2
          · exact absurd g2 g
          · exact br_t (by rw [e]; exact g2) (nm_r (nI_1 i) (hw s h))
          · exact br_f (by rw [e, g2.2]; decide) ⟨pk_in i 2 hi, cw_mark (x := 0) (by rw [e]; exact g2.2) (by omega) (h4 g2.1) (nm_r (nI_1 i) (hw (upd s.1 0 1, upd s.2 0 (nI 0)) ⟨mk h.1, fun _ => pk_us (f := s.1) (k := 0) (x := 1), fun q => absurd g2.1 q⟩))⟩⟩))
  have L23 : ∀ b6 b16 : Nat → Int32, (∀ j, j < 100 → b6 j = 0) → ∃ fu, wX_findUsed_23 post fu 0 w a1 a2 a3 a4 a5 b6 a7 a8 a9 a10 a11 a12 a13 a14 a15 b16 := fun b6 b16 h =>
    pk_loop (fun n i (s : (Nat → Int32) × (Nat → Int32)) => wX_findUsed_23 post n (nI i) w a1 a2 a3 a4 a5 s.1 a7 a8 a9 a10 a11 a12 a13 a14 a15 s.2) (fun i s => (∀ j, 0 < j → j < 100 → s.1 j = 0) ∧ (3 < i → Q → s.1 0 = 1) ∧ (¬ Q → s.1 0 = 0)) 4 0 (b6, b16) (by omega) ⟨fun j _ h1 => h j h1, fun z => absurd z (by omega), fun _ => h 0 (by omega)⟩
      (fun n s h => pk_le 4 4 (fun _ => L55 s.1 s.2 ⟨h.1, h.2.1 (by omega), h.2.2⟩) (fun z => absurd z (by omega)))
      (fun n i s hi h hw => pk_le 4 i (fun z => absurd z (by omega)) (fun _ => ⟨pk_in i 4 hi, by
        have e : (nI i).toNatClampNeg = i := nI_clamp (by omega)
        rcases hr i hi with g2 | g2
        · refine br_t (by rw [e]; exact g2) (nm_r (nI_1 i) (hw s ⟨h.1, fun z q => ?_, h.2.2⟩))
          have e3 : i = 3 := by omega
          rw [e3, h3 q] at g2
          exact absurd g2 (by decide)
        · exact br_f (by rw [e, g2.2]; decide) ⟨pk_in i 4 hi, cw_mark (x := 0) (by rw [e]; exact g2.2) (by omega) (h4 g2.1) (nm_r (nI_1 i) (hw (upd s.1 0 1, upd s.2 0 (nI 0)) ⟨mk h.1, fun _ _ => pk_us (f := s.1) (k := 0) (x := 1), fun q => absurd g2.1 q⟩))⟩⟩))
  exact pk_loop (fun n i s => wX_findUsed_2 post w n (nI i) a1 a2 a3 a4 a5 s a7 a8 a9 a10 a11 a12 a13 a14 a15 a16) (fun i s => ∀ j, j < i → s j = 0) 100 0 a6 (by omega) (fun j hj => absurd hj (by omega))
    (fun n s h => pk_le 100 100 (fun _ => L23 s a16 h) (fun z => absurd z (by omega)))
    (fun n i s hi h hw => pk_le 100 i (fun z => absurd z (by omega)) (fun _ => ⟨pk_in i 100 (by omega), nm_e (nm_r (nI_1 i) (hw _ (cw_fill (nI_clamp (by omega)) h)))⟩))
/-- the page that newPage takes: 0 where no tree stands, 1 where all trees are page 0 -/
theorem cw_page {post : Int32 → St2 → Prop} {w : Int32} {a1 a2 a3 a4 a5 a6 a7 a8 a9 a10 a11 a12 a13 a14 a15 a16 : Nat → Int32} {x : Nat} (hx : x ≤ 1) (h5 : a5 x = 0)
    (hr : ∀ j, j < 4 → a11 j < 0 ∨ (x = 1 ∧ a11 j = nI 0)) (h3 : x = 1 → a11 3 = nI 0) (hm : ∀ j, j < 2 → a10 j = 0 ∨ a7 j < 0 ∨ (x = 1 ∧ a7 j = nI 0)) (h4 : x = 1 → a4 0 = -1)
    (H : ∀ b6 b16 : Nat → Int32, post (nI x) (w, upd a1 x 0, a2, a3, upd a4 (6 * x) (-1), upd a5 x 1, b6, a7, a8, a9, a10, a11, a12, a13, a14, a15, b16)) : wpX_newPage post (w, a1, a2, a3, a4, a5, a6, a7, a8, a9, a10, a11, a12, a13, a14, a15, a16) := by
  unfold wpX_newPage
  refine cw_used hr h3 hm h4 (fun b6 b16 hu => ?_)
  have ex : (nI x).toNatClampNeg = x := nI_clamp (by omega)
  refine pk_loop (σ := Unit) (fun n i _ => wX_newPage_6 post w a1 a2 a3 a4 a5 b6 a7 a8 a9 a10 a11 a12 a13 a14 a15 b16 n (nI i)) (fun _ _ => True) x 0 () (by omega) trivial ?_ ?_
  · intro n _ _
    refine pk_le 99 x (fun z => absurd z (by omega)) (fun _ => ⟨pk_in x 100 (by omega), br_t ?_ ⟨pk_in x 100 (by omega), br_t (by rw [ex]; exact h5) ⟨pk_in x 100 (by omega), nm_r (by rw [ex]) ⟨pk_in x 100 (by omega), nm_r (by rw [ex]) ⟨pk_in (6 * x) 600 (by omega) (cw_6 x), nm_r (by rw [pk_cl (6 * x) (cw_6 x)]) (H b6 b16)⟩⟩⟩⟩⟩)
    rw [ex]
    rcases Nat.lt_or_ge 0 x with z | z
    · exact hu.1 x z (by omega)
    · have e : x = 0 := by omega
      rw [e]
      exact hu.2.2 (by omega)
  · intro n i _ hi _ hw
    have e : i = 0 := by omega
    refine pk_le 99 i (fun z => absurd z (by omega)) (fun _ => ⟨pk_in i 100 (by omega), br_f ?_ (nm_r (nI_1 i) (hw () trivial))⟩)
    rw [nI_clamp (by omega), e, hu.2.1 (by omega)]
    decide
/-! freshCopy of page 0 to page 1, copyWay -/
/-- page 0 as the committed tree's one leaf: the key a with u -/
def cw_G (a : Nat) (u : Int32) (a1 a2 a3 a4 : Nat → Int32) : Prop := a1 0 = nI 1 ∧ a2 0 = nI a ∧ a3 0 = u ∧ a4 0 = -1
theorem cw_copy {post : Int32 → St2 → Prop} {w : Int32} {a1 a2 a3 a4 a5 a6 a7 a8 a9 a10 a11 a12 a13 a14 a15 a16 : Nat → Int32} {a : Nat} {u r : Int32} (hr : r = nI 0) (ha : a < 100) (g : cw_G a u a1 a2 a3 a4) (h5 : ∀ j, j < 100 → a5 j = 0)
    (h11 : ∀ j, j < 4 → a11 j < 0 ∨ a11 j = nI 0) (h3 : a11 3 = nI 0) (hm : ∀ j, j < 2 → a7 j < 0 ∨ a7 j = nI 0)
    (H : ∀ b1 b2 b3 b4 b5 b6 b16 : Nat → Int32, cw_G a u b1 b2 b3 b4 → b1 1 = nI 1 → b2 5 = nI a → b3 5 = u → b4 6 = -1 → post (nI 1) (w, b1, b2, b3, b4, b5, b6, a7, a8, a9, a10, a11, a12, a13, a14, a15, b16)) : wpX_freshCopy post (w, a1, a2, a3, a4, a5, a6, a7, a8, a9, a10, a11, a12, a13, a14, a15, a16) r := by
  subst hr
  obtain ⟨g1, g2, g3, g4⟩ := g
  have c0 : (nI 0).toNatClampNeg = 0 := nI_clamp (by omega)
  refine ⟨pk_in 0 100 (by omega), br_t (by rw [c0]; exact h5 0 (by omega)) (cw_page (x := 1) (by omega) (h5 1 (by omega)) (fun j hj => (h11 j hj).imp_right (fun z => ⟨rfl, z⟩)) (fun _ => h3) (fun j hj => Or.inr ((hm j hj).imp_right (fun z => ⟨rfl, z⟩))) (fun _ => g4) (fun b6 b16 => ?_))⟩
  refine ⟨pk_in 0 100 (by omega), pk_in 1 100 (by omega), nm_r (e' := upd (upd a1 1 0) 1 (nI 1)) (by rw [c0, nI_clamp (by omega), pk_un (by omega), g1, cw_vb (by omega)]) ?_⟩
  have L83 : ∀ b2 b3 : Nat → Int32, b2 0 = nI a → b3 0 = u → b2 5 = nI a → b3 5 = u → ∃ fu, wX_freshCopy_83 post (nI 0) (nI 1) w fu 0 (upd (upd a1 1 0) 1 (nI 1)) b2 b3 (upd a4 6 (-1)) (upd a5 1 1) b6 a7 a8 a9 a10 a11 a12 a13 a14 a15 b16 := fun b2 b3 k2 k3 k5 k6 =>
    pk_loop (fun n i s => wX_freshCopy_83 post (nI 0) (nI 1) w n (nI i) (upd (upd a1 1 0) 1 (nI 1)) b2 b3 s (upd a5 1 1) b6 a7 a8 a9 a10 a11 a12 a13 a14 a15 b16) (fun _ s => s 0 = -1 ∧ s 6 = -1) 6 0 (upd a4 6 (-1)) (by omega) ⟨by rw [pk_un (by omega)]; exact g4, pk_us⟩
      (fun n s h => pk_le 6 6 (fun _ => H _ b2 b3 s _ b6 b16 ⟨by rw [pk_un (by omega), pk_un (by omega)]; exact g1, k2, k3, h.1⟩ pk_us k5 k6 h.2) (fun z => absurd z (by omega)))
      (fun n i s hi h hw => pk_le 6 i (fun z => absurd z (by omega)) (fun _ => ⟨pk_in (6 * 0 + i) 600 (by omega) (cw_6i 0 i), pk_in (6 * 1 + i) 600 (by omega) (cw_6i 1 i), nm_r (by rw [pk_cl (6 * 0 + i) (cw_6i 0 i), pk_cl (6 * 1 + i) (cw_6i 1 i)]) (nm_r (nI_1 i) (hw _ ⟨by rw [pk_un (by omega)]; exact h.1, by
        by_cases e : i = 0
        · subst e
          rw [pk_us, show 6 * 0 + 0 = 0 from rfl, h.1, cw_vn1]
        · rw [pk_un (by omega)]
          exact h.2⟩))⟩))
  exact pk_loop (fun n i (s : (Nat → Int32) × (Nat → Int32)) => wX_freshCopy_30 post (nI 0) (nI 1) w n (nI i) (upd (upd a1 1 0) 1 (nI 1)) s.1 s.2 (upd a4 6 (-1)) (upd a5 1 1) b6 a7 a8 a9 a10 a11 a12 a13 a14 a15 b16) (fun i s => s.1 0 = nI a ∧ s.2 0 = u ∧ (0 < i → s.1 5 = nI a ∧ s.2 5 = u)) 5 0 (a2, a3) (by omega) ⟨g2, g3, fun z => absurd z (by omega)⟩
      (fun n s h => pk_le 5 5 (fun _ => L83 s.1 s.2 h.1 h.2.1 (h.2.2 (by omega)).1 (h.2.2 (by omega)).2) (fun z => absurd z (by omega)))
      (fun n i s hi h hw => pk_le 5 i (fun z => absurd z (by omega)) (fun _ => ⟨pk_in (5 * 0 + i) 500 (by omega) (cw_5 0 i), pk_in (5 * 1 + i) 500 (by omega) (cw_5 1 i), nm_r (by rw [pk_cl (5 * 0 + i) (cw_5 0 i), pk_cl (5 * 1 + i) (cw_5 1 i)]) ⟨pk_in (5 * 0 + i) 500 (by omega) (cw_5 0 i), pk_in (5 * 1 + i) 500 (by omega) (cw_5 1 i), nm_r (by rw [pk_cl (5 * 0 + i) (cw_5 0 i), pk_cl (5 * 1 + i) (cw_5 1 i)]) (nm_r (nI_1 i) (hw (_, _) ⟨by
          show upd _ _ _ 0 = _
          rw [pk_un (by omega)]
          exact h.1, by
          show upd _ _ _ 0 = _
          rw [pk_un (by omega)]
          exact h.2.1, fun _ => by
          show upd _ _ _ 5 = _ ∧ upd _ _ _ 5 = _
          by_cases e : i = 0
          · subst e
            rw [pk_us, pk_us, show 5 * 0 + 0 = 0 from rfl, h.1, h.2.1, cw_vb (by omega)]
            exact ⟨rfl, rfl⟩
          · rw [pk_un (by omega), pk_un (by omega)]
            exact h.2.2 (by omega)⟩))⟩⟩))
theorem cw_way0 {post : St2 → Prop} {a1 a2 a3 a4 a5 a6 a7 a8 a9 a10 a11 a12 a13 a14 a15 a16 : Nat → Int32} (H : post (0, a1, a2, a3, a4, a5, a6, a7, a8, a9, a10, a11, a12, a13, a14, a15, a16)) : wpX_copyWay post (0, a1, a2, a3, a4, a5, a6, a7, a8, a9, a10, a11, a12, a13, a14, a15, a16) := ⟨1, br_t (by decide) H⟩
theorem cw_way1 {post : St2 → Prop} {a1 a2 a3 a4 a5 a6 a7 a8 a9 a10 a11 a12 a13 a14 a15 a16 : Nat → Int32} {a : Nat} {u : Int32} (h14 : a14 0 = nI 0) (ha : a < 100) (g : cw_G a u a1 a2 a3 a4) (h5 : ∀ j, j < 100 → a5 j = 0)
    (h11 : ∀ j, j < 4 → a11 j < 0 ∨ a11 j = nI 0) (h3 : a11 3 = nI 0) (hm : ∀ j, j < 2 → a7 j < 0 ∨ a7 j = nI 0)
    (H : ∀ b1 b2 b3 b4 b5 b6 b16 : Nat → Int32, cw_G a u b1 b2 b3 b4 → b1 1 = nI 1 → b2 5 = nI a → b3 5 = u → b4 6 = -1 → post (nI 1, b1, b2, b3, b4, b5, b6, a7, a8, a9, a10, upd a11 3 (nI 1), a12, a13, upd a14 0 (nI 1), a15, b16)) : wpX_copyWay post (nI 1, a1, a2, a3, a4, a5, a6, a7, a8, a9, a10, a11, a12, a13, a14, a15, a16) :=
  ⟨2, br_f (by decide) ⟨pk_in 0 8 (by omega), cw_copy (by rw [cw_c0]; exact h14) ha g h5 h11 h3 hm (fun b1 b2 b3 b4 b5 b6 b16 k k1 k2 k3 k4 =>
    ⟨pk_in 0 8 (by omega), nm_r (e' := upd a14 0 (nI 1)) (by rw [cw_c0, cw_nb 1 (by omega)]) (br_t rfl (nm_r (e' := upd a11 3 (nI 1)) (by rw [cw_nb 1 (by omega)]) (nm_r (e' := nI 1) rfl (br_t (by decide) (H b1 b2 b3 b4 b5 b6 b16 k k1 k2 k3 k4)))))⟩)⟩⟩
end
section
/-! putAt, openPlace, insert without a split -/
theorem cw_putAt {post : St2 → Prop} {w : Int32} {a1 a2 a3 a4 a5 a6 a7 a8 a9 a10 a11 a12 a13 a14 a15 a16 : Nat → Int32} {x i key : Nat} {v q r : Int32} (hq : q = nI x) (hr : r = nI i) (hx : x < 100) (hi : i < 5) (hk : key < 100)
    (H : post (w, a1, upd a2 (5 * x + i) (nI key), upd a3 (5 * x + i) v, a4, a5, a6, a7, a8, a9, a10, a11, a12, a13, a14, a15, a16)) : wpX_putAt post (w, a1, a2, a3, a4, a5, a6, a7, a8, a9, a10, a11, a12, a13, a14, a15, a16) q r (nI key) v := by
  subst hq hr
  exact ⟨pk_in (5 * x + i) 500 (by omega) (cw_5 x i), nm_r (e' := upd a2 (5 * x + i) (nI key)) (by rw [pk_cl (5 * x + i) (cw_5 x i), cw_nb key (by omega)]) ⟨pk_in (5 * x + i) 500 (by omega) (cw_5 x i), nm_r (e' := upd a3 (5 * x + i) v) (by rw [pk_cl (5 * x + i) (cw_5 x i)]) H⟩⟩
theorem cw_5m (x k : Nat) : 5 * nI x + nI (k + 1) - 1 = nI (5 * x + k) := by
  rw [cw_5]
  exact nI_pred (5 * x + k)
theorem cw_open {post : St2 → Prop} {w : Int32} {a1 a2 a3 a4 a5 a6 a7 a8 a9 a10 a11 a12 a13 a14 a15 a16 : Nat → Int32} {x i c : Nat} {q r : Int32} (hq : q = nI x) (hr : r = nI i) (hx : x < 100) (hi : i ≤ c) (hc : c ≤ 4) (h1 : a1 x = nI c)
    (H : ∀ b2 b3 : Nat → Int32, (∀ j, j ≤ 5 * x + i → b2 j = a2 j) → (∀ j, j ≤ 5 * x + i → b3 j = a3 j) → post (w, upd a1 x (nI (c + 1)), b2, b3, a4, a5, a6, a7, a8, a9, a10, a11, a12, a13, a14, a15, a16)) : wpX_openPlace post (w, a1, a2, a3, a4, a5, a6, a7, a8, a9, a10, a11, a12, a13, a14, a15, a16) q r := by
  subst hq hr
  have ex : (nI x).toNatClampNeg = x := nI_clamp (by omega)
  have D : ∀ d, i + d ≤ c → ∀ s2 s3 : Nat → Int32, (∀ j, j ≤ 5 * x + i → s2 j = a2 j) → (∀ j, j ≤ 5 * x + i → s3 j = a3 j) → wX_openPlace_7 post (nI x) (nI i) w (d + 1) (nI (i + d)) a1 s2 s3 a4 a5 a6 a7 a8 a9 a10 a11 a12 a13 a14 a15 a16 := by
    intro d
    induction d with
    | zero =>
      intro _ s2 s3 k2 k3
      exact pk_le (i + 0) i (fun _ => ⟨pk_in x 100 hx, pk_in x 100 hx, nm_r (e' := upd a1 x (nI (c + 1))) (by rw [ex, h1, nI_1, cw_nb (c + 1) (by omega)]) (H s2 s3 k2 k3)⟩) (fun z => absurd z (by omega))
    | succ d ih =>
      intro hd s2 s3 k2 k3
      have m1 : (5 * nI x + nI (i + (d + 1)) - 1).toNatClampNeg = 5 * x + (i + d) := pk_cl _ (cw_5m x (i + d))
      refine pk_le (i + (d + 1)) i (fun z => absurd z (by omega)) (fun _ => ⟨pk_in (5 * x + (i + d)) 500 (by omega) (cw_5m x (i + d)), pk_in (5 * x + (i + (d + 1))) 500 (by omega) (cw_5 x (i + (d + 1))), nm_r (e' := upd s2 (5 * x + (i + (d + 1))) (vp_nar .byte (s2 (5 * x + (i + d))))) ?_ ⟨pk_in (5 * x + (i + d)) 500 (by omega) (cw_5m x (i + d)), pk_in (5 * x + (i + (d + 1))) 500 (by omega) (cw_5 x (i + (d + 1))), nm_r (e' := upd s3 (5 * x + (i + (d + 1))) (s3 (5 * x + (i + d)))) ?_ (nm_r (e' := nI (i + d)) (pk_m1 (i + d)) (ih (by omega) _ _ ?_ ?_))⟩⟩)
      · rw [m1, pk_cl (5 * x + (i + (d + 1))) (cw_5 x (i + (d + 1)))]
      · rw [m1, pk_cl (5 * x + (i + (d + 1))) (cw_5 x (i + (d + 1)))]
      · intro j hj
        rw [pk_un (by omega)]
        exact k2 j hj
      · intro j hj
        rw [pk_un (by omega)]
        exact k3 j hj
  refine ⟨pk_in x 100 hx, nm_r (e' := nI (i + (c - i))) (by rw [ex, h1]; exact congrArg nI (by omega)) ⟨c - i + 1, D (c - i) (by omega) a2 a3 (fun _ _ => rfl) (fun _ _ => rfl)⟩⟩
theorem cw_ins {post : St2 → Prop} {a1 a2 a3 a4 a5 a6 a7 a8 a9 a10 a11 a12 a13 a14 a15 a16 : Nat → Int32} {x i c key : Nat} {v : Int32} (hx : x ≤ 1) (hi : i ≤ c) (hc : c ≤ 1) (hk : key < 100) (h14 : a14 0 = nI x) (h15 : a15 0 = nI i) (h1 : a1 x = nI c)
    (H : ∀ b2 b3 : Nat → Int32, (∀ j, j < 5 * x + i → b2 j = a2 j) → b2 (5 * x + i) = nI key → (∀ j, j < 5 * x + i → b3 j = a3 j) → b3 (5 * x + i) = v → post (nI 1, upd a1 x (nI (c + 1)), b2, b3, a4, a5, a6, a7, a8, a9, a10, a11, a12, a13, a14, a15, a16)) : wX_insert_26 post (nI key) v (nI 1) a1 a2 a3 a4 a5 a6 a7 a8 a9 a10 a11 a12 a13 a14 a15 a16 := by
  have c0 : (nI 0).toNatClampNeg = 0 := nI_clamp (by omega)
  unfold wX_insert_26
  refine nm_r (e' := nI 0) (by decide) ⟨pk_in 0 8 (by omega), pk_in 0 8 (by omega), cw_open (x := x) (i := i) (c := c) (by rw [c0]; exact h14) (by rw [c0]; exact h15) (by omega) hi (by omega) h1 (fun b2 b3 k2 k3 =>
    ⟨pk_in 0 8 (by omega), pk_in 0 8 (by omega), cw_putAt (x := x) (i := i) (by rw [c0]; exact h14) (by rw [c0]; exact h15) (by omega) (by omega) hk ⟨1, br_f (by decide) ⟨pk_in 0 8 (by omega), pk_in x 100 (by omega) (by rw [c0]; exact h14), br_f ?_ (H _ _ ?_ pk_us ?_ pk_us)⟩⟩⟩)⟩
  · rw [c0, h14, nI_clamp (by omega), pk_us]
    show ¬ nI (c + 1) = nI 5
    rw [nI_eq (by omega) (by omega)]
    omega
  · intro j hj
    rw [pk_un (by omega)]
    exact k2 j (by omega)
  · intro j hj
    rw [pk_un (by omega)]
    exact k3 j (by omega)
/-! put: the first one -/
/-- after the first put: the leaf page 0 is the writer's tree -/
def cw_P1 (a : Nat) (u : Int32) (a1 a2 a3 a4 a7 a9 a10 a11 a12 : Nat → Int32) : Prop :=
  cw_G a u a1 a2 a3 a4 ∧ a7 0 = -1 ∧ a9 0 = 0 ∧ a10 0 = 1 ∧ a10 1 = 0 ∧ (∀ j, j < 3 → a11 j = -2) ∧ a11 3 = nI 0 ∧ a12 3 = nI 1
theorem cw_put0 {post : Int32 → St2 → Prop} {w : Int32} {a1 a2 a3 a4 a5 a6 a7 a8 a9 a10 a11 a12 a13 a14 a15 a16 : Nat → Int32} {a : Nat} {u : Int32} (ha : a < 100) (p : cw_P0 a5 a7 a8 a9 a10 a11 a12)
    (H : ∀ (w : Int32) (b1 b2 b3 b4 b5 b6 b11 b12 b14 b15 b16 : Nat → Int32), cw_P1 a u b1 b2 b3 b4 a7 a9 a10 b11 b12 → post 1 (w, b1, b2, b3, b4, b5, b6, a7, a8, a9, a10, b11, b12, a13, b14, b15, b16)) : wpX_put post (w, a1, a2, a3, a4, a5, a6, a7, a8, a9, a10, a11, a12, a13, a14, a15, a16) (nI a) u := by
  obtain ⟨h5, h7, h8, h9, h10, h101, h11, h113, h12⟩ := p
  unfold wpX_put
  refine cw_key ha (br_f (by decide) (cw_find0 (by rw [h113]; decide) (br_t rfl (br_t (by rw [h12]; decide) ?_))))
  unfold wX_put_40
  refine cw_way0 (nm_e (br_t rfl ?_))
  refine br_t rfl (cw_page (x := 0) (by omega) (h5 0 (by omega)) ?_ (fun z => absurd z (by omega)) ?_ (fun z => absurd z (by omega)) (fun b6 b16 => ?_))
  · intro j hj
    refine Or.inl ?_
    rcases Nat.lt_or_ge j 3 with z | z
    · rw [h11 j z]; decide
    · have e : j = 3 := by omega
      rw [e, h113]; decide
  · intro j hj
    rcases Nat.lt_or_ge j 1 with z | z
    · have e : j = 0 := by omega
      exact Or.inr (Or.inl (by rw [e, h7]; decide))
    · have e : j = 1 := by omega
      exact Or.inl (by rw [e]; exact h101)
  · refine nm_r (e' := upd a11 3 (nI 0)) (by rw [cw_nb 0 (by omega)]) ⟨pk_in 0 8 (by omega), nm_r (e' := upd a14 0 (nI 0)) (by rw [cw_c0, cw_nb 0 (by omega)]) ⟨pk_in 0 8 (by omega), nm_r (e' := upd a15 0 (nI 0)) rfl (nm_r (e' := nI 1) rfl
      (cw_ins (x := 0) (i := 0) (c := 0) (by omega) (by omega) (by omega) ha pk_us pk_us pk_us (fun b2 b3 _ k2 _ k3 => nm_r (e' := upd a12 3 (nI 1)) (by rw [h12]; rfl) (H _ _ b2 b3 _ _ b6 _ _ _ _ b16 ⟨⟨pk_us, k2, k3, pk_us⟩, h7, h9, h10, h101, ?_, pk_us, pk_us⟩))))⟩⟩
    intro j hj
    rw [pk_un (by omega)]
    exact h11 j hj
end
section
/-! put: the second one -/
theorem cw_L0 {a b : Nat} {u : Int32} {a1 a2 a3 a4 : Nat → Int32} (g : cw_G a u a1 a2 a3 a4) (ha : a < 100) (hb : b < 100) : cw_L a1 a2 a4 0 1 (if a < b then 1 else 0) b := by
  obtain ⟨g1, g2, g3, g4⟩ := g
  by_cases h : a < b
  · rw [if_pos h]
    refine ⟨by omega, by omega, hb, g1, g4, by omega, fun j hj => ?_, fun z => absurd z (by omega)⟩
    have e : j = 0 := by omega
    rw [e, show a2 (5 * 0 + 0) = nI a from g2]
    exact nI_ge h (by omega)
  · rw [if_neg h]
    refine ⟨by omega, by omega, hb, g1, g4, by omega, fun j hj => absurd hj (by omega), fun _ => ?_⟩
    rw [show a2 (5 * 0 + 0) = nI a from g2]
    exact nI_le (by omega) (by omega)
/-- after open(s): committed, the leaf page 0 is everybody's tree -/
def cw_P3 (a : Nat) (u : Int32) (s : Nat) (a1 a2 a3 a4 a5 a7 a8 a9 a10 a11 a12 : Nat → Int32) : Prop :=
  cw_G a u a1 a2 a3 a4 ∧ (∀ j, j < 100 → a5 j = 0) ∧ (a7 0 = -1 ∧ a7 1 = 0) ∧ a8 1 = 1 ∧ (a9 0 = 0 ∧ a9 1 = 1) ∧ (a10 0 = 1 ∧ a10 1 = 1) ∧ (∀ j, j < 3 → a11 j < 0 ∨ a11 j = nI 0) ∧ a11 s = nI 0 ∧ a11 3 = nI 0 ∧ a12 3 = nI 1
/-- after the second put: page 0 as it was, page 1 the writer's leaf, with b at its place i there -/
def cw_P4 (a : Nat) (u : Int32) (b : Nat) (v : Int32) (s : Nat) (a1 a2 a3 a4 a7 a8 a9 a10 a11 a12 : Nat → Int32) : Prop :=
  cw_G a u a1 a2 a3 a4 ∧ (∃ c i : Nat, cw_L a1 a2 a4 1 c i b ∧ i < c ∧ a2 (5 * 1 + i) = nI b ∧ a3 (5 * 1 + i) = v) ∧ a7 1 = 0 ∧ a8 1 = 1 ∧ (a9 0 = 0 ∧ a9 1 = 1) ∧ (a10 0 = 1 ∧ a10 1 = 1) ∧ a11 s = nI 0 ∧ a11 3 = nI 1 ∧ a12 3 = nI (if a = b then 1 else 2)
theorem cw_put1 {post : Int32 → St2 → Prop} {w : Int32} {a1 a2 a3 a4 a5 a6 a7 a8 a9 a10 a11 a12 a13 a14 a15 a16 : Nat → Int32} {a b s : Nat} {u v : Int32} (ha : a < 100) (hb : b < 100) (hs : s < 3) (p : cw_P3 a u s a1 a2 a3 a4 a5 a7 a8 a9 a10 a11 a12)
    (H : ∀ (w : Int32) (b1 b2 b3 b4 b5 b6 b11 b12 b14 b15 b16 : Nat → Int32), cw_P4 a u b v s b1 b2 b3 b4 a7 a8 a9 a10 b11 b12 → post (nI (if a = b then 0 else 1)) (w, b1, b2, b3, b4, b5, b6, a7, a8, a9, a10, b11, b12, a13, b14, b15, b16)) : wpX_put post (w, a1, a2, a3, a4, a5, a6, a7, a8, a9, a10, a11, a12, a13, a14, a15, a16) (nI b) v := by
  obtain ⟨g, h5, h7, h8, h9, h10, h11, h11s, h113, h12⟩ := p
  have L := cw_L0 (b := b) g ha hb
  have hr : ∀ j, j < 4 → a11 j < 0 ∨ a11 j = nI 0 := fun j hj => by
    rcases Nat.lt_or_ge j 3 with z | z
    · exact h11 j z
    · have e : j = 3 := by omega
      exact Or.inr (by rw [e]; exact h113)
  have hm : ∀ j, j < 2 → a7 j < 0 ∨ a7 j = nI 0 := fun j hj => by
    rcases Nat.lt_or_ge j 1 with z | z
    · have e : j = 0 := by omega
      exact Or.inl (by rw [e, h7.1]; decide)
    · have e : j = 1 := by omega
      exact Or.inr (by rw [e]; exact h7.2)
  have g2 := g.2.1
  have key : a2 (5 * 0 + (if a < b then 1 else 0)) = nI b → (if a < b then 1 else 0) < 1 → a = b := fun e z => by
    by_cases h : a < b
    · rw [if_pos h] at z
      exact absurd z (by omega)
    · rw [if_neg h] at e
      have e' : nI a = nI b := g2.symm.trans e
      exact (nI_eq (by omega) (by omega)).mp e'
  unfold wpX_put
  refine cw_key hb (br_f (by decide) (cw_find1 h113 L (fun z e => ?_) (fun z => ?_)))
  · have ab : a = b := key e z
    subst ab
    have i0 : (if a < a then 1 else 0) = 0 := if_neg (by omega)
    refine br_f (by decide) ?_
    unfold wX_put_40
    refine cw_way1 pk_us ha g h5 hr h113 hm (fun b1 b2 b3 b4 b5 b6 b16 k k1 k2 k3 k4 => nm_r (e' := nI 0) (by decide) (br_f (by decide) ⟨pk_in 0 8 (by omega), pk_in 0 8 (by omega), ?_⟩))
    have E : 5 * (upd (upd a14 0 (nI 0)) 0 (nI 1) (nI 0).toNatClampNeg) + upd a15 0 (nI (if a < a then 1 else 0)) (nI 0).toNatClampNeg = nI (5 * 1 + 0) := by
      rw [nI_clamp (by omega), pk_us, pk_us, i0, cw_5]
    refine ⟨pk_in (5 * 1 + 0) 500 (by omega) E, nm_r (e' := upd b3 (5 * 1 + 0) v) (by rw [pk_cl (5 * 1 + 0) E]) ?_⟩
    have H' := H (nI 1) b1 b2 (upd b3 (5 * 1 + 0) v) b4 b5 b6 (upd a11 3 (nI 1)) a12 (upd (upd a14 0 (nI 0)) 0 (nI 1)) (upd a15 0 (nI (if a < a then 1 else 0))) b16
    rw [if_pos rfl] at H'
    refine H' ⟨⟨k.1, k.2.1, by rw [pk_un (by omega)]; exact k.2.2.1, k.2.2.2⟩, ⟨1, 0, ⟨by omega, by omega, ha, k1, k4, by omega, fun j hj => absurd hj (by omega), fun _ => ?_⟩, by omega, k2, pk_us⟩, h7.2, h8, h9, h10, by rw [pk_un (by omega)]; exact h11s, pk_us, by rw [if_pos rfl]; exact h12⟩
    rw [show b2 (5 * 1 + 0) = nI a from k2]
    exact nI_le (by omega) (by omega)
  · have ab : a ≠ b := fun ab => z ⟨by rw [if_neg (by omega)]; omega, by rw [if_neg (by omega), ← ab]; exact g2⟩
    refine br_t rfl (br_t (by rw [h12]; decide) ?_)
    unfold wX_put_40
    refine cw_way1 pk_us ha g h5 hr h113 hm (fun b1 b2 b3 b4 b5 b6 b16 k k1 k2 k3 k4 => nm_r (e' := nI 0) (by decide) (br_t rfl (br_f (by decide) ?_)))
    refine cw_ins (x := 1) (i := if a < b then 1 else 0) (c := 1) (by omega) (by split <;> omega) (by omega) hb pk_us pk_us k1 (fun c2 c3 m2 n2 m3 n3 => nm_r (e' := upd a12 3 (nI 2)) (by rw [h12]; rfl) ?_)
    have H' := H (nI 1) (upd b1 1 (nI 2)) c2 c3 b4 b5 b6 (upd a11 3 (nI 1)) (upd a12 3 (nI 2)) (upd (upd a14 0 (nI 0)) 0 (nI 1)) (upd a15 0 (nI (if a < b then 1 else 0))) b16
    rw [if_neg ab] at H'
    refine H' ⟨⟨by rw [pk_un (by omega)]; exact k.1, (m2 0 (by omega)).trans k.2.1, (m3 0 (by omega)).trans k.2.2.1, k.2.2.2⟩, ⟨2, if a < b then 1 else 0, ⟨by omega, by omega, hb, pk_us, k4, by split <;> omega, fun j hj => ?_, fun _ => ?_⟩, by split <;> omega, n2, n3⟩, h7.2, h8, h9, h10, by rw [pk_un (by omega)]; exact h11s, pk_us, by rw [if_neg ab]; exact pk_us⟩
    · by_cases h : a < b
      · rw [if_pos h] at hj m2
        have e : j = 0 := by omega
        rw [e, m2 (5 * 1 + 0) (by omega), show b2 (5 * 1 + 0) = nI a from k2]
        exact nI_ge h (by omega)
      · rw [if_neg h] at hj
        exact absurd hj (by omega)
    · rw [n2]
      exact nI_le (by omega) (by omega)
end
section
/-! commit, open, abort -/
/-- after commit -/
def cw_P2 (a : Nat) (u : Int32) (a1 a2 a3 a4 a5 a7 a8 a9 a10 a11 a12 : Nat → Int32) : Prop :=
  cw_G a u a1 a2 a3 a4 ∧ (∀ j, j < 100 → a5 j = 0) ∧ (a7 0 = -1 ∧ a7 1 = 0) ∧ a8 1 = 1 ∧ (a9 0 = 0 ∧ a9 1 = 1) ∧ (a10 0 = 1 ∧ a10 1 = 1) ∧ (∀ j, j < 3 → a11 j = -2) ∧ a11 3 = nI 0 ∧ a12 3 = nI 1
theorem cw_num {post : Int32 → Prop} {w : Int32} {a1 a2 a3 a4 a5 a6 a7 a8 a9 a10 a11 a12 a13 a14 a15 a16 : Nat → Int32} (h10 : a10 0 = 1 ∧ a10 1 = 1) (h9 : a9 0 = 0 ∧ a9 1 = 1) (H : post 1) : wpX_number post (w, a1, a2, a3, a4, a5, a6, a7, a8, a9, a10, a11, a12, a13, a14, a15, a16) := by
  unfold wpX_number
  exact cw_vm1 h10.1 h10.2 h9.1 h9.2 ⟨pk_in 1 2 (by omega), ek_v (P := post) (show a9 (1 : Int32).toNatClampNeg = 1 by rw [cw_c1]; exact h9.2) H⟩
theorem cw_commit {post : Int32 → St2 → Prop} {w : Int32} {a1 a2 a3 a4 a5 a6 a7 a8 a9 a10 a11 a12 a13 a14 a15 a16 : Nat → Int32} {a : Nat} {u : Int32} (p : cw_P1 a u a1 a2 a3 a4 a7 a9 a10 a11 a12)
    (H : ∀ b5 b7 b8 b9 b10 : Nat → Int32, cw_P2 a u a1 a2 a3 a4 b5 b7 b8 b9 b10 a11 a12 → post 1 (w, a1, a2, a3, a4, b5, a6, b7, b8, b9, b10, a11, a12, a13, a14, a15, a16)) : wpX_commit post (w, a1, a2, a3, a4, a5, a6, a7, a8, a9, a10, a11, a12, a13, a14, a15, a16) := by
  obtain ⟨g, h7, h9, h10, h101, h11, h113, h12⟩ := p
  have c1 : (nI 1).toNatClampNeg = 1 := nI_clamp (by omega)
  unfold wpX_commit wpX_writeMeta
  refine cw_vm0 h10 h101 (nm_r (e' := nI 1) (by decide) ⟨pk_in 1 2 (by omega), nm_r (e' := upd a10 1 1) (by rw [c1]; rfl) ⟨pk_in 1 2 (by omega), nm_r (e' := upd a7 1 0) (by rw [c1, h113]; rfl) ⟨pk_in 1 2 (by omega), nm_r (e' := upd a8 1 1) (by rw [c1, h12]; rfl) ⟨pk_in 0 2 (by omega), pk_in 1 2 (by omega), nm_r (e' := upd a9 1 1) (by rw [c1, cw_c0, h9]; rfl) ?_⟩⟩⟩⟩)
  have u9 : upd a9 1 1 0 = 0 := by
    rw [pk_un (by omega)]
    exact h9
  have u10 : upd a10 1 1 0 = 1 := by
    rw [pk_un (by omega)]
    exact h10
  have u7 : upd a7 1 0 0 = -1 := by
    rw [pk_un (by omega)]
    exact h7
  exact cw_settle (fun b5 h5 => cw_num ⟨u10, pk_us⟩ ⟨u9, pk_us⟩ (H b5 _ _ _ _ ⟨g, h5, ⟨u7, pk_us⟩, pk_us, ⟨u9, pk_us⟩, ⟨u10, pk_us⟩, h11, h113, h12⟩))
theorem cw_opn {post : Int32 → St2 → Prop} {w : Int32} {a1 a2 a3 a4 a5 a6 a7 a8 a9 a10 a11 a12 a13 a14 a15 a16 : Nat → Int32} {a s : Nat} {u : Int32} (hs : s < 3) (p : cw_P2 a u a1 a2 a3 a4 a5 a7 a8 a9 a10 a11 a12)
    (H : ∀ b11 b12 b13 : Nat → Int32, cw_P3 a u s a1 a2 a3 a4 a5 a7 a8 a9 a10 b11 b12 → post 1 (w, a1, a2, a3, a4, a5, a6, a7, a8, a9, a10, b11, b12, b13, a14, a15, a16)) : wpX_open post (w, a1, a2, a3, a4, a5, a6, a7, a8, a9, a10, a11, a12, a13, a14, a15, a16) (nI s) := by
  obtain ⟨g, h5, h7, h8, h9, h10, h11, h113, h12⟩ := p
  have cs : (nI s).toNatClampNeg = s := nI_clamp (by omega)
  refine br_f (nI_pos (by omega)) (br_t (nI_le (b := 2) (by omega) (by omega)) (cw_vm1 h10.1 h10.2 h9.1 h9.2 ⟨pk_in 1 2 (by omega), pk_in s 4 (by omega), nm_r (e' := upd a11 s (nI 0)) (by rw [cs, cw_c1, h7.2]; rfl) ⟨pk_in 1 2 (by omega), pk_in s 4 (by omega), nm_r (e' := upd a12 s (nI 1)) (by rw [cs, cw_c1, h8]; rfl) ⟨pk_in 1 2 (by omega), pk_in s 4 (by omega), nm_r (e' := upd a13 s 1) (by rw [cs, cw_c1, h9.2]) ⟨pk_in s 4 (by omega), ?_⟩⟩⟩⟩))
  refine ek_v (P := fun r => post r (w, a1, a2, a3, a4, a5, a6, a7, a8, a9, a10, upd a11 s (nI 0), upd a12 s (nI 1), upd a13 s 1, a14, a15, a16)) (show upd a13 s 1 (nI s).toNatClampNeg = 1 by rw [cs, pk_us]) (H _ _ _ ⟨g, h5, h7, h8, h9, h10, fun j hj => ?_, pk_us, by rw [pk_un (by omega)]; exact h113, by rw [pk_un (by omega)]; exact h12⟩)
  by_cases e : j = s
  · exact Or.inr (by rw [e, pk_us])
  · exact Or.inl (by rw [pk_un e, h11 j hj]; decide)
theorem cw_abort {post : Int32 → St2 → Prop} {w : Int32} {a1 a2 a3 a4 a5 a6 a7 a8 a9 a10 a11 a12 a13 a14 a15 a16 : Nat → Int32} (h10 : a10 0 = 1 ∧ a10 1 = 1) (h9 : a9 0 = 0 ∧ a9 1 = 1) (h7 : a7 1 = 0) (h8 : a8 1 = 1)
    (H : ∀ b5 b11 b12 : Nat → Int32, b11 3 = nI 0 → post 1 (w, a1, a2, a3, a4, b5, a6, a7, a8, a9, a10, b11, b12, a13, a14, a15, a16)) : wpX_abort post (w, a1, a2, a3, a4, a5, a6, a7, a8, a9, a10, a11, a12, a13, a14, a15, a16) := by
  unfold wpX_abort
  exact cw_load1 h10.1 h10.2 h9.1 h9.2 h7 h8 (fun b5 _ => cw_num h10 h9 (H _ _ _ pk_us))
/-! the law -/
theorem cw_cell {post : Int32 → Prop} {L : Nat} {xs : Nat → Int32} {u : St0} (k : Nat) (hL : L ≤ 5) (hk : k < 5) (H : ∀ r, post r) : wpL_cellAt post L xs u (nI k) :=
  pk_le L k (fun _ => H 0) (fun z => ⟨pk_in k L z, H _⟩)
theorem cw_mod (p : Int32) {d : Nat} {D : Int32} (h0 : 0 < d) (hd : d < 2 ^ 31) (hD : D = nI d) : ∃ a : Nat, a < d ∧ (p &&& 1023) - (p &&& 1023) / D * D = nI a := by
  obtain ⟨j, hj, e⟩ := pk_andE p (m := 1023) 10 (by decide)
  refine ⟨j % d, Nat.mod_lt _ h0, ?_⟩
  rw [e, hD, pk_rem (by omega) h0 hd]
end
section
theorem cw_hit {a b : Nat} {u : Int32} {a1 a2 a3 a4 : Nat → Int32} (g : cw_G a u a1 a2 a3 a4) (ha : a < 100) (hb : b < 100) : ((if a < b then 1 else 0) < 1 ∧ a2 (5 * 0 + (if a < b then 1 else 0)) = nI b) ↔ a = b := by
  constructor
  · intro h
    by_cases c : a < b
    · rw [if_pos c] at h
      exact absurd h.1 (by omega)
    · rw [if_neg c] at h
      have e : nI a = nI b := g.2.1.symm.trans h.2
      exact (nI_eq (by omega) (by omega)).mp e
  · intro h
    rw [if_neg (by omega), ← h]
    exact ⟨by omega, g.2.1⟩
theorem cw_val {a b : Nat} {u : Int32} {a1 a2 a3 a4 : Nat → Int32} (g : cw_G a u a1 a2 a3 a4) (h : a = b) : a3 (5 * 0 + (if a < b then 1 else 0)) = u := by
  rw [if_neg (by omega)]
  exact g.2.2.1
theorem cw_e167 {post : Int32 → St0 → Prop} (HP : post 1 ()) {w : Int32} {a1 a2 a3 a4 a5 a6 a7 a8 a9 a10 a11 a12 a13 a14 a15 a16 : Nat → Int32} {a b s mc ms kc ks : Nat} {u v z0 z1 : Int32} (ha : a < 100) (hb : b < 100) (p : cw_P4 a u b v s a1 a2 a3 a4 a7 a8 a9 a10 a11 a12) (hz : z1 = z0) :
    wL_lawOf_167 post mc ms u (nI a) (nI b) z0 z1 kc ks w a1 a2 a3 a4 a5 a6 a7 a8 a9 a10 a11 a12 a13 a14 a15 a16 := by
  obtain ⟨g, _, h7, h8, h9, h10, _, _, _⟩ := p
  refine br_t hz (cw_abort h10 h9 h7 h8 (fun b5 b11 b12 h => br_t rfl (cw_get (k := 3) (x := 0) (by omega) h (cw_L0 (b := b) g ha hb) (fun z e => ?_) (fun z => ?_))))
  · have ab := (cw_hit g ha hb).mp ⟨z, e⟩
    exact br_t (congrArg nI ab) (br_t (cw_val g ab) HP)
  · have ab : ¬ a = b := fun ab => z ((cw_hit g ha hb).mpr ab)
    exact br_f (fun e => ab ((nI_eq (by omega) (by omega)).mp e)) (br_t rfl HP)
theorem cw_e146 {post : Int32 → St0 → Prop} (HP : post 1 ()) {w : Int32} {a1 a2 a3 a4 a5 a6 a7 a8 a9 a10 a11 a12 a13 a14 a15 a16 : Nat → Int32} {a b s mc ms kc ks : Nat} {u v z0 z1 : Int32} (ha : a < 100) (hb : b < 100) (p : cw_P4 a u b v s a1 a2 a3 a4 a7 a8 a9 a10 a11 a12) (hz : z1 = z0) :
    wL_lawOf_146 post mc ms u (nI a) (nI b) z0 z1 kc ks w a1 a2 a3 a4 a5 a6 a7 a8 a9 a10 a11 a12 a13 a14 a15 a16 := by
  have h11 := p.2.2.2.2.2.2.2.1
  have h12 := p.2.2.2.2.2.2.2.2
  refine br_t hz (cw_size (k := 3) (x := 1) (by omega) (by omega) h11 (pk_eq a b (fun ab => cw_e167 HP ha hb p ?_) (fun ab => cw_e167 HP ha hb p ?_)))
  · rw [h12, if_pos ab]
    rfl
  · rw [h12, if_neg ab]
    rfl
theorem cw_e93 {post : Int32 → St0 → Prop} (HP : post 1 ()) {w : Int32} {a1 a2 a3 a4 a5 a6 a7 a8 a9 a10 a11 a12 a13 a14 a15 a16 : Nat → Int32} {a b s mc ms kc ks : Nat} {u v z0 z1 : Int32} (ha : a < 100) (hb : b < 100) (hs : s < 3) (p : cw_P4 a u b v s a1 a2 a3 a4 a7 a8 a9 a10 a11 a12) (hz : z1 = z0) :
    wL_lawOf_93 post mc ms u v (nI a) (nI b) (nI s) z0 z1 kc ks w a1 a2 a3 a4 a5 a6 a7 a8 a9 a10 a11 a12 a13 a14 a15 a16 := by
  have g := p.1
  have h11s := p.2.2.2.2.2.2.1
  have h113 := p.2.2.2.2.2.2.2.1
  obtain ⟨c, i, L, hi, e2, e3⟩ := p.2.1
  refine br_t hz (cw_get (k := s) (x := 0) (by omega) h11s (cw_L0 (b := a) g ha ha) (fun _ _ => br_t (cw_val g rfl) ?_) (fun z => absurd ((cw_hit g ha ha).mpr rfl) z))
  refine cw_get (k := 3) (x := 1) (by omega) h113 L (fun _ _ => br_t e3 ?_) (fun z => absurd ⟨hi, e2⟩ z)
  refine cw_has (k := s) (x := 0) (by omega) h11s (cw_L0 (b := b) g ha hb) (fun z e => ?_) (fun z => ?_)
  · have ab := (cw_hit g ha hb).mp ⟨z, e⟩
    exact br_t (congrArg nI ab) (cw_e146 HP ha hb p rfl)
  · have ab : ¬ a = b := fun ab => z ((cw_hit g ha hb).mpr ab)
    exact br_f (fun e => ab ((nI_eq (by omega) (by omega)).mp e)) (cw_e146 HP ha hb p rfl)
theorem cw_law {post : Int32 → St0 → Prop} (HP : post 1 ()) (p q u v r : Int32) : wpL_lawOf post 17 2053 () p q u v r := by
  obtain ⟨a, ha, ea⟩ := cw_mod p (d := 100) (D := 100) (by omega) (by omega) rfl
  obtain ⟨b, hb, eb⟩ := cw_mod q (d := 100) (D := 100) (by omega) (by omega) rfl
  obtain ⟨s, hs, es⟩ := cw_mod r (d := 3) (D := 3) (by omega) (by omega) rfl
  refine ⟨by omega, by omega, 16, 2036, by omega, by omega, cw_init (by omega) (by omega) (fun w a1 a2 a3 a4 a5 a6 a7 a8 a9 a10 a11 a12 a13 a14 a15 a16 p0 => ⟨by decide, nm_r ea ⟨by decide, nm_r eb ⟨by decide, nm_r es ?_⟩⟩⟩)⟩
  refine cw_put0 ha p0 (fun w b1 b2 b3 b4 b5 b6 b11 b12 b14 b15 b16 p1 => br_t rfl ?_)
  refine cw_commit p1 (fun c5 c7 c8 c9 c10 p2 => br_t rfl ?_)
  refine cw_opn hs p2 (fun d11 d12 d13 p3 => br_t rfl ?_)
  refine cw_put1 ha hb hs p3 (fun w e1 e2 e3 e4 e5 e6 e11 e12 e14 e15 e16 p4 => pk_eq a b (fun ab => cw_e93 HP ha hb hs p4 ?_) (fun ab => cw_e93 HP ha hb hs p4 ?_))
  · rw [if_pos ab]
    rfl
  · rw [if_neg ab]
    rfl
theorem i_vc (xs : Nat → Int32) (L : Nat) (hL : L ≤ 5) : wpL_law (fun r => r = 1) L xs := by
  unfold wpL_law
  exact cw_cell 0 hL (by omega) (fun r1 => cw_cell 1 hL (by omega) (fun r2 => cw_cell 2 hL (by omega) (fun r3 => cw_cell 3 hL (by omega) (fun r4 => cw_cell 4 hL (by omega) (fun r5 => ⟨17, 2053, by omega, by omega, cw_law rfl r1 r2 r3 r4 r5⟩)))))
end
