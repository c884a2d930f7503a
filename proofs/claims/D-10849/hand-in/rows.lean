section
/-! ===== the methods, a lemma for each ===== -/
theorem ct_fill {v : Int32} {s : Nat → Int32} {i k : Nat} (hk : k = i) (h : ∀ j, j < i → s j = v) : ∀ j, j < i + 1 → upd s k v j = v := by
  intro j hj
  rw [hk]
  by_cases e : j = i
  · rw [e, pk_us]
  · rw [pk_un e]
    exact h j (by omega)
section
variable {w : Int32} {a1 a2 a3 a4 a5 a6 a7 a8 a9 a10 a11 a12 a13 a14 a15 a16 : Nat → Int32}
theorem ct_vm0 {post : Int32 → Prop} (h0 : ¬ a10 0 = 0) (h1 : a10 1 = 0) (hp : post 0) : wpX_validMeta post (w, a1, a2, a3, a4, a5, a6, a7, a8, a9, a10, a11, a12, a13, a14, a15, a16) := br_f h0 (br_t h1 hp)
theorem ct_vm1 {post : Int32 → Prop} (h0 : ¬ a10 0 = 0) (h1 : ¬ a10 1 = 0) (h9 : a9 0 ≤ a9 1) (hp : post 1) : wpX_validMeta post (w, a1, a2, a3, a4, a5, a6, a7, a8, a9, a10, a11, a12, a13, a14, a15, a16) := br_f h0 (br_f h1 (br_t h9 hp))
theorem ct_settle {post : St2 → Prop} (H : ∀ b : Nat → Int32, (∀ j, j < 100 → b j = 0) → post (w, a1, a2, a3, a4, b, a6, a7, a8, a9, a10, a11, a12, a13, a14, a15, a16)) : wpX_settle post (w, a1, a2, a3, a4, a5, a6, a7, a8, a9, a10, a11, a12, a13, a14, a15, a16) :=
  pk_loop (fun n i s => wX_settle_2 post w n (nI i) a1 a2 a3 a4 s a6 a7 a8 a9 a10 a11 a12 a13 a14 a15 a16) (fun i s => ∀ j, j < i → s j = 0) 100 0 a5 (by omega) (fun j hj => absurd hj (by omega))
    (fun n s h => pk_le 100 100 (fun _ => H s h) (fun z => absurd z (by omega)))
    (fun n i s hi h hw => pk_le 100 i (fun z => absurd z (by omega)) (fun _ => ⟨pk_in i 100 hi, nm_e (nm_r (nI_1 i) (hw _ (ct_fill (nI_clamp (by omega)) h)))⟩))
theorem ct_load0 {post : St2 → Prop} (h0 : ¬ a10 0 = 0) (h1 : a10 1 = 0) (H : ∀ b : Nat → Int32, (∀ j, j < 100 → b j = 0) → post (w, a1, a2, a3, a4, b, a6, a7, a8, a9, a10, upd a11 3 (vp_nar .byte (a7 0)), upd a12 3 (vp_nar .byte (a8 0)), a13, a14, a15, a16)) : wpX_loadWriter post (w, a1, a2, a3, a4, a5, a6, a7, a8, a9, a10, a11, a12, a13, a14, a15, a16) := by
  unfold wpX_loadWriter
  refine ct_vm0 h0 h1 ?_
  refine ct_settle (fun b hb => ?_)
  exact ⟨pk_in 0 2 (by omega), nm_e ⟨pk_in 0 2 (by omega), nm_e (H b hb)⟩⟩
theorem ct_load1 {post : St2 → Prop} (h0 : ¬ a10 0 = 0) (h1 : ¬ a10 1 = 0) (h9 : a9 0 ≤ a9 1) (H : ∀ b : Nat → Int32, (∀ j, j < 100 → b j = 0) → post (w, a1, a2, a3, a4, b, a6, a7, a8, a9, a10, upd a11 3 (vp_nar .byte (a7 1)), upd a12 3 (vp_nar .byte (a8 1)), a13, a14, a15, a16)) : wpX_loadWriter post (w, a1, a2, a3, a4, a5, a6, a7, a8, a9, a10, a11, a12, a13, a14, a15, a16) := by
  unfold wpX_loadWriter
  refine ct_vm1 h0 h1 h9 ?_
  refine ct_settle (fun b hb => ?_)
  exact ⟨pk_in 1 2 (by omega), nm_e ⟨pk_in 1 2 (by omega), nm_e (H b hb)⟩⟩
theorem ct_init144 {post : St2 → Prop} {mc ms kc ks : Nat} (h0 : ¬ a10 0 = 0) (h1 : a10 1 = 0) (H : ∀ b r : Nat → Int32, (∀ j, j < 100 → b j = 0) → (∀ j, j < 4 → r j = -2) → post (w, a1, a2, a3, a4, b, a6, a7, a8, a9, a10, upd r 3 (vp_nar .byte (a7 0)), upd a12 3 (vp_nar .byte (a8 0)), a13, a14, a15, a16)) : ∃ n, wX_init_144 post mc ms kc ks w n 0 a1 a2 a3 a4 a5 a6 a7 a8 a9 a10 a11 a12 a13 a14 a15 a16 :=
  pk_loop (fun n i s => wX_init_144 post mc ms kc ks w n (nI i) a1 a2 a3 a4 a5 a6 a7 a8 a9 a10 s a12 a13 a14 a15 a16) (fun i s => ∀ j, j < i → s j = -2) 4 0 a11 (by omega) (fun j hj => absurd hj (by omega))
    (fun n s h => pk_le 4 4 (fun _ => ct_load0 h0 h1 (fun b hb => H b s hb h)) (fun z => absurd z (by omega)))
    (fun n i s hi h hw => pk_le 4 i (fun z => absurd z (by omega)) (fun _ => ⟨pk_in i 4 hi, nm_e (nm_r (nI_1 i) (hw _ (ct_fill (nI_clamp (by omega)) h)))⟩))
theorem ct_key {post : Int32 → Prop} {p : Int32} (H1 : ¬ p < 0 → ¬ 99 < p → post 1) (H0 : (p < 0 ∨ 99 < p) → post 0) : wpX_isKey post (w, a1, a2, a3, a4, a5, a6, a7, a8, a9, a10, a11, a12, a13, a14, a15, a16) p :=
  br_c (fun h => H0 (.inl h)) (fun h => br_c (fun h' => H0 (.inr h')) (fun h' => H1 h h'))
theorem ct_push {post : St2 → Prop} {p q : Int32} (H : post (1, a1, a2, a3, a4, a5, a6, a7, a8, a9, a10, a11, a12, a13, upd a14 0 p.toInt8.toInt32, upd a15 0 q.toInt8.toInt32, a16)) : wpX_pushWay post (0, a1, a2, a3, a4, a5, a6, a7, a8, a9, a10, a11, a12, a13, a14, a15, a16) p q :=
  ⟨pk_in 0 8 (by omega), nm_e ⟨pk_in 0 8 (by omega), nm_e (nm_e H)⟩⟩
theorem ct_leaf {post : Int32 → Prop} (h4 : a4 0 = -1) (hp : post 1) : wpX_isLeaf post (w, a1, a2, a3, a4, a5, a6, a7, a8, a9, a10, a11, a12, a13, a14, a15, a16) 0 :=
  ⟨pk_in 0 600 (by omega), br_f (show ¬ 0 ≤ a4 0 by rw [h4]; decide) hp⟩
/-! find -/
theorem ct_f81 {post : Int32 → St2 → Prop} {J : Int32 → Int32 → (Nat → Int32) → (Nat → Int32) → (Nat → Int32) → (Nat → Int32) → (Nat → Int32) → (Nat → Int32) → (Nat → Int32) → (Nat → Int32) → (Nat → Int32) → (Nat → Int32) → (Nat → Int32) → (Nat → Int32) → (Nat → Int32) → (Nat → Int32) → (Nat → Int32) → (Nat → Int32) → Prop} {k x4 : Int32} (h4 : a4 0 = -1) (H : J (-1) w a1 a2 a3 a4 a5 a6 a7 a8 a9 a10 a11 a12 a13 a14 a15 a16) : wX_find_81 post J k 0 x4 w a1 a2 a3 a4 a5 a6 a7 a8 a9 a10 a11 a12 a13 a14 a15 a16 := by
  unfold wX_find_81
  refine ct_leaf h4 ?_
  exact br_f (by decide) H
theorem ct_f46a {post : Int32 → St2 → Prop} {J : Int32 → Int32 → (Nat → Int32) → (Nat → Int32) → (Nat → Int32) → (Nat → Int32) → (Nat → Int32) → (Nat → Int32) → (Nat → Int32) → (Nat → Int32) → (Nat → Int32) → (Nat → Int32) → (Nat → Int32) → (Nat → Int32) → (Nat → Int32) → (Nat → Int32) → (Nat → Int32) → (Nat → Int32) → Prop} {k : Int32} (h1 : a1 0 = 1) (h4 : a4 0 = -1) (Ht : a2 0 = k → post 1 (1, a1, a2, a3, a4, a5, a6, a7, a8, a9, a10, a11, a12, a13, upd a14 0 0, upd a15 0 0, a16)) (Hf : ¬ a2 0 = k → J (-1) 1 a1 a2 a3 a4 a5 a6 a7 a8 a9 a10 a11 a12 a13 (upd a14 0 0) (upd a15 0 0) a16) : wX_find_46 post J k 0 0 0 a1 a2 a3 a4 a5 a6 a7 a8 a9 a10 a11 a12 a13 a14 a15 a16 := by
  unfold wX_find_46
  refine ct_push ?_
  refine ⟨pk_in 0 100 (by omega), br_f (show ¬ a1 0 ≤ 0 by rw [h1]; decide) ⟨pk_in 0 500 (by omega), br_c (fun h => Ht h) (fun h => ct_f81 h4 (Hf h))⟩⟩
theorem ct_f46b {post : Int32 → St2 → Prop} {J : Int32 → Int32 → (Nat → Int32) → (Nat → Int32) → (Nat → Int32) → (Nat → Int32) → (Nat → Int32) → (Nat → Int32) → (Nat → Int32) → (Nat → Int32) → (Nat → Int32) → (Nat → Int32) → (Nat → Int32) → (Nat → Int32) → (Nat → Int32) → (Nat → Int32) → (Nat → Int32) → (Nat → Int32) → Prop} {k : Int32} (h1 : a1 0 = 1) (h4 : a4 0 = -1) (Hf : J (-1) 1 a1 a2 a3 a4 a5 a6 a7 a8 a9 a10 a11 a12 a13 (upd a14 0 0) (upd a15 0 1) a16) : wX_find_46 post J k 0 1 0 a1 a2 a3 a4 a5 a6 a7 a8 a9 a10 a11 a12 a13 a14 a15 a16 := by
  unfold wX_find_46
  refine ct_push ?_
  exact ⟨pk_in 0 100 (by omega), br_t (show a1 0 ≤ 1 by rw [h1]; decide) (ct_f81 h4 Hf)⟩
theorem ct_find0 {post : Int32 → St2 → Prop} {k : Int32} (H : post 0 (0, a1, a2, a3, a4, a5, a6, a7, a8, a9, a10, a11, a12, a13, a14, a15, a16)) : wpX_find post (w, a1, a2, a3, a4, a5, a6, a7, a8, a9, a10, a11, a12, a13, a14, a15, a16) (-1) k := ⟨1, br_t (by decide) H⟩
theorem ct_find1 {post : Int32 → St2 → Prop} {k : Int32} (h1 : a1 0 = 1) (h4 : a4 0 = -1) (Ht : a2 0 = k → post 1 (1, a1, a2, a3, a4, a5, a6, a7, a8, a9, a10, a11, a12, a13, upd a14 0 0, upd a15 0 0, a16)) (Hf : ¬ a2 0 = k → ∀ b14 b15 : Nat → Int32, post 0 (1, a1, a2, a3, a4, a5, a6, a7, a8, a9, a10, a11, a12, a13, b14, b15, a16)) : wpX_find post (w, a1, a2, a3, a4, a5, a6, a7, a8, a9, a10, a11, a12, a13, a14, a15, a16) 0 k := by
  refine ⟨2, br_f (by decide) ⟨2, pk_in 0 100 (by omega), br_f (show ¬ a1 0 ≤ 0 by rw [h1]; decide) ⟨pk_in 0 500 (by omega), br_c (fun h => ?_) (fun h => ?_)⟩⟩⟩
  · exact ct_f46a h1 h4 Ht (fun g => br_t (by decide) (Hf g _ _))
  · have h : ¬ k ≤ a2 0 := h
    have g : ¬ a2 0 = k := fun e => h (by rw [e]; exact Int32.le_refl k)
    refine nm_r (nI_1 0) ⟨pk_in 0 100 (by omega), br_t (show a1 0 ≤ 1 by rw [h1]; decide) ?_⟩
    exact ct_f46b h1 h4 (br_t (by decide) (Hf g _ _))
/-! newPage -/
theorem ct_u55 {post : St2 → Prop} (h0 : ¬ a10 0 = 0) (h1 : a10 1 = 0) (h7 : a7 0 = -1) (H : post (w, a1, a2, a3, a4, a5, a6, a7, a8, a9, a10, a11, a12, a13, a14, a15, a16)) : ∃ n, wX_findUsed_55 post n 0 w a1 a2 a3 a4 a5 a6 a7 a8 a9 a10 a11 a12 a13 a14 a15 a16 :=
  ⟨3, br_f (by decide) ⟨pk_in 0 2 (by omega), br_f h0 ⟨pk_in 0 2 (by omega), br_t (show a7 0 < 0 by rw [h7]; decide) (nm_r (nI_1 0) (br_f (by decide) ⟨pk_in 1 2 (by omega), br_t h1 (nm_r (nI_1 1) (br_t (by decide) H))⟩))⟩⟩⟩
theorem ct_u23 {post : St2 → Prop} (h11 : ∀ j, j < 4 → a11 j < 0) (H : ∃ n, wX_findUsed_55 post n 0 w a1 a2 a3 a4 a5 a6 a7 a8 a9 a10 a11 a12 a13 a14 a15 a16) : ∃ n, wX_findUsed_23 post n 0 w a1 a2 a3 a4 a5 a6 a7 a8 a9 a10 a11 a12 a13 a14 a15 a16 :=
  pk_loop (σ := Unit) (fun n i _ => wX_findUsed_23 post n (nI i) w a1 a2 a3 a4 a5 a6 a7 a8 a9 a10 a11 a12 a13 a14 a15 a16) (fun _ _ => True) 4 0 () (by omega) trivial
    (fun n _ _ => pk_le 4 4 (fun _ => H) (fun z => absurd z (by omega)))
    (fun n i _ hi _ hw => pk_le 4 i (fun z => absurd z (by omega)) (fun _ => ⟨pk_in i 4 hi, br_t (by rw [nI_clamp (by omega)]; exact h11 i hi) (nm_r (nI_1 i) (hw () trivial))⟩))
theorem ct_used {post : St2 → Prop} (h0 : ¬ a10 0 = 0) (h1 : a10 1 = 0) (h7 : a7 0 = -1) (h11 : ∀ j, j < 4 → a11 j < 0) (H : ∀ b : Nat → Int32, (∀ j, j < 100 → b j = 0) → post (w, a1, a2, a3, a4, a5, b, a7, a8, a9, a10, a11, a12, a13, a14, a15, a16)) : wpX_findUsed post (w, a1, a2, a3, a4, a5, a6, a7, a8, a9, a10, a11, a12, a13, a14, a15, a16) :=
  pk_loop (fun n i s => wX_findUsed_2 post w n (nI i) a1 a2 a3 a4 a5 s a7 a8 a9 a10 a11 a12 a13 a14 a15 a16) (fun i s => ∀ j, j < i → s j = 0) 100 0 a6 (by omega) (fun j hj => absurd hj (by omega))
    (fun n s h => pk_le 100 100 (fun _ => ct_u23 h11 (ct_u55 h0 h1 h7 (H s h))) (fun z => absurd z (by omega)))
    (fun n i s hi h hw => pk_le 100 i (fun z => absurd z (by omega)) (fun _ => ⟨pk_in i 100 hi, nm_e (nm_r (nI_1 i) (hw _ (ct_fill (nI_clamp (by omega)) h)))⟩))
theorem ct_page {post : Int32 → St2 → Prop} (h0 : ¬ a10 0 = 0) (h1 : a10 1 = 0) (h7 : a7 0 = -1) (h11 : ∀ j, j < 4 → a11 j < 0) (h5 : a5 0 = 0) (H : ∀ b : Nat → Int32, post 0 (w, upd a1 0 0, a2, a3, upd a4 0 (-1), upd a5 0 1, b, a7, a8, a9, a10, a11, a12, a13, a14, a15, a16)) : wpX_newPage post (w, a1, a2, a3, a4, a5, a6, a7, a8, a9, a10, a11, a12, a13, a14, a15, a16) := by
  unfold wpX_newPage
  refine ct_used h0 h1 h7 h11 (fun b hb => ?_)
  refine ⟨1, br_f (by decide) ⟨pk_in 0 100 (by omega), br_t (hb 0 (by omega)) ⟨pk_in 0 100 (by omega), br_t h5 ?_⟩⟩⟩
  exact ⟨pk_in 0 100 (by omega), nm_e ⟨pk_in 0 100 (by omega), nm_e ⟨pk_in 0 600 (by omega), nm_e (H b)⟩⟩⟩
/-! insert, put -/
theorem ct_open {post : St2 → Prop} {p q : Int32} (hp : p = 0) (hq : q = 0) (h1 : a1 0 = 0) (H : post (w, upd a1 0 1, a2, a3, a4, a5, a6, a7, a8, a9, a10, a11, a12, a13, a14, a15, a16)) : wpX_openPlace post (w, a1, a2, a3, a4, a5, a6, a7, a8, a9, a10, a11, a12, a13, a14, a15, a16) p q := by
  subst hp hq
  exact ⟨pk_in 0 100 (by omega), nm_r h1 ⟨1, br_t (by decide) ⟨pk_in 0 100 (by omega), pk_in 0 100 (by omega), nm_r (show upd a1 0 ((a1 0 + 1).toInt8.toInt32) = upd a1 0 1 by rw [h1]; rfl) H⟩⟩⟩
theorem ct_putAt {post : St2 → Prop} {p q k v : Int32} (hp : p = 0) (hq : q = 0) (H : post (w, a1, upd a2 0 k.toInt8.toInt32, upd a3 0 v, a4, a5, a6, a7, a8, a9, a10, a11, a12, a13, a14, a15, a16)) : wpX_putAt post (w, a1, a2, a3, a4, a5, a6, a7, a8, a9, a10, a11, a12, a13, a14, a15, a16) p q k v := by
  subst hp hq
  exact ⟨pk_in 0 500 (by omega), nm_e ⟨pk_in 0 500 (by omega), nm_e H⟩⟩
theorem ct_i67 {post : St2 → Prop} (h14 : a14 0 = 0) (h1 : a1 0 = 1) (H : post (w, a1, a2, a3, a4, a5, a6, a7, a8, a9, a10, a11, a12, a13, a14, a15, a16)) : ∃ n, wX_insert_67 post n 0 w a1 a2 a3 a4 a5 a6 a7 a8 a9 a10 a11 a12 a13 a14 a15 a16 :=
  ⟨1, br_f (by decide) ⟨pk_in 0 8 (by omega), pk_in 0 100 (by omega) h14, br_f (show ¬ a1 (a14 0).toNatClampNeg = 5 by rw [h14]; show ¬ a1 0 = 5; rw [h1]; decide) H⟩⟩
theorem ct_i26 {post : St2 → Prop} {k v : Int32} (h14 : a14 0 = 0) (h15 : a15 0 = 0) (h1 : a1 0 = 0) (H : post (1, upd a1 0 1, upd a2 0 k.toInt8.toInt32, upd a3 0 v, a4, a5, a6, a7, a8, a9, a10, a11, a12, a13, a14, a15, a16)) : wX_insert_26 post k v 1 a1 a2 a3 a4 a5 a6 a7 a8 a9 a10 a11 a12 a13 a14 a15 a16 := by
  unfold wX_insert_26
  refine nm_r (show (1 : Int32) - 1 = 0 by decide) ⟨pk_in 0 8 (by omega), pk_in 0 8 (by omega), ?_⟩
  refine ct_open h14 h15 h1 ?_
  refine ⟨pk_in 0 8 (by omega), pk_in 0 8 (by omega), ?_⟩
  refine ct_putAt h14 h15 ?_
  exact ct_i67 h14 pk_us H
theorem ct_insert {post : St2 → Prop} {k v : Int32} (h0 : ¬ a10 0 = 0) (h1 : a10 1 = 0) (h7 : a7 0 = -1) (h11 : ∀ j, j < 4 → a11 j < 0) (h5 : a5 0 = 0) (H : ∀ b : Nat → Int32, post (1, upd (upd a1 0 0) 0 1, upd a2 0 k.toInt8.toInt32, upd a3 0 v, upd a4 0 (-1), upd a5 0 1, b, a7, a8, a9, a10, upd a11 3 0, a12, a13, upd a14 0 0, upd a15 0 0, a16)) : wpX_insert post (0, a1, a2, a3, a4, a5, a6, a7, a8, a9, a10, a11, a12, a13, a14, a15, a16) k v := by
  unfold wpX_insert
  refine br_t rfl ?_
  refine ct_page h0 h1 h7 h11 h5 (fun b => ?_)
  refine nm_e ?_
  refine ct_push ?_
  exact ct_i26 pk_us pk_us pk_us (H b)
theorem ct_put {post : Int32 → St2 → Prop} {k v : Int32} (h0 : ¬ a10 0 = 0) (h1 : a10 1 = 0) (h7 : a7 0 = -1) (h11 : ∀ j, j < 3 → a11 j = -2) (h11' : a11 3 = -1) (h12 : a12 3 = 0) (h5 : a5 0 = 0)
    (Hf : (k < 0 ∨ 99 < k) → post (-1) (w, a1, a2, a3, a4, a5, a6, a7, a8, a9, a10, a11, a12, a13, a14, a15, a16))
    (Ht : ¬ k < 0 → ¬ 99 < k → ∀ b : Nat → Int32, post 1 (1, upd (upd a1 0 0) 0 1, upd a2 0 k.toInt8.toInt32, upd a3 0 v, upd a4 0 (-1), upd a5 0 1, b, a7, a8, a9, a10, upd a11 3 0, upd a12 3 1, a13, upd a14 0 0, upd a15 0 0, a16)) : wpX_put post (w, a1, a2, a3, a4, a5, a6, a7, a8, a9, a10, a11, a12, a13, a14, a15, a16) k v := by
  have hn : ∀ j, j < 4 → a11 j < 0 := fun j hj => by
    by_cases e : j = 3
    · rw [e, h11']; decide
    · rw [h11 j (by omega)]; decide
  unfold wpX_put
  refine ct_key (fun g1 g2 => br_f (by decide) ?_) (fun g => br_t rfl (Hf g))
  rw [h11']
  refine ct_find0 ?_
  refine br_t rfl (br_t (show a12 3 < 24 by rw [h12]; decide) ?_)
  unfold wX_put_40
  refine ⟨1, br_t (by decide) ?_⟩
  refine nm_e (br_t rfl ?_)
  refine ct_insert h0 h1 h7 hn h5 (fun b => ?_)
  exact nm_r (show upd a12 3 ((a12 3 + 1).toInt8.toInt32) = upd a12 3 1 by rw [h12]; rfl) (Ht g1 g2 b)
end
end
section
/-! ===== the picture, and the methods over it ===== -/
/-- x7: the law's flag 'good'; r: the reader that was let in (-1: none) -/
def ct_pic (x7 key value r : Int32) (a1 a2 a3 a4 a7 a8 a9 a10 a11 a12 : Nat → Int32) : Prop :=
  (a7 0 = -1 ∧ a8 0 = 0 ∧ a9 0 = 0 ∧ a10 0 = 1 ∧ a10 1 = 0) ∧
  (∀ j, j < 3 → (r = nI j → a11 j = -1 ∧ a12 j = 0) ∧ (¬ r = nI j → a11 j = -2)) ∧
  ((¬ x7 = 0 ∧ ¬ key < 0 ∧ ¬ 99 < key ∧ a1 0 = 1 ∧ a2 0 = key ∧ a3 0 = value ∧ a4 0 = -1 ∧ a11 3 = 0 ∧ a12 3 = 1) ∨ (x7 = 0 ∧ a11 3 = -1 ∧ a12 3 = 0))
/-- what the law calls 'sees' -/
def ct_see (r who : Int32) : Prop := who = nI 3 ∨ ∃ j : Nat, j < 3 ∧ who = nI j ∧ r = nI j
theorem ct_n1 {x : Int32} (h : x = 1) : ¬ x = 0 := by rw [h]; decide
theorem ct_not3 {j : Nat} (h : j < 3) : ¬ nI j = nI 3 := fun e => by
  have := (nI_eq (by omega) (by omega)).mp e
  omega
theorem ct_three {x : Int32} (h1 : ¬ x < 0) (h2 : x ≤ 2) : ∃ j : Nat, j < 3 ∧ x = nI j := by
  obtain ⟨j, hj, e⟩ := nI_of2 (M := 2) (n := 2) (by decide) h1 h2
  exact ⟨j, by omega, e⟩
theorem ct_four {x : Int32} (h1 : ¬ x < 0) (h2 : ¬ 3 < x) : ∃ j : Nat, j < 4 ∧ x = nI j := by
  obtain ⟨j, hj, e⟩ := nI_of2 (M := 3) (n := 3) (by decide) h1 (Int32.not_lt.mp h2)
  exact ⟨j, by omega, e⟩
section
variable {w : Int32} {a1 a2 a3 a4 a5 a6 a7 a8 a9 a10 a11 a12 a13 a14 a15 a16 : Nat → Int32}
theorem ct_sees {post : Int32 → Prop} {who : Int32} (H : ∀ j, j < 4 → who = nI j → (a11 j = -2 → post 0) ∧ (¬ a11 j = -2 → post 1)) (H0 : (∀ j, j < 4 → ¬ who = nI j) → post 0) : wpX_sees post (w, a1, a2, a3, a4, a5, a6, a7, a8, a9, a10, a11, a12, a13, a14, a15, a16) who := by
  refine br_c (fun h => H0 (fun j hj e => ?_)) (fun h => br_c (fun h3 => H0 (fun j hj e => ?_)) (fun h3 => ?_))
  · rw [e] at h
    exact nI_pos (by omega) h
  · rw [e] at h3
    exact nI_nlt (a := 3) (b := j) (by omega) (by omega) h3
  · obtain ⟨j, hj, e⟩ := ct_four h h3
    have g := H j hj e
    subst e
    refine ⟨pk_in j 4 hj, ?_⟩
    rw [nI_clamp (by omega)]
    exact g
variable {x7 key value r who k : Int32}
/-- sees over the picture: the place that it looks at, and what stands there -/
theorem ct_seesP {post : Int32 → Prop} (P : ct_pic x7 key value r a1 a2 a3 a4 a7 a8 a9 a10 a11 a12) (H1 : ct_see r who → post 1) (H0 : ¬ ct_see r who → post 0) : wpX_sees post (w, a1, a2, a3, a4, a5, a6, a7, a8, a9, a10, a11, a12, a13, a14, a15, a16) who := by
  obtain ⟨_, P2, P3⟩ := P
  refine ct_sees (fun j hj e => ?_) (fun h => H0 (fun s => ?_))
  · by_cases j3 : j = 3
    · subst j3
      have n2 : ¬ a11 3 = -2 := by
        rcases P3 with ⟨_, _, _, _, _, _, _, h, _⟩ | ⟨_, h, _⟩
        · rw [h]; decide
        · rw [h]; decide
      exact br_f n2 (H1 (.inl e))
    · obtain ⟨Q1, Q2⟩ := P2 j (by omega)
      by_cases er : r = nI j
      · exact br_f (by rw [(Q1 er).1]; decide) (H1 (.inr ⟨j, by omega, e, er⟩))
      · refine br_t (Q2 er) (H0 (fun s => ?_))
        rcases s with s | ⟨i, hi, ei, eri⟩
        · rw [e] at s
          exact ct_not3 (by omega) s
        · rw [e] at ei
          have := (nI_eq (by omega) (by omega)).mp ei
          subst this
          exact er eri
  · rcases s with s | ⟨i, hi, ei, eri⟩
    · exact h 3 (by omega) s
    · exact h i (by omega) ei
/-- one who sees: his place, and the root there -/
theorem ct_root (P : ct_pic x7 key value r a1 a2 a3 a4 a7 a8 a9 a10 a11 a12) (s : ct_see r who) : ∃ j : Nat, j < 4 ∧ who = nI j ∧ ((¬ x7 = 0 ∧ who = 3 ∧ a11 j = 0) ∨ (¬ (¬ x7 = 0 ∧ who = 3) ∧ a11 j = -1)) := by
  obtain ⟨_, P2, P3⟩ := P
  rcases s with s | ⟨i, hi, ei, eri⟩
  · refine ⟨3, by omega, s, ?_⟩
    rcases P3 with ⟨hx, _, _, _, _, _, _, h, _⟩ | ⟨hx, h, _⟩
    · exact .inl ⟨hx, s, h⟩
    · exact .inr ⟨fun q => q.1 hx, h⟩
  · refine ⟨i, by omega, ei, .inr ⟨fun q => ?_, ((P2 i hi).1 eri).1⟩⟩
    have q2 : who = nI 3 := q.2
    rw [ei] at q2
    exact ct_not3 hi q2
theorem ct_tree (P : ct_pic x7 key value r a1 a2 a3 a4 a7 a8 a9 a10 a11 a12) (h : ¬ x7 = 0) : ¬ key < 0 ∧ ¬ 99 < key ∧ a1 0 = 1 ∧ a2 0 = key ∧ a3 0 = value ∧ a4 0 = -1 := by
  obtain ⟨_, _, P3⟩ := P
  rcases P3 with ⟨_, h1, h2, h3, h4, h5, h6, _⟩ | ⟨hx, _⟩
  · exact ⟨h1, h2, h3, h4, h5, h6⟩
  · exact absurd hx h
theorem ct_has {post : Int32 → St2 → Prop} (P : ct_pic x7 key value r a1 a2 a3 a4 a7 a8 a9 a10 a11 a12) (Ht : ¬ x7 = 0 → who = 3 → k = key → post 1 (1, a1, a2, a3, a4, a5, a6, a7, a8, a9, a10, a11, a12, a13, upd a14 0 0, upd a15 0 0, a16)) (Hf : ¬ (¬ x7 = 0 ∧ who = 3 ∧ k = key) → ∀ (b : Int32) (b14 b15 : Nat → Int32), post 0 (b, a1, a2, a3, a4, a5, a6, a7, a8, a9, a10, a11, a12, a13, b14, b15, a16)) : wpX_has post (w, a1, a2, a3, a4, a5, a6, a7, a8, a9, a10, a11, a12, a13, a14, a15, a16) who k := by
  unfold wpX_has
  refine ct_seesP P (fun s => br_f (by decide) ?_) (fun s => br_t rfl (Hf (fun q => s (.inl q.2.1)) _ _ _))
  refine ct_key (fun g1 g2 => br_f (by decide) ?_) (fun g => br_t rfl (Hf (fun q => ?_) _ _ _))
  · obtain ⟨j, hj, ej, hr⟩ := ct_root P s
    refine ⟨pk_in j 4 hj ej, ?_⟩
    rw [pk_cl j ej]
    rcases hr with ⟨hx, hw, ha⟩ | ⟨hx, ha⟩
    · obtain ⟨_, _, t1, t2, t3, t4⟩ := ct_tree P hx
      rw [ha]
      refine ct_find1 t1 t4 (fun e => br_f (by decide) (Ht hx hw (by rw [← e, t2]))) (fun e b14 b15 => br_t rfl (Hf (fun q => e ?_) _ _ _))
      rw [t2, q.2.2]
    · rw [ha]
      exact ct_find0 (br_t rfl (Hf (fun q => hx ⟨q.1, q.2.1⟩) _ _ _))
  · obtain ⟨t1, t2, _⟩ := ct_tree P q.1
    rw [q.2.2] at g
    rcases g with g | g
    · exact t1 g
    · exact t2 g
theorem ct_get {post : Int32 → St2 → Prop} (P : ct_pic x7 key value r a1 a2 a3 a4 a7 a8 a9 a10 a11 a12) (Ht : ¬ x7 = 0 → who = 3 → k = key → ∀ (b : Int32) (b14 b15 : Nat → Int32), post value (b, a1, a2, a3, a4, a5, a6, a7, a8, a9, a10, a11, a12, a13, b14, b15, a16)) (Hf : ¬ (¬ x7 = 0 ∧ who = 3 ∧ k = key) → ∀ (b : Int32) (b14 b15 : Nat → Int32), post 0 (b, a1, a2, a3, a4, a5, a6, a7, a8, a9, a10, a11, a12, a13, b14, b15, a16)) : wpX_get post (w, a1, a2, a3, a4, a5, a6, a7, a8, a9, a10, a11, a12, a13, a14, a15, a16) who k := by
  unfold wpX_get
  refine ct_has P (fun h1 h2 h3 => br_f (by decide) ⟨pk_in 0 8 (by omega), pk_in 0 8 (by omega), pk_in 0 500 (by omega), ?_⟩) (fun h b b14 b15 => br_t rfl (Hf h b b14 b15))
  obtain ⟨_, _, _, _, t3, _⟩ := ct_tree P h1
  have g := Ht h1 h2 h3 1 (upd a14 0 0) (upd a15 0 0)
  rw [← t3] at g
  exact g
/-! next -/
theorem ct_x84 {post : Int32 → Prop} {J : Int32 → Int32 → Prop} {x4 x5 : Int32} (h4 : a4 0 = -1) (H : J (-1) x4) : wX_next_84 post J k 0 x4 x5 w a1 a2 a3 a4 a5 a6 a7 a8 a9 a10 a11 a12 a13 a14 a15 a16 :=
  ⟨pk_in 0 600 (by omega), br_f (show ¬ 0 ≤ a4 0 by rw [h4]; decide) H⟩
theorem ct_next1 {post : Int32 → Prop} (h1 : a1 0 = 1) (h4 : a4 0 = -1) (Ha : k < a2 0 → post (a2 0)) (Hb : ¬ k < a2 0 → post (-3)) : ∃ n, wX_next_21 post k w a1 a2 a3 a4 a5 a6 a7 a8 a9 a10 a11 a12 a13 a14 a15 a16 n 0 (-3) := by
  refine ⟨2, br_f (by decide) ⟨2, pk_in 0 100 (by omega), br_f (show ¬ a1 0 ≤ 0 by rw [h1]; decide) ⟨pk_in 0 500 (by omega), br_c (fun h => ?_) (fun h => ?_)⟩⟩⟩
  · refine ⟨pk_in 0 100 (by omega), br_f (show ¬ a1 0 ≤ 0 by rw [h1]; decide) ⟨pk_in 0 500 (by omega), nm_e ?_⟩⟩
    exact ct_x84 h4 (br_t (by decide) (Ha h))
  · refine nm_r (nI_1 0) ⟨pk_in 0 100 (by omega), br_t (show a1 0 ≤ 1 by rw [h1]; decide) ⟨pk_in 0 100 (by omega), br_t (show a1 0 ≤ 1 by rw [h1]; decide) ?_⟩⟩
    exact ct_x84 h4 (br_t (by decide) (Hb h))
theorem ct_next {post : Int32 → Prop} (P : ct_pic x7 key value r a1 a2 a3 a4 a7 a8 a9 a10 a11 a12) (H0 : ¬ ct_see r who → post (-1)) (H3 : ct_see r who → ¬ (¬ x7 = 0 ∧ who = 3 ∧ k < key) → post (-3)) (Hk : ct_see r who → ¬ x7 = 0 → who = 3 → k < key → post key) : wpX_next post (w, a1, a2, a3, a4, a5, a6, a7, a8, a9, a10, a11, a12, a13, a14, a15, a16) who k := by
  unfold wpX_next
  refine ct_seesP P (fun s => br_f (by decide) ?_) (fun s => br_t rfl (H0 s))
  obtain ⟨j, hj, ej, hr⟩ := ct_root P s
  refine ⟨pk_in j 4 hj ej, ?_⟩
  rw [pk_cl j ej]
  rcases hr with ⟨hx, hw, ha⟩ | ⟨hx, ha⟩
  · obtain ⟨_, _, t1, t2, t3, t4⟩ := ct_tree P hx
    refine nm_r ha (ct_next1 t1 t4 (fun h => ?_) (fun h => ?_))
    · rw [t2] at h ⊢
      exact Hk s hx hw h
    · rw [t2] at h
      exact H3 s (fun q => h q.2.2)
  · exact nm_r ha ⟨1, br_t (by decide) (H3 s (fun q => hx ⟨q.1, q.2.1⟩))⟩
theorem ct_size {post : Int32 → Prop} (H : ∀ j, j < 4 → who = nI j → (a11 j = -2 → post (-1)) ∧ (¬ a11 j = -2 → post (a12 j))) (H0 : (∀ j, j < 4 → ¬ who = nI j) → post (-1)) : wpX_size post (w, a1, a2, a3, a4, a5, a6, a7, a8, a9, a10, a11, a12, a13, a14, a15, a16) who := by
  unfold wpX_size
  refine ct_sees (fun j hj e => ?_) (fun h => br_t rfl (H0 h))
  obtain ⟨h1, h2⟩ := H j hj e
  refine ⟨fun q => br_t rfl (h1 q), fun q => br_f (by decide) ⟨pk_in j 4 hj e, ?_⟩⟩
  rw [pk_cl j e]
  exact h2 q
/-- a reader is let in, in the state where none is in -/
theorem ct_openR {post : Int32 → St2 → Prop} (P : ct_pic x7 key value (-1) a1 a2 a3 a4 a7 a8 a9 a10 a11 a12) (Hf : (r < 0 ∨ 2 < r) → ct_pic x7 key value r a1 a2 a3 a4 a7 a8 a9 a10 a11 a12 → post (-1) (w, a1, a2, a3, a4, a5, a6, a7, a8, a9, a10, a11, a12, a13, a14, a15, a16)) (Ht : ¬ r < 0 → ¬ 2 < r → ∀ b11 b12 b13 : Nat → Int32, ct_pic x7 key value r a1 a2 a3 a4 a7 a8 a9 a10 b11 b12 → post 0 (w, a1, a2, a3, a4, a5, a6, a7, a8, a9, a10, b11, b12, b13, a14, a15, a16)) : wpX_open post (w, a1, a2, a3, a4, a5, a6, a7, a8, a9, a10, a11, a12, a13, a14, a15, a16) r := by
  have Q : ct_pic x7 key value (-1) a1 a2 a3 a4 a7 a8 a9 a10 a11 a12 := P
  obtain ⟨⟨p7, p8, p9, p10, p10'⟩, P2, P3⟩ := P
  have m1 : ∀ j, j < 3 → ¬ (-1 : Int32) = nI j := fun j hj e => nI_pos (n := j) (by omega) (by rw [← e]; decide)
  have bad : (∀ j, j < 3 → ¬ r = nI j) → ct_pic x7 key value r a1 a2 a3 a4 a7 a8 a9 a10 a11 a12 := fun h => ⟨Q.1, fun j hj => ⟨fun e => absurd e (h j hj), fun _ => (P2 j hj).2 (m1 j hj)⟩, P3⟩
  refine br_c (fun h => Hf (.inl h) (bad (fun j hj e => ?_))) (fun h => br_c (fun h2 => ?_) (fun h2 => ?_))
  · rw [e] at h
    exact nI_pos (by omega) h
  · obtain ⟨j, hj, e⟩ := ct_three h h2
    subst e
    refine ct_vm0 (by rw [p10]; decide) p10' ?_
    have c : (nI j).toNatClampNeg = j := nI_clamp (by omega)
    rw [c]
    refine ⟨pk_in 0 2 (by omega), pk_in j 4 (by omega), nm_r (e' := upd a11 j (-1)) (show upd a11 j (vp_nar .byte (a7 0)) = upd a11 j (-1) by rw [p7]; rfl) ⟨pk_in 0 2 (by omega), pk_in j 4 (by omega), nm_r (e' := upd a12 j 0) (show upd a12 j (vp_nar .byte (a8 0)) = upd a12 j 0 by rw [p8]; rfl) ⟨pk_in 0 2 (by omega), pk_in j 4 (by omega), nm_r (e' := upd a13 j 0) (show upd a13 j (a9 0) = upd a13 j 0 by rw [p9]) ⟨pk_in j 4 (by omega), ?_⟩⟩⟩⟩
    rw [pk_us]
    refine Ht h (Int32.not_lt.mpr h2) _ _ _ ⟨Q.1, fun i hi => ⟨fun e => ?_, fun e => ?_⟩, ?_⟩
    · have := (nI_eq (by omega) (by omega)).mp e
      subst this
      exact ⟨pk_us, pk_us⟩
    · have ne : i ≠ j := fun q => e (by rw [q])
      rw [pk_un ne]
      exact (P2 i hi).2 (m1 i hi)
    · rw [pk_un (show 3 ≠ j by omega), pk_un (show 3 ≠ j by omega)]
      exact P3
  · refine Hf (.inr (Int32.not_le.mp h2)) (bad (fun j hj e => ?_))
    rw [e] at h2
    exact h2 (nI_le (b := 2) (by omega) (by omega))
/-! crash -/
theorem ct_num0 {post : Int32 → Prop} (h0 : ¬ a10 0 = 0) (h1 : a10 1 = 0) (hp : post (a9 0)) : wpX_number post (w, a1, a2, a3, a4, a5, a6, a7, a8, a9, a10, a11, a12, a13, a14, a15, a16) := by
  unfold wpX_number
  refine ct_vm0 h0 h1 ?_
  exact ⟨pk_in 0 2 (by omega), hp⟩
theorem ct_num1 {post : Int32 → Prop} (h0 : ¬ a10 0 = 0) (h1 : ¬ a10 1 = 0) (h9 : a9 0 ≤ a9 1) (hp : post (a9 1)) : wpX_number post (w, a1, a2, a3, a4, a5, a6, a7, a8, a9, a10, a11, a12, a13, a14, a15, a16) := by
  unfold wpX_number
  refine ct_vm1 h0 h1 h9 ?_
  exact ⟨pk_in 1 2 (by omega), hp⟩
theorem ct_c31a {post : Int32 → St2 → Prop} (h0 : ¬ a10 0 = 0) (h1 : a10 1 = 0) (H : ∀ b s : Nat → Int32, (∀ j, j < 3 → s j = -2) → post (a9 0) (w, a1, a2, a3, a4, b, a6, a7, a8, a9, a10, upd s 3 (vp_nar .byte (a7 0)), upd a12 3 (vp_nar .byte (a8 0)), a13, a14, a15, a16)) : ∃ n, wX_crash_31 post w n 0 a1 a2 a3 a4 a5 a6 a7 a8 a9 a10 a11 a12 a13 a14 a15 a16 :=
  pk_loop (fun n i s => wX_crash_31 post w n (nI i) a1 a2 a3 a4 a5 a6 a7 a8 a9 a10 s a12 a13 a14 a15 a16) (fun i s => ∀ j, j < i → s j = -2) 3 0 a11 (by omega) (fun j hj => absurd hj (by omega))
    (fun n s h => pk_le 3 3 (fun _ => ct_load0 h0 h1 (fun b hb => ct_num0 h0 h1 (H b s h))) (fun z => absurd z (by omega)))
    (fun n i s hi h hw => pk_le 3 i (fun z => absurd z (by omega)) (fun _ => ⟨pk_in i 4 (by omega), nm_e (nm_r (nI_1 i) (hw _ (ct_fill (nI_clamp (by omega)) h)))⟩))
theorem ct_c31b {post : Int32 → St2 → Prop} (h0 : ¬ a10 0 = 0) (h1 : ¬ a10 1 = 0) (h9 : a9 0 ≤ a9 1) (H : ∀ b s : Nat → Int32, (∀ j, j < 3 → s j = -2) → post (a9 1) (w, a1, a2, a3, a4, b, a6, a7, a8, a9, a10, upd s 3 (vp_nar .byte (a7 1)), upd a12 3 (vp_nar .byte (a8 1)), a13, a14, a15, a16)) : ∃ n, wX_crash_31 post w n 0 a1 a2 a3 a4 a5 a6 a7 a8 a9 a10 a11 a12 a13 a14 a15 a16 :=
  pk_loop (fun n i s => wX_crash_31 post w n (nI i) a1 a2 a3 a4 a5 a6 a7 a8 a9 a10 s a12 a13 a14 a15 a16) (fun i s => ∀ j, j < i → s j = -2) 3 0 a11 (by omega) (fun j hj => absurd hj (by omega))
    (fun n s h => pk_le 3 3 (fun _ => ct_load1 h0 h1 h9 (fun b hb => ct_num1 h0 h1 h9 (H b s h))) (fun z => absurd z (by omega)))
    (fun n i s hi h hw => pk_le 3 i (fun z => absurd z (by omega)) (fun _ => ⟨pk_in i 4 (by omega), nm_e (nm_r (nI_1 i) (hw _ (ct_fill (nI_clamp (by omega)) h)))⟩))
theorem ct_meta {post : St2 → Prop} {p : Int32} (h0 : ¬ a10 0 = 0) (h1 : a10 1 = 0) (H : post (w, a1, a2, a3, a4, a5, a6, upd a7 1 (vp_nar .byte (a11 3)), upd a8 1 (vp_nar .byte (a12 3)), upd a9 1 (a9 0 + 1), upd a10 1 (vp_nar .boolean p), a11, a12, a13, a14, a15, a16)) : wpX_writeMeta post (w, a1, a2, a3, a4, a5, a6, a7, a8, a9, a10, a11, a12, a13, a14, a15, a16) p := by
  unfold wpX_writeMeta
  refine ct_vm0 h0 h1 ?_
  refine nm_r (show (1 : Int32) - 0 = 1 by decide) ?_
  exact ⟨pk_in 1 2 (by omega), nm_e ⟨pk_in 1 2 (by omega), nm_e ⟨pk_in 1 2 (by omega), nm_e ⟨pk_in 0 2 (by omega), pk_in 1 2 (by omega), nm_e H⟩⟩⟩⟩
end
end
section
/-! ===== crash over the picture, and the law ===== -/
theorem ct_byte : ∀ t, t < 100 → (nI t).toInt8.toInt32 = nI t := by decide +kernel
theorem ct_keyB {x : Int32} (h1 : ¬ x < 0) (h2 : ¬ 99 < x) : x.toInt8.toInt32 = x := by
  obtain ⟨j, hj, e⟩ := nI_of2 (M := 99) (n := 99) (by decide) h1 (Int32.not_lt.mp h2)
  rw [e]
  exact ct_byte j (by omega)
/-- what the law's last row asks of size -/
def ct_exp (who when x7 x9 x11 : Int32) : Int32 := if who = 3 then (if x7 = 0 then 0 else if x11 = 0 then 1 else if when = 1 then 1 else 0) else (if x9 = 0 then -1 else if x11 = 0 then 0 else -1)
section
variable {w : Int32} {a1 a2 a3 a4 a5 a6 a7 a8 a9 a10 a11 a12 a13 a14 a15 a16 : Nat → Int32}
variable {x7 x8 x9 x10 key value r who k when : Int32}
theorem ct_crash {post : Int32 → St2 → Prop} (P : ct_pic x7 key value r a1 a2 a3 a4 a7 a8 a9 a10 a11 a12) (Hf : (when < 0 ∨ 2 < when) → post (-1) (w, a1, a2, a3, a4, a5, a6, a7, a8, a9, a10, a11, a12, a13, a14, a15, a16))
    (H1 : ¬ when < 0 → ¬ 2 < when → when = 1 → ∀ b5 b7 b8 b9 b10 b11 b12 : Nat → Int32, (∀ j, j < 3 → b11 j = -2) → ¬ b11 3 = -2 → b12 3 = a12 3 → post 1 (w, a1, a2, a3, a4, b5, a6, b7, b8, b9, b10, b11, b12, a13, a14, a15, a16))
    (H0 : ¬ when < 0 → ¬ 2 < when → ¬ when = 1 → ∀ b5 b7 b8 b9 b10 b11 b12 : Nat → Int32, (∀ j, j < 3 → b11 j = -2) → ¬ b11 3 = -2 → b12 3 = 0 → post 0 (w, a1, a2, a3, a4, b5, a6, b7, b8, b9, b10, b11, b12, a13, a14, a15, a16)) : wpX_crash post (w, a1, a2, a3, a4, a5, a6, a7, a8, a9, a10, a11, a12, a13, a14, a15, a16) when := by
  obtain ⟨⟨p7, p8, p9, p10, p10'⟩, P2, P3⟩ := P
  have n0 : ¬ a10 0 = 0 := by rw [p10]; decide
  have low : ∀ s : Nat → Int32, (∀ j, j < 3 → s j = -2) → ∀ v : Int32, ∀ j, j < 3 → upd s 3 v j = -2 := fun s h v j hj => by
    rw [pk_un (show j ≠ 3 by omega)]
    exact h j hj
  refine br_c (fun h => Hf (.inl h)) (fun h => br_c (fun h2 => br_c (fun hz => ?_) (fun hz => br_c (fun e => ?_) (fun e => ?_))) (fun h2 => Hf (.inr (Int32.not_le.mp h2))))
  · have e : ¬ when = 1 := fun q => by
      rw [q] at hz
      exact absurd hz (by decide)
    refine ct_c31a n0 p10' (fun b s hs => ?_)
    rw [p9, p7, p8]
    exact H0 h (Int32.not_lt.mpr h2) e _ _ _ _ _ _ _ (low s hs _) (by rw [pk_us]; decide) (by rw [pk_us]; decide)
  · unfold wX_crash_26
    refine ct_meta n0 p10' ?_
    refine ct_c31b (by rw [pk_un (by decide)]; exact n0) (by rw [pk_us]; decide) (by rw [pk_us, pk_un (by decide), p9]; decide) (fun b s hs => ?_)
    rw [pk_us, pk_us, pk_us, p9]
    refine H1 h (Int32.not_lt.mpr h2) e _ _ _ _ _ _ _ (low s hs _) ?_ ?_
    · rw [pk_us]
      rcases P3 with ⟨_, _, _, _, _, _, _, q, _⟩ | ⟨_, q, _⟩
      · rw [q]; decide
      · rw [q]; decide
    · rw [pk_us]
      rcases P3 with ⟨_, _, _, _, _, _, _, _, q⟩ | ⟨_, _, q⟩
      · rw [q]; decide
      · rw [q]; decide
  · unfold wX_crash_26
    refine ct_meta n0 p10' ?_
    refine ct_c31a (by rw [pk_un (by decide)]; exact n0) (by rw [pk_us]; decide) (fun b s hs => ?_)
    rw [pk_un (f := a9) (show 0 ≠ 1 by decide), pk_un (f := a7) (show 0 ≠ 1 by decide), pk_un (f := a8) (show 0 ≠ 1 by decide), p9, p7, p8]
    exact H0 h (Int32.not_lt.mpr h2) e _ _ _ _ _ _ _ (low s hs _) (by rw [pk_us]; decide) (by rw [pk_us]; decide)
/-- size when nothing has crashed -/
theorem ct_sz0 {ψ : Int32 → Prop} (P : ct_pic x7 key value r a1 a2 a3 a4 a7 a8 a9 a10 a11 a12) (hx9 : (x9 = 1 ∧ ct_see r who) ∨ (x9 = 0 ∧ ¬ ct_see r who)) (hψ : ψ (ct_exp who when x7 x9 0)) : wpX_size ψ (w, a1, a2, a3, a4, a5, a6, a7, a8, a9, a10, a11, a12, a13, a14, a15, a16) who := by
  obtain ⟨_, P2, P3⟩ := P
  have e3 : who = 3 → ct_exp who when x7 x9 0 = a12 3 ∧ ¬ a11 3 = -2 := fun h => by
    unfold ct_exp
    rw [if_pos h]
    rcases P3 with ⟨hx, _, _, _, _, _, _, q, q'⟩ | ⟨hx, q, q'⟩
    · rw [if_neg hx, if_pos rfl, q, q']
      exact ⟨rfl, by decide⟩
    · rw [if_pos hx, q, q']
      exact ⟨rfl, by decide⟩
  have en : ¬ who = 3 → ¬ ct_see r who → ct_exp who when x7 x9 0 = -1 := fun h s => by
    unfold ct_exp
    rcases hx9 with ⟨_, q⟩ | ⟨q, _⟩
    · exact absurd q s
    · rw [if_neg h, if_pos q]
  have es : ¬ who = 3 → ct_see r who → ct_exp who when x7 x9 0 = 0 := fun h s => by
    unfold ct_exp
    rcases hx9 with ⟨q, _⟩ | ⟨_, q⟩
    · rw [if_neg h, if_neg (ct_n1 q), if_pos rfl]
    · exact absurd s q
  refine ct_size (fun j hj e => ?_) (fun h => ?_)
  · by_cases j3 : j = 3
    · subst j3
      obtain ⟨q1, q2⟩ := e3 e
      rw [q1] at hψ
      exact br_f q2 hψ
    · have ne : ¬ who = 3 := by
        rw [e]
        exact ct_not3 (by omega)
      obtain ⟨Q1, Q2⟩ := P2 j (by omega)
      by_cases er : r = nI j
      · obtain ⟨q1, q2⟩ := Q1 er
        rw [es ne (.inr ⟨j, by omega, e, er⟩)] at hψ
        rw [q1, q2]
        exact br_f (by decide) hψ
      · rw [en ne (fun s => ?_)] at hψ
        · exact br_t (Q2 er) hψ
        · rcases s with s | ⟨i, hi, ei, eri⟩
          · exact ne s
          · rw [e] at ei
            have := (nI_eq (by omega) (by omega)).mp ei
            subst this
            exact er eri
  · rw [en (h 3 (by omega)) (fun s => ?_)] at hψ
    · exact hψ
    · rcases s with s | ⟨i, hi, ei, eri⟩
      · exact h 3 (by omega) s
      · exact h i (by omega) ei
/-- size behind a crash -/
theorem ct_sz1 {ψ : Int32 → Prop} (h11 : ∀ j, j < 3 → a11 j = -2) (h3 : ¬ a11 3 = -2) (h12 : a12 3 = if x7 = 0 then 0 else if when = 1 then 1 else 0) (hψ : ψ (ct_exp who when x7 x9 1)) : wpX_size ψ (w, a1, a2, a3, a4, a5, a6, a7, a8, a9, a10, a11, a12, a13, a14, a15, a16) who := by
  have e3 : who = 3 → ct_exp who when x7 x9 1 = a12 3 := fun h => by
    unfold ct_exp
    rw [if_pos h, h12, if_neg (show ¬ (1 : Int32) = 0 by decide)]
  have en : ¬ who = 3 → ct_exp who when x7 x9 1 = -1 := fun h => by
    unfold ct_exp
    rw [if_neg h, if_neg (show ¬ (1 : Int32) = 0 by decide)]
    by_cases q : x9 = 0
    · rw [if_pos q]
    · rw [if_neg q]
  refine ct_size (fun j hj e => ?_) (fun h => ?_)
  · by_cases j3 : j = 3
    · subst j3
      rw [e3 e] at hψ
      exact br_f h3 hψ
    · have ne : ¬ who = 3 := by
        rw [e]
        exact ct_not3 (by omega)
      rw [en ne] at hψ
      exact br_t (h11 j (by omega)) hψ
  · rw [en (h 3 (by omega))] at hψ
    exact hψ
variable {post : Int32 → St0 → Prop} {mc ms kc ks : Nat} {z : Int32}
theorem ct_237 {x11 : Int32} (hp : post 1 ()) (hs : ∀ ψ : Int32 → Prop, ψ (ct_exp who when x7 x9 x11) → wpX_size ψ (w, a1, a2, a3, a4, a5, a6, a7, a8, a9, a10, a11, a12, a13, a14, a15, a16) who) : wL_lawOf_237 post mc ms who when x7 x9 x11 z z kc ks w a1 a2 a3 a4 a5 a6 a7 a8 a9 a10 a11 a12 a13 a14 a15 a16 := by
  unfold wL_lawOf_237
  refine br_t rfl ?_
  refine hs _ ?_
  refine br_c (fun h3 => br_c (fun h7 => ?_) (fun h7 => br_c (fun h11 => ?_) (fun h11 => br_c (fun h5 => ?_) (fun h5 => ?_)))) (fun h3 => br_c (fun h9 => ?_) (fun h9 => br_c (fun h11 => ?_) (fun h11 => ?_)))
  · exact br_t (by unfold ct_exp; rw [if_pos h3, if_pos h7]) hp
  · exact br_t (by unfold ct_exp; rw [if_pos h3, if_neg h7, if_pos h11]) hp
  · exact br_t (by unfold ct_exp; rw [if_pos h3, if_neg h7, if_neg h11, if_pos h5]) hp
  · exact br_t (by unfold ct_exp; rw [if_pos h3, if_neg h7, if_neg h11, if_neg h5]) hp
  · exact br_t (by unfold ct_exp; rw [if_neg h3, if_pos h9]) hp
  · exact br_t (by unfold ct_exp; rw [if_neg h3, if_neg h9, if_pos h11]) hp
  · exact br_t (by unfold ct_exp; rw [if_neg h3, if_neg h9, if_neg h11]) hp
theorem ct_208 {z0 : Int32} (P : ct_pic x7 key value r a1 a2 a3 a4 a7 a8 a9 a10 a11 a12) (hp : post 1 ()) (hx9 : (x9 = 1 ∧ ct_see r who) ∨ (x9 = 0 ∧ ¬ ct_see r who)) (hc : (z0 = 0 ∧ (when < 0 ∨ 2 < when)) ∨ (z0 = 1 ∧ ¬ when < 0 ∧ ¬ 2 < when)) : wL_lawOf_208 post mc ms who when x7 x9 z0 kc ks w a1 a2 a3 a4 a5 a6 a7 a8 a9 a10 a11 a12 a13 a14 a15 a16 := by
  have h12 : a12 3 = if x7 = 0 then 0 else 1 := by
    obtain ⟨_, _, P3⟩ := P
    rcases P3 with ⟨hx, _, _, _, _, _, _, _, q⟩ | ⟨hx, _, q⟩
    · rw [if_neg hx, q]
    · rw [if_pos hx, q]
  have good : ¬ when < 0 → ¬ 2 < when → z0 = 1 := fun g1 g2 => by
    rcases hc with ⟨_, q | q⟩ | ⟨q, _⟩
    · exact absurd q g1
    · exact absurd q g2
    · exact q
  unfold wL_lawOf_208
  refine ct_crash P (fun g => ?_) (fun g1 g2 e b5 b7 b8 b9 b10 b11 b12 q1 q2 q3 => ?_) (fun g1 g2 e b5 b7 b8 b9 b10 b11 b12 q1 q2 q3 => ?_)
  · have hz : z0 = 0 := by
      rcases hc with ⟨q, _⟩ | ⟨_, q1, q2⟩
      · exact q
      · rcases g with g | g
        · exact absurd g q1
        · exact absurd g q2
    subst hz
    exact br_t rfl (ct_237 hp (fun ψ hψ => ct_sz0 P hx9 hψ))
  · have hz := good g1 g2
    subst hz
    refine br_f (by decide) (br_t e (ct_237 hp (fun ψ hψ => ct_sz1 q1 q2 ?_ hψ)))
    rw [q3, h12, if_pos e]
  · have hz := good g1 g2
    subst hz
    refine br_f (by decide) (br_f e (ct_237 hp (fun ψ hψ => ct_sz1 q1 q2 ?_ hψ)))
    rw [q3, if_neg e]
    by_cases h7 : x7 = 0
    · rw [if_pos h7]
    · rw [if_neg h7]
theorem ct_187 (P : ct_pic x7 key value r a1 a2 a3 a4 a7 a8 a9 a10 a11 a12) (hp : post 1 ()) (hx9 : (x9 = 1 ∧ ct_see r who) ∨ (x9 = 0 ∧ ¬ ct_see r who)) : wL_lawOf_187 post mc ms who when x7 x9 z z kc ks w a1 a2 a3 a4 a5 a6 a7 a8 a9 a10 a11 a12 a13 a14 a15 a16 := by
  unfold wL_lawOf_187
  refine br_t rfl (br_c (fun h => ?_) (fun h => br_c (fun h2 => ?_) (fun h2 => ?_)))
  · exact ct_208 (z0 := 0) P hp hx9 (.inl ⟨rfl, .inl h⟩)
  · exact ct_208 (z0 := 0) P hp hx9 (.inl ⟨rfl, .inr h2⟩)
  · exact ct_208 (z0 := 1) P hp hx9 (.inr ⟨rfl, h, h2⟩)
theorem ct_148 (P : ct_pic x7 key value r a1 a2 a3 a4 a7 a8 a9 a10 a11 a12) (hp : post 1 ()) (hx9 : (x9 = 1 ∧ ct_see r who) ∨ (x9 = 0 ∧ ¬ ct_see r who)) (hx10 : (x10 = 1 ∧ ¬ x7 = 0 ∧ who = 3) ∨ (x10 = 0 ∧ ¬ (¬ x7 = 0 ∧ who = 3))) : wL_lawOf_148 post mc ms key who k when x7 x9 x10 z z kc ks w a1 a2 a3 a4 a5 a6 a7 a8 a9 a10 a11 a12 a13 a14 a15 a16 := by
  have n9 : ct_see r who → ¬ x9 = 0 := fun s => by
    rcases hx9 with ⟨q, _⟩ | ⟨_, q⟩
    · exact ct_n1 q
    · exact absurd s q
  unfold wL_lawOf_148
  refine br_t rfl ?_
  refine ct_next P (fun s => ?_) (fun s q => ?_) (fun s g1 g2 g3 => ?_)
  · have h9 : x9 = 0 := by
      rcases hx9 with ⟨_, q⟩ | ⟨q, _⟩
      · exact absurd q s
      · exact q
    exact br_t h9 (ct_187 P hp hx9)
  · refine br_f (n9 s) (br_c (fun h10 => ?_) (fun h10 => br_t ?_ ?_))
    · exact ct_187 P hp hx9
    · rcases hx10 with ⟨_, q1, q2⟩ | ⟨q1, _⟩
      · exact Int32.not_lt.mp (fun t => q ⟨q1, q2, t⟩)
      · exact absurd q1 h10
    · exact ct_187 P hp hx9
  · have h10 : ¬ x10 = 0 := by
      rcases hx10 with ⟨q, _⟩ | ⟨_, q⟩
      · exact ct_n1 q
      · exact absurd ⟨g1, g2⟩ q
    exact br_f (n9 s) (br_f h10 (br_f (Int32.not_le.mpr g3) (ct_187 P hp hx9)))
theorem ct_122 (P : ct_pic x7 key value r a1 a2 a3 a4 a7 a8 a9 a10 a11 a12) (hp : post 1 ()) (hx9 : (x9 = 1 ∧ ct_see r who) ∨ (x9 = 0 ∧ ¬ ct_see r who)) (hx10 : (x10 = 1 ∧ ¬ x7 = 0 ∧ who = 3) ∨ (x10 = 0 ∧ ¬ (¬ x7 = 0 ∧ who = 3))) : wL_lawOf_122 post mc ms key value who k when x7 x9 x10 kc ks w a1 a2 a3 a4 a5 a6 a7 a8 a9 a10 a11 a12 a13 a14 a15 a16 := by
  unfold wL_lawOf_122
  refine ct_get P (fun h1 h2 h3 b b14 b15 => ?_) (fun q b b14 b15 => ?_)
  · have h10 : ¬ x10 = 0 := by
      rcases hx10 with ⟨q, _⟩ | ⟨_, q⟩
      · exact ct_n1 q
      · exact absurd ⟨h1, h2⟩ q
    exact br_f h10 (br_t h3 (ct_148 P hp hx9 hx10))
  · refine br_c (fun h => ?_) (fun h => br_f ?_ ?_)
    · exact ct_148 P hp hx9 hx10
    · rcases hx10 with ⟨_, q1, q2⟩ | ⟨q1, _⟩
      · exact fun t => q ⟨q1, q2, t⟩
      · exact absurd q1 h
    · exact ct_148 P hp hx9 hx10
theorem ct_105 (P : ct_pic x7 key value r a1 a2 a3 a4 a7 a8 a9 a10 a11 a12) (hp : post 1 ()) (hx9 : (x9 = 1 ∧ ct_see r who) ∨ (x9 = 0 ∧ ¬ ct_see r who)) : wL_lawOf_105 post mc ms key value who k when x7 x9 kc ks w a1 a2 a3 a4 a5 a6 a7 a8 a9 a10 a11 a12 a13 a14 a15 a16 := by
  unfold wL_lawOf_105
  refine br_c (fun h7 => ?_) (fun h7 => br_c (fun h3 => ?_) (fun h3 => ?_))
  · exact ct_122 (x10 := 0) P hp hx9 (.inr ⟨rfl, fun q => q.1 h7⟩)
  · exact ct_122 (x10 := 1) P hp hx9 (.inl ⟨rfl, h7, h3⟩)
  · exact ct_122 (x10 := 0) P hp hx9 (.inr ⟨rfl, fun q => h3 q.2⟩)
theorem ct_80 (P : ct_pic x7 key value r a1 a2 a3 a4 a7 a8 a9 a10 a11 a12) (hp : post 1 ()) (hx8 : (x8 = 1 ∧ ¬ r < 0 ∧ ¬ 2 < r) ∨ (x8 = 0 ∧ (r < 0 ∨ 2 < r))) : wL_lawOf_80 post mc ms key value r who k when x7 x8 z z kc ks w a1 a2 a3 a4 a5 a6 a7 a8 a9 a10 a11 a12 a13 a14 a15 a16 := by
  unfold wL_lawOf_80
  refine br_t rfl (br_c (fun h3 => ?_) (fun h3 => br_c (fun h8 => ?_) (fun h8 => br_c (fun er => ?_) (fun er => ?_))))
  · exact ct_105 (x9 := 1) P hp (.inl ⟨rfl, .inl h3⟩)
  · refine ct_105 (x9 := 0) P hp (.inr ⟨rfl, fun s => ?_⟩)
    rcases s with s | ⟨j, hj, ej, erj⟩
    · exact h3 s
    · rcases hx8 with ⟨q, _⟩ | ⟨_, q | q⟩
      · exact ct_n1 q h8
      · rw [erj] at q
        exact nI_pos (by omega) q
      · rw [erj] at q
        exact nI_nlt (a := 2) (b := j) (by omega) (by omega) q
  · refine ct_105 (x9 := 1) P hp (.inl ⟨rfl, .inr ?_⟩)
    rcases hx8 with ⟨_, q1, q2⟩ | ⟨q, _⟩
    · obtain ⟨j, hj, e⟩ := ct_three q1 (Int32.not_lt.mp q2)
      exact ⟨j, hj, by rw [er, e], e⟩
    · exact absurd q h8
  · refine ct_105 (x9 := 0) P hp (.inr ⟨rfl, fun s => ?_⟩)
    rcases s with s | ⟨j, hj, ej, erj⟩
    · exact h3 s
    · exact er (by rw [ej, erj])
theorem ct_62 (P : ct_pic x7 key value (-1) a1 a2 a3 a4 a7 a8 a9 a10 a11 a12) (hp : post 1 ()) (hx8 : (x8 = 1 ∧ ¬ r < 0 ∧ ¬ 2 < r) ∨ (x8 = 0 ∧ (r < 0 ∨ 2 < r))) : wL_lawOf_62 post mc ms key value r who k when x7 x8 kc ks w a1 a2 a3 a4 a5 a6 a7 a8 a9 a10 a11 a12 a13 a14 a15 a16 := by
  unfold wL_lawOf_62
  refine ct_openR (r := r) P (fun h P' => ?_) (fun h1 h2 b11 b12 b13 P' => ?_)
  · have h8 : x8 = 0 := by
      rcases hx8 with ⟨_, q1, q2⟩ | ⟨q, _⟩
      · rcases h with h | h
        · exact absurd h q1
        · exact absurd h q2
      · exact q
    exact br_t h8 (ct_80 P' hp hx8)
  · have h8 : ¬ x8 = 0 := by
      rcases hx8 with ⟨q, _⟩ | ⟨_, q | q⟩
      · exact ct_n1 q
      · exact absurd q h1
      · exact absurd q h2
    exact br_f h8 (ct_80 P' hp hx8)
theorem ct_43 (P : ct_pic x7 key value (-1) a1 a2 a3 a4 a7 a8 a9 a10 a11 a12) (hp : post 1 ()) : wL_lawOf_43 post mc ms key value r who k when x7 z z kc ks w a1 a2 a3 a4 a5 a6 a7 a8 a9 a10 a11 a12 a13 a14 a15 a16 := by
  unfold wL_lawOf_43
  refine br_t rfl (br_c (fun h => ?_) (fun h => br_c (fun h2 => ?_) (fun h2 => ?_)))
  · exact ct_62 (x8 := 0) P hp (.inr ⟨rfl, .inl h⟩)
  · exact ct_62 (x8 := 0) P hp (.inr ⟨rfl, .inr h2⟩)
  · exact ct_62 (x8 := 1) P hp (.inl ⟨rfl, h, h2⟩)
theorem ct_24 (h5 : a5 0 = 0) (h7 : a7 0 = -1) (h8 : a8 0 = 0) (h9 : a9 0 = 0) (h10 : a10 0 = 1) (h10' : a10 1 = 0) (h11 : ∀ j, j < 3 → a11 j = -2) (h11' : a11 3 = -1) (h12 : a12 3 = 0) (hp : post 1 ()) (hx7 : (x7 = 1 ∧ ¬ key < 0 ∧ ¬ 99 < key) ∨ (x7 = 0 ∧ (key < 0 ∨ 99 < key))) : wL_lawOf_24 post mc ms key value r who k when x7 kc ks w a1 a2 a3 a4 a5 a6 a7 a8 a9 a10 a11 a12 a13 a14 a15 a16 := by
  have m1 : ∀ j, j < 3 → ¬ (-1 : Int32) = nI j := fun j hj e => nI_pos (n := j) (by omega) (by rw [← e]; decide)
  unfold wL_lawOf_24
  refine ct_put (by rw [h10]; decide) h10' h7 h11 h11' h12 h5 (fun g => ?_) (fun g1 g2 b => ?_)
  · have e7 : x7 = 0 := by
      rcases hx7 with ⟨_, q1, q2⟩ | ⟨q, _⟩
      · rcases g with g | g
        · exact absurd g q1
        · exact absurd g q2
      · exact q
    exact br_t e7 (ct_43 ⟨⟨h7, h8, h9, h10, h10'⟩, fun j hj => ⟨fun e => absurd e (m1 j hj), fun _ => h11 j hj⟩, .inr ⟨e7, h11', h12⟩⟩ hp)
  · have e7 : ¬ x7 = 0 := by
      rcases hx7 with ⟨q, _⟩ | ⟨_, q | q⟩
      · exact ct_n1 q
      · exact absurd q g1
      · exact absurd q g2
    refine br_f e7 (ct_43 ⟨⟨h7, h8, h9, h10, h10'⟩, fun j hj => ⟨fun e => absurd e (m1 j hj), fun _ => ?_⟩, .inl ⟨e7, g1, g2, pk_us, ?_, pk_us, pk_us, pk_us, pk_us⟩⟩ hp)
    · rw [pk_un (show j ≠ 3 by omega)]
      exact h11 j hj
    · rw [pk_us, ct_keyB g1 g2]
end
theorem ct_lawOf {post : Int32 → St0 → Prop} {key value r who k when : Int32} (hp : post 1 ()) : wpL_lawOf post 17 2053 () key value r who k when := by
  refine ⟨by decide, by decide, 16, 2036, by decide, by decide, ?_⟩
  refine ⟨by decide, by decide, by decide, by decide, by decide, by decide, by decide, by decide, by decide, by decide, by decide, by decide, by decide, by decide, by decide, by decide, by decide, by decide, by decide, by decide, by decide, by decide, by decide, by decide, by decide, by decide, by decide, by decide, by decide, by decide, by decide, by decide, ?_⟩
  refine nm_e (nm_e ?_)
  refine ct_init144 (by rw [pk_us]; decide) (by rw [pk_un (by decide)]) (fun b s hb hs => ?_)
  have low : ∀ v : Int32, ∀ j, j < 3 → upd s 3 v j = -2 := fun v j hj => by
    rw [pk_un (show j ≠ 3 by omega)]
    exact hs j (by omega)
  refine br_c (fun h => ?_) (fun h => br_c (fun h2 => ?_) (fun h2 => ?_))
  · exact ct_24 (x7 := 0) (hb 0 (by omega)) pk_us rfl rfl pk_us rfl (low _) rfl rfl hp (.inr ⟨rfl, .inl h⟩)
  · exact ct_24 (x7 := 0) (hb 0 (by omega)) pk_us rfl rfl pk_us rfl (low _) rfl rfl hp (.inr ⟨rfl, .inr h2⟩)
  · exact ct_24 (x7 := 1) (hb 0 (by omega)) pk_us rfl rfl pk_us rfl (low _) rfl rfl hp (.inl ⟨rfl, h, h2⟩)
theorem ct_cell {post : Int32 → Prop} {L : Nat} {xs : Nat → Int32} {n : Nat} (hn : n < 6) (hL : L ≤ 6) (H : ∀ v, post v) : wpL_cellAt post L xs () (nI n) :=
  pk_le L n (fun _ => H 0) (fun h => ⟨pk_in n L h, H _⟩)
theorem i_vc (xs : Nat → Int32) (L : Nat) (hL : L ≤ 6) : wpL_law (fun r => r = 1) L xs := by
  unfold wpL_law
  refine ct_cell (n := 0) (by omega) hL (fun r1 => ?_)
  refine ct_cell (n := 1) (by omega) hL (fun r2 => ?_)
  refine ct_cell (n := 2) (by omega) hL (fun r3 => ?_)
  refine ct_cell (n := 3) (by omega) hL (fun r4 => ?_)
  refine ct_cell (n := 4) (by omega) hL (fun r5 => ?_)
  refine ct_cell (n := 5) (by omega) hL (fun r6 => ?_)
  exact ⟨17, 2053, by decide, by decide, ct_lawOf rfl⟩
end
