section
/-! base rows: filling an array, small ints -/
theorem rc_fill {f s : Nat → Int32} {i k : Nat} {x : Int32} (hk : k = i) (h : ∀ j, j < i → s j = f j) (hx : x = f i) : ∀ j, j < i + 1 → upd s k x j = f j := by
  intro j hj
  rw [hk]
  by_cases e : j = i
  · rw [e, pk_us, hx]
  · rw [pk_un e]
    exact h j (by omega)
theorem rc_none {f s : Nat → Int32} : ∀ j, j < 0 → s j = f j := fun j hj => absurd hj (by omega)
theorem rc_z6 (i : Nat) : (0 : Int32) * 6 + nI i = nI i := by
  rw [show (0 : Int32) * 6 = 0 by decide, Int32.zero_add]
theorem rc_17 (k : Nat) : nI k * 17 + 0 = nI (k * 17) := by
  rw [Int32.add_zero]
  exact pk_mul k 17
theorem rc_cl {α : Type} (f : Nat → α) {k : Nat} (h : k < 2 ^ 31) : f (nI k).toNatClampNeg = f k := by rw [nI_clamp h]
/-! the small loops -/
theorem rc_clear {post : St2 → Prop} {v1 v2 v3 v4 v5 v6 v7 v8 v9 : Int32} {a1 a2 a3 a4 a5 a6 a7 a8 a9 a10 a11 a12 a13 a14 a15 a16 a17 a18 a19 : Nat → Int32} (H : ∀ b14, (∀ j, j < 1088 → b14 j = 0) → post (v1, v2, v3, v4, v5, v6, 0, v8, v9, a1, a2, a3, a4, a5, a6, a7, a8, a9, a10, a11, a12, a13, b14, a15, a16, a17, a18, a19)) : wpX_clearSeen post (v1, v2, v3, v4, v5, v6, v7, v8, v9, a1, a2, a3, a4, a5, a6, a7, a8, a9, a10, a11, a12, a13, a14, a15, a16, a17, a18, a19) :=
  pk_loop (fun n i s => wX_clearSeen_2 post v1 v2 v3 v4 v5 v6 v7 v8 v9 n (nI i) a1 a2 a3 a4 a5 a6 a7 a8 a9 a10 a11 a12 a13 s a15 a16 a17 a18 a19) (fun i s => ∀ j, j < i → s j = 0) 1088 0 a14 (by omega) (rc_none (f := fun _ => 0))
    (fun n s h => pk_le 1088 1088 (fun _ => H s h) (fun z => absurd z (by omega)))
    (fun n i s hi h hw => pk_le 1088 i (fun z => absurd z (by omega)) (fun _ => ⟨pk_in i 1088 hi, nm_e (nm_r (nI_1 i) (hw _ (rc_fill (f := fun _ => 0) (nI_clamp (by omega)) h rfl)))⟩))
theorem rc_push22 {post : St2 → Prop} {v1 v2 v3 v4 v5 v6 v7 v9 : Int32} {a1 a2 a3 a4 a5 a6 a7 a8 a9 a10 a11 a12 a13 a14 a15 a16 a17 a18 a19 : Nat → Int32} (H : ∀ b17, (∀ j, j < 6 → b17 j = a18 j) → post (v1, v2, v3, v4, v5, v6, v7, 1, v9, a1, a2, a3, a4, a5, a6, a7, a8, a9, a10, a11, a12, a13, a14, a15, a16, b17, a18, a19)) : ∃ n, wX_push_22 post v1 v2 v3 v4 v5 v6 v7 0 v9 n 0 a1 a2 a3 a4 a5 a6 a7 a8 a9 a10 a11 a12 a13 a14 a15 a16 a17 a18 a19 :=
  pk_loop (fun n i s => wX_push_22 post v1 v2 v3 v4 v5 v6 v7 0 v9 n (nI i) a1 a2 a3 a4 a5 a6 a7 a8 a9 a10 a11 a12 a13 a14 a15 a16 s a18 a19) (fun i s => ∀ j, j < i → s j = a18 j) 6 0 a17 (by omega) rc_none
    (fun n s h => pk_le 6 6 (fun _ => nm_r (show (0 : Int32) + 1 = 1 by decide) (H s h)) (fun z => absurd z (by omega)))
    (fun n i s hi h hw => pk_le 6 i (fun z => absurd z (by omega)) (fun _ => ⟨pk_in i 6 hi, pk_in i 3840 (by omega) (rc_z6 i), nm_e (nm_r (nI_1 i) (hw _ (rc_fill (by rw [rc_z6, nI_clamp (by omega)]) h (rc_cl a18 (by omega)))))⟩))
theorem rc_push {post : St2 → Prop} {v1 v2 v3 v4 v5 v6 v7 v9 : Int32} {a1 a2 a3 a4 a5 a6 a7 a8 a9 a10 a11 a12 a13 a14 a15 a16 a17 a18 a19 : Nat → Int32} {p0 p1 : Int32} (H : ∀ b17, (∀ j, j < 6 → b17 j = a18 j) → post (v1, v2, v3, v4, v5, v6, v7, 1, v9, a1, a2, a3, a4, a5, a6, a7, a8, a9, a10, a11, a12, a13, a14, upd a15 0 p0, upd a16 0 p1, b17, a18, a19)) : wpX_push post (v1, v2, v3, v4, v5, v6, v7, 0, v9, a1, a2, a3, a4, a5, a6, a7, a8, a9, a10, a11, a12, a13, a14, a15, a16, a17, a18, a19) p0 p1 := by
  unfold wpX_push
  refine ⟨pk_in 0 640 (by omega), nm_r (congrArg (fun k => upd a15 k p0) sb_cl0) ⟨pk_in 0 640 (by omega), nm_r (congrArg (fun k => upd a16 k p1) sb_cl0) ?_⟩⟩
  exact rc_push22 H
theorem rc_load {post : St2 → Prop} {v1 v2 v3 v4 v5 v6 v7 v8 v9 : Int32} {a1 a2 a3 a4 a5 a6 a7 a8 a9 a10 a11 a12 a13 a14 a15 a16 a17 a18 a19 : Nat → Int32} (H : ∀ b18, (∀ j, j < 6 → b18 j = a11 j) → post (v1, v2, v3, v4, v5, v6, v7, v8, v9, a1, a2, a3, a4, a5, a6, a7, a8, a9, a10, a11, a12, a13, a14, a15, a16, a17, b18, a19)) : wpX_loadNotes post (v1, v2, v3, v4, v5, v6, v7, v8, v9, a1, a2, a3, a4, a5, a6, a7, a8, a9, a10, a11, a12, a13, a14, a15, a16, a17, a18, a19) 0 :=
  pk_loop (fun n i s => wX_loadNotes_2 post 0 v1 v2 v3 v4 v5 v6 v7 v8 v9 n (nI i) a1 a2 a3 a4 a5 a6 a7 a8 a9 a10 a11 a12 a13 a14 a15 a16 a17 s a19) (fun i s => ∀ j, j < i → s j = a11 j) 6 0 a18 (by omega) rc_none
    (fun n s h => pk_le 6 6 (fun _ => H s h) (fun z => absurd z (by omega)))
    (fun n i s hi h hw => pk_le 6 i (fun z => absurd z (by omega)) (fun _ => ⟨pk_in i 384 (by omega) (rc_z6 i), pk_in i 6 hi, nm_e (nm_r (nI_1 i) (hw _ (rc_fill (nI_clamp (by omega)) h (by rw [rc_z6, nI_clamp (by omega)]))))⟩))
theorem rc_adv0 {post : St2 → Prop} {v1 v2 v3 v4 v5 v6 v8 v9 : Int32} {a1 a2 a3 a4 a5 a6 a7 a8 a9 a10 a11 a12 a13 a14 a15 a16 a17 a18 a19 : Nat → Int32} (H : post (v1, v2, v3, v4, v5, 0, 0, v8, v9, a1, a2, a3, a4, a5, a6, a7, a8, a9, a10, a11, a12, a13, a14, a15, a16, a17, a18, a19)) : wpX_advance post (v1, v2, v3, v4, v5, v6, 0, v8, v9, a1, a2, a3, a4, a5, a6, a7, a8, a9, a10, a11, a12, a13, a14, a15, a16, a17, a18, a19) :=
  ⟨1, br_t (show (0 : Int32) ≤ 0 by decide) ⟨1, br_t (show (6 : Int32) * 0 ≤ 0 by decide) H⟩⟩
theorem rc_adv38 {post : St2 → Prop} {v1 v2 v3 v4 v5 v7 v8 v9 : Int32} {a1 a2 a3 a4 a5 a6 a7 a8 a9 a10 a11 a12 a13 a14 a15 a16 a17 a18 a19 : Nat → Int32} (H : ∀ b11, (∀ j, j < 6 → b11 j = a13 j) → post (v1, v2, v3, v4, v5, 1, v7, v8, v9, a1, a2, a3, a4, a5, a6, a7, a8, a9, a10, b11, a12, a13, a14, a15, a16, a17, a18, a19)) : ∃ n, wX_advance_38 post v1 v2 v3 v4 v5 1 v7 v8 v9 n 0 a1 a2 a3 a4 a5 a6 a7 a8 a9 a10 a11 a12 a13 a14 a15 a16 a17 a18 a19 :=
  pk_loop (fun n i s => wX_advance_38 post v1 v2 v3 v4 v5 1 v7 v8 v9 n (nI i) a1 a2 a3 a4 a5 a6 a7 a8 a9 a10 s a12 a13 a14 a15 a16 a17 a18 a19) (fun i s => ∀ j, j < i → s j = a13 j) 6 0 a11 (by omega) rc_none
    (fun n s h => pk_le 6 6 (fun _ => H s h) (fun z => absurd z (by omega)) (by decide))
    (fun n i s hi h hw => pk_le 6 i (fun z => absurd z (by omega)) (fun _ => ⟨pk_in i 384 (by omega), pk_in i 384 (by omega), nm_e (nm_r (nI_1 i) (hw _ (rc_fill (nI_clamp (by omega)) h (rc_cl a13 (by omega)))))⟩) (by decide))
theorem rc_adv1 {post : St2 → Prop} {v1 v2 v3 v4 v5 v6 v8 v9 : Int32} {a1 a2 a3 a4 a5 a6 a7 a8 a9 a10 a11 a12 a13 a14 a15 a16 a17 a18 a19 : Nat → Int32} (H : ∀ b11, (∀ j, j < 6 → b11 j = a13 j) → post (v1, v2, v3, v4, v5, 1, 1, v8, v9, a1, a2, a3, a4, a5, a6, a7, a8, a9, upd a10 0 (a12 0), b11, a12, a13, a14, a15, a16, a17, a18, a19)) : wpX_advance post (v1, v2, v3, v4, v5, v6, 1, v8, v9, a1, a2, a3, a4, a5, a6, a7, a8, a9, a10, a11, a12, a13, a14, a15, a16, a17, a18, a19) :=
  ⟨2, br_f (show ¬ (1 : Int32) ≤ 0 by decide) ⟨pk_in 0 64 (by omega), pk_in 0 64 (by omega), nm_r (show upd a10 (0 : Int32).toNatClampNeg (a12 (0 : Int32).toNatClampNeg) = upd a10 0 (a12 0) by rw [sb_cl0]) (nm_r (show (0 : Int32) + 1 = 1 by decide) (br_t (show (1 : Int32) ≤ 1 by decide) (rc_adv38 H)))⟩⟩
theorem rc_s65 {post : St2 → Prop} {J9 : Int32 → Int32 → Int32 → Int32 → Int32 → Int32 → Int32 → Int32 → Int32 → Int32 → Int32 → (Nat → Int32) → (Nat → Int32) → (Nat → Int32) → (Nat → Int32) → (Nat → Int32) → (Nat → Int32) → (Nat → Int32) → (Nat → Int32) → (Nat → Int32) → (Nat → Int32) → (Nat → Int32) → (Nat → Int32) → (Nat → Int32) → (Nat → Int32) → (Nat → Int32) → (Nat → Int32) → (Nat → Int32) → (Nat → Int32) → (Nat → Int32) → Prop} {x1 x2 x4 : Int32} {v1 v2 v3 v4 v5 v6 v7 v8 v9 : Int32} {a1 a2 a3 a4 a5 a6 a7 a8 a9 a10 a11 a12 a13 a14 a15 a16 a17 a18 a19 : Nat → Int32} (H : ∀ b19, (∀ j, j < 6 → b19 j = a18 j) → J9 0 (x4 + 1) v1 v2 v3 v4 v5 v6 v7 v8 v9 a1 a2 a3 a4 a5 a6 a7 a8 a9 a10 a11 a12 a13 a14 a15 a16 a17 a18 b19) : ∃ n, wX_step_65 post J9 x1 x2 x4 v1 v2 v3 v4 v5 v6 v7 v8 v9 n 0 a1 a2 a3 a4 a5 a6 a7 a8 a9 a10 a11 a12 a13 a14 a15 a16 a17 a18 a19 :=
  pk_loop (fun n i s => wX_step_65 post J9 x1 x2 x4 v1 v2 v3 v4 v5 v6 v7 v8 v9 n (nI i) a1 a2 a3 a4 a5 a6 a7 a8 a9 a10 a11 a12 a13 a14 a15 a16 a17 a18 s) (fun i s => ∀ j, j < i → s j = a18 j) 6 0 a19 (by omega) rc_none
    (fun n s h => pk_le 6 6 (fun _ => nm_e (H s h)) (fun z => absurd z (by omega)))
    (fun n i s hi h hw => pk_le 6 i (fun z => absurd z (by omega)) (fun _ => ⟨pk_in i 6 hi, pk_in i 6 hi, nm_e (nm_r (nI_1 i) (hw _ (rc_fill (nI_clamp (by omega)) h (rc_cl a18 (by omega)))))⟩))
theorem rc_f94 {post : St2 → Prop} {J2 : Int32 → Int32 → Int32 → Int32 → Int32 → Int32 → Int32 → Int32 → Int32 → Int32 → (Nat → Int32) → (Nat → Int32) → (Nat → Int32) → (Nat → Int32) → (Nat → Int32) → (Nat → Int32) → (Nat → Int32) → (Nat → Int32) → (Nat → Int32) → (Nat → Int32) → (Nat → Int32) → (Nat → Int32) → (Nat → Int32) → (Nat → Int32) → (Nat → Int32) → (Nat → Int32) → (Nat → Int32) → (Nat → Int32) → (Nat → Int32) → Prop} {x1 x2 x3 x4 : Int32} {m : Nat} {v1 v2 v3 v4 v5 v6 v7 v9 : Int32} {a1 a2 a3 a4 a5 a6 a7 a8 a9 a10 a11 a12 a13 a14 a15 a16 a17 a18 a19 : Nat → Int32} (hm : m < 1088) (h14 : a14 m = 0)
    (H : ∀ b18, (∀ j, j < 6 → b18 j = a17 j) → ∀ ψ : St2 → Prop, (∀ (w1 w2 w3 w4 w5 w6 w7 w8 w9 : Int32) (c1 c2 c3 c4 c5 c6 c7 c8 c9 c10 c11 c12 c13 c14 c15 c16 c17 c18 c19 : Nat → Int32), J2 (x2 + 1) w1 w2 w3 w4 w5 w6 w7 w8 w9 c1 c2 c3 c4 c5 c6 c7 c8 c9 c10 c11 c12 c13 c14 c15 c16 c17 c18 c19 → ψ (w1, w2, w3, w4, w5, w6, w7, w8, w9, c1, c2, c3, c4, c5, c6, c7, c8, c9, c10, c11, c12, c13, c14, c15, c16, c17, c18, c19)) → wpX_goOn ψ (v1, v2, v3, v4, v5, v6, v7, 0, v9, a1, a2, a3, a4, a5, a6, a7, a8, a9, a10, a11, a12, a13, upd a14 m 1, a15, a16, a17, b18, a19) x3 x1 x4) : ∃ n, wX_follow_94 post J2 x1 x2 x3 x4 (nI m) v1 v2 v3 v4 v5 v6 v7 0 v9 n 0 a1 a2 a3 a4 a5 a6 a7 a8 a9 a10 a11 a12 a13 a14 a15 a16 a17 a18 a19 :=
  pk_loop (fun n i s => wX_follow_94 post J2 x1 x2 x3 x4 (nI m) v1 v2 v3 v4 v5 v6 v7 0 v9 n (nI i) a1 a2 a3 a4 a5 a6 a7 a8 a9 a10 a11 a12 a13 a14 a15 a16 a17 s a19) (fun i s => ∀ j, j < i → s j = a17 j) 6 0 a18 (by omega) rc_none
    (fun n s h => pk_le 6 6 (fun _ => ⟨pk_in m 1088 hm, br_t ((rc_cl a14 (by omega)).trans h14) ⟨pk_in m 1088 hm, nm_r (congrArg (fun k => upd a14 k 1) (nI_clamp (by omega))) (H s h _ (fun _ _ _ _ _ _ _ _ _ _ _ _ _ _ _ _ _ _ _ _ _ _ _ _ _ _ _ _ hj => nm_e hj))⟩⟩) (fun z => absurd z (by omega)))
    (fun n i s hi h hw => pk_le 6 i (fun z => absurd z (by omega)) (fun _ => ⟨pk_in i 3840 (by omega) (rc_z6 i), pk_in i 6 hi, nm_e (nm_r (nI_1 i) (hw _ (rc_fill (nI_clamp (by omega)) h (by rw [rc_z6, nI_clamp (by omega)]))))⟩))
end
section
/-! goOn: reading or done; a note -/
theorem rc_go228 {post : St2 → Prop} {v1 v2 v3 v4 v5 v6 v8 v9 : Int32} {a1 a2 a3 a4 a5 a6 a7 a8 a9 a10 a11 a12 a13 a14 a15 a16 a17 a18 a19 : Nat → Int32} (H : ∀ b13, (∀ j, j < 6 → b13 j = a18 j) → post (v1, v2, v3, v4, v5, v6, 1, v8, v9, a1, a2, a3, a4, a5, a6, a7, a8, a9, a10, a11, a12, b13, a14, a15, a16, a17, a18, a19)) : ∃ n, wX_goOn_228 post v1 v2 v3 v4 v5 v6 0 v8 v9 n 0 a1 a2 a3 a4 a5 a6 a7 a8 a9 a10 a11 a12 a13 a14 a15 a16 a17 a18 a19 :=
  pk_loop (fun n i s => wX_goOn_228 post v1 v2 v3 v4 v5 v6 0 v8 v9 n (nI i) a1 a2 a3 a4 a5 a6 a7 a8 a9 a10 a11 a12 s a14 a15 a16 a17 a18 a19) (fun i s => ∀ j, j < i → s j = a18 j) 6 0 a13 (by omega) rc_none
    (fun n s h => pk_le 6 6 (fun _ => nm_r (show (0 : Int32) + 1 = 1 by decide) (H s h)) (fun z => absurd z (by omega)))
    (fun n i s hi h hw => pk_le 6 i (fun z => absurd z (by omega)) (fun _ => ⟨pk_in i 6 hi, pk_in i 384 (by omega) (rc_z6 i), nm_e (nm_r (nI_1 i) (hw _ (rc_fill (by rw [rc_z6, nI_clamp (by omega)]) h (rc_cl a18 (by omega)))))⟩))
theorem rc_go_stop {post : St2 → Prop} {v1 v2 v3 v4 v5 v6 v8 v9 : Int32} {a1 a2 a3 a4 a5 a6 a7 a8 a9 a10 a11 a12 a13 a14 a15 a16 a17 a18 a19 : Nat → Int32} {pc : Nat} {x1 x4 : Int32} (hpc : pc < 64) (hc : a6 pc = 0 ∨ a6 pc = 4) (H : ∀ b13, (∀ j, j < 6 → b13 j = a18 j) → post (v1, v2, v3, v4, v5, v6, 1, v8, v9, a1, a2, a3, a4, a5, a6, a7, a8, a9, a10, a11, upd a12 0 (nI pc), b13, a14, a15, a16, a17, a18, a19)) : wpX_goOn post (v1, v2, v3, v4, v5, v6, 0, v8, v9, a1, a2, a3, a4, a5, a6, a7, a8, a9, a10, a11, a12, a13, a14, a15, a16, a17, a18, a19) (nI pc) x1 x4 := by
  unfold wpX_goOn
  refine ⟨pk_in pc 64 hpc, fun x ex => ?_⟩
  rw [nI_clamp (show pc < 2 ^ 31 by omega)] at ex
  have hx : x = 0 ∨ x = 4 := by rw [ex]; exact hc
  have n1 : ¬ x = 1 := by rcases hx with h | h <;> rw [h] <;> decide
  have n2 : ¬ x = 2 := by rcases hx with h | h <;> rw [h] <;> decide
  have n3 : ¬ x = 3 := by rcases hx with h | h <;> rw [h] <;> decide
  have n5 : ¬ x = 5 := by rcases hx with h | h <;> rw [h] <;> decide
  have n6 : ¬ x = 6 := by rcases hx with h | h <;> rw [h] <;> decide
  have n7 : ¬ x = 7 := by rcases hx with h | h <;> rw [h] <;> decide
  have key : wX_goOn_151 post (nI pc) x1 x4 x v1 v2 v3 v4 v5 v6 0 v8 v9 a1 a2 a3 a4 a5 a6 a7 a8 a9 a10 a11 a12 a13 a14 a15 a16 a17 a18 a19 := by
    unfold wX_goOn_151
    exact br_f n7 (br_f n3 ⟨pk_in 0 64 (by omega), nm_r (congrArg (fun k => upd a12 k (nI pc)) sb_cl0) (rc_go228 H)⟩)
  exact br_f n1 (br_f n5 (br_f n6 (br_f n2 (br_f n7 key))))
/-- what a note q stores, out of the notes N at place p -/
def rc_val (q : Nat) (N : Nat → Int32) (p : Int32) : Int32 := if q < 3 then 16 * N (q + 3) + p else p
theorem rc_go203 {post : St2 → Prop} {v1 v2 v3 v4 v5 v6 v7 v9 : Int32} {a1 a2 a3 a4 a5 a6 a7 a8 a9 a10 a11 a12 a13 a14 a15 a16 a17 a18 a19 : Nat → Int32} {x1 x3 z0 : Int32} {q : Nat} (hq : q < 6) (H : ∀ b17, (∀ j, j < 6 → b17 j = upd a18 q z0 j) → post (v1, v2, v3, v4, v5, v6, v7, 1, v9, a1, a2, a3, a4, a5, a6, a7, a8, a9, a10, a11, a12, a13, a14, upd a15 0 (x1 + 1), upd a16 0 x3, b17, upd a18 q z0, a19)) : wX_goOn_203 post x1 x3 z0 (nI q) v1 v2 v3 v4 v5 v6 v7 0 v9 a1 a2 a3 a4 a5 a6 a7 a8 a9 a10 a11 a12 a13 a14 a15 a16 a17 a18 a19 := by
  unfold wX_goOn_203
  exact ⟨pk_in q 6 hq, nm_r (congrArg (fun k => upd a18 k z0) (nI_clamp (by omega))) (rc_push H)⟩
theorem rc_go_note {post : St2 → Prop} {v1 v2 v3 v4 v5 v6 v7 v9 : Int32} {a1 a2 a3 a4 a5 a6 a7 a8 a9 a10 a11 a12 a13 a14 a15 a16 a17 a18 a19 : Nat → Int32} {pc q : Nat} {x1 x4 : Int32} (hpc : pc < 64) (hc : a6 pc = 3) (hq : q < 6) (h7 : a7 pc = nI q) (H : ∀ b17, (∀ j, j < 6 → b17 j = upd a18 q (rc_val q a18 x1) j) → post (v1, v2, v3, v4, v5, v6, v7, 1, v9, a1, a2, a3, a4, a5, a6, a7, a8, a9, a10, a11, a12, a13, a14, upd a15 0 (nI pc + 1), upd a16 0 x4, b17, upd a18 q (rc_val q a18 x1), a19)) : wpX_goOn post (v1, v2, v3, v4, v5, v6, v7, 0, v9, a1, a2, a3, a4, a5, a6, a7, a8, a9, a10, a11, a12, a13, a14, a15, a16, a17, a18, a19) (nI pc) x1 x4 := by
  unfold wpX_goOn
  refine ⟨pk_in pc 64 hpc, fun x ex => ?_⟩
  rw [nI_clamp (show pc < 2 ^ 31 by omega), hc] at ex
  subst ex
  have key : wX_goOn_151 post (nI pc) x1 x4 3 v1 v2 v3 v4 v5 v6 v7 0 v9 a1 a2 a3 a4 a5 a6 a7 a8 a9 a10 a11 a12 a13 a14 a15 a16 a17 a18 a19 := by
    unfold wX_goOn_151
    refine br_f (by decide) (br_t rfl ⟨pk_in pc 64 hpc, fun x5 e5 => ?_⟩)
    rw [nI_clamp (show pc < 2 ^ 31 by omega), h7] at e5
    subst e5
    refine pk_lt q 3 (fun z => ⟨pk_in (q + 3) 6 (by omega) (nI_add q 3), ?_⟩) (fun z => ?_)
    · have e : rc_val q a18 x1 = 16 * a18 (nI q + 3).toNatClampNeg + x1 := by
        unfold rc_val
        rw [if_pos z, show nI q + 3 = nI (q + 3) from nI_add q 3, nI_clamp (show q + 3 < 2 ^ 31 by omega)]
      rw [← e]
      exact rc_go203 hq H
    · have e : rc_val q a18 x1 = x1 := by
        unfold rc_val
        rw [if_neg (by omega)]
      rw [e] at H
      exact rc_go203 hq H
  exact br_f (by decide) (br_f (by decide) (br_f (by decide) (br_f (by decide) (br_f (by decide) key))))
/-! one round of follow -/
theorem rc_f2 {post : St2 → Prop} {v1 v2 v3 v4 v5 v6 v7 v9 : Int32} {a1 a2 a3 a4 a5 a6 a7 a8 a9 a10 a11 a12 a13 a14 a15 a16 a17 a18 a19 : Nat → Int32} {place : Int32} {n k pc : Nat} (hk : k < 1300) (hpc : pc < 64) (h15 : a15 0 = nI pc) (h16 : a16 0 = 0) (h14 : a14 (pc * 17) = 0)
    (H : ∀ b18, (∀ j, j < 6 → b18 j = a17 j) → ∀ ψ : St2 → Prop, (∀ (w1 w2 w3 w4 w5 w6 w7 w8 w9 : Int32) (c1 c2 c3 c4 c5 c6 c7 c8 c9 c10 c11 c12 c13 c14 c15 c16 c17 c18 c19 : Nat → Int32), wX_follow_2 post place n (nI (k + 1)) w1 w2 w3 w4 w5 w6 w7 w8 w9 c1 c2 c3 c4 c5 c6 c7 c8 c9 c10 c11 c12 c13 c14 c15 c16 c17 c18 c19 → ψ (w1, w2, w3, w4, w5, w6, w7, w8, w9, c1, c2, c3, c4, c5, c6, c7, c8, c9, c10, c11, c12, c13, c14, c15, c16, c17, c18, c19)) → wpX_goOn ψ (v1, v2, v3, v4, v5, v6, v7, 0, v9, a1, a2, a3, a4, a5, a6, a7, a8, a9, a10, a11, a12, a13, upd a14 (pc * 17) 1, a15, a16, a17, b18, a19) (nI pc) place 0) :
    wX_follow_2 post place (n + 1) (nI k) v1 v2 v3 v4 v5 v6 v7 1 v9 a1 a2 a3 a4 a5 a6 a7 a8 a9 a10 a11 a12 a13 a14 a15 a16 a17 a18 a19 := by
  have key : ∃ m, wX_follow_94 post (wX_follow_2 post place n) place (nI k) (nI pc) 0 (nI (pc * 17)) v1 v2 v3 v4 v5 v6 v7 0 v9 m 0 a1 a2 a3 a4 a5 a6 a7 a8 a9 a10 a11 a12 a13 a14 a15 a16 a17 a18 a19 :=
    rc_f94 (m := pc * 17) (by omega) h14 (fun b18 hb ψ hψ => H b18 hb ψ (fun w1 w2 w3 w4 w5 w6 w7 w8 w9 c1 c2 c3 c4 c5 c6 c7 c8 c9 c10 c11 c12 c13 c14 c15 c16 c17 c18 c19 hj => hψ w1 w2 w3 w4 w5 w6 w7 w8 w9 c1 c2 c3 c4 c5 c6 c7 c8 c9 c10 c11 c12 c13 c14 c15 c16 c17 c18 c19 (by rw [nI_1]; exact hj)))
  have key2 : ∀ z0, wX_follow_71 post (wX_follow_2 post place n) place (nI k) (nI pc) 0 z0 v1 v2 v3 v4 v5 v6 v7 0 v9 a1 a2 a3 a4 a5 a6 a7 a8 a9 a10 a11 a12 a13 a14 a15 a16 a17 a18 a19 := fun z0 => by
    unfold wX_follow_71
    exact br_c (fun _ => nm_r (rc_17 pc) key) (fun _ => nm_r (rc_17 pc) key)
  refine pk_le 1300 k (fun z => absurd z (by omega)) (fun _ => br_f (by decide) (nm_r (show (1 : Int32) - 1 = 0 by decide) ⟨pk_in 0 640 (by omega), nm_r ((congrArg a15 sb_cl0).trans h15) ⟨pk_in 0 640 (by omega), nm_r ((congrArg a16 sb_cl0).trans h16) ⟨pk_in pc 64 hpc, ?_⟩⟩⟩))
  exact br_c (fun _ => key2 1) (fun _ => ⟨pk_in pc 64 hpc, br_c (fun _ => key2 1) (fun _ => key2 0)⟩)
theorem rc_fend {post : St2 → Prop} {v1 v2 v3 v4 v5 v6 v7 v9 : Int32} {a1 a2 a3 a4 a5 a6 a7 a8 a9 a10 a11 a12 a13 a14 a15 a16 a17 a18 a19 : Nat → Int32} {place : Int32} {n : Nat} {x2 : Int32} (H : post (v1, v2, v3, v4, v5, v6, v7, 0, v9, a1, a2, a3, a4, a5, a6, a7, a8, a9, a10, a11, a12, a13, a14, a15, a16, a17, a18, a19)) : wX_follow_2 post place (n + 1) x2 v1 v2 v3 v4 v5 v6 v7 0 v9 a1 a2 a3 a4 a5 a6 a7 a8 a9 a10 a11 a12 a13 a14 a15 a16 a17 a18 a19 :=
  br_c (fun _ => H) (fun _ => br_t (by decide) H)
/-- from instruction pc with notes N at a place, follow leads to a thread at pc' with notes N' -/
def rc_fol (a6 a7 : Nat → Int32) (place : Int32) (pc : Nat) (N : Nat → Int32) (pc' : Nat) (N' : Nat → Int32) : Prop :=
  pc < 40 ∧ ((pc' = pc ∧ N' = N ∧ (a6 pc = 0 ∨ a6 pc = 4)) ∨ (∃ q, q < 6 ∧ a6 pc = 3 ∧ a7 pc = nI q ∧ pc' = pc + 1 ∧ (a6 (pc + 1) = 0 ∨ a6 (pc + 1) = 4) ∧ N' = upd N q (rc_val q N place)))
theorem rc_updc {f g : Nat → Int32} {q : Nat} {x y : Int32} (h : ∀ j, j < 6 → f j = g j) (e : x = y) : ∀ j, j < 6 → upd f q x j = upd g q y j := by
  intro j hj
  by_cases c : j = q
  · rw [c, pk_us, pk_us, e]
  · rw [pk_un c, pk_un c, h j hj]
theorem rc_valc {q : Nat} {f g : Nat → Int32} {p : Int32} (h : ∀ j, j < 6 → f j = g j) : rc_val q f p = rc_val q g p := by
  unfold rc_val
  by_cases c : q < 3
  · rw [if_pos c, if_pos c, h (q + 3) (by omega)]
  · rw [if_neg c, if_neg c]
theorem rc_follow {post : St2 → Prop} {v1 v2 v3 v4 v5 v6 v9 : Int32} {a1 a2 a3 a4 a5 a6 a7 a8 a9 a10 a11 a12 a13 a14 a15 a16 a17 a18 a19 : Nat → Int32} {place : Int32} {pc pc' : Nat} {N N' : Nat → Int32} (hF : rc_fol a6 a7 place pc N pc' N') (h15 : a15 0 = nI pc) (h16 : a16 0 = 0) (h17 : ∀ j, j < 6 → a17 j = N j) (h14 : ∀ j, j < 1088 → a14 j = 0)
    (H : ∀ b12 b13 b14 b15 b16 b17 b18, b12 0 = nI pc' → (∀ j, j < 6 → b13 j = N' j) → post (v1, v2, v3, v4, v5, v6, 1, 0, v9, a1, a2, a3, a4, a5, a6, a7, a8, a9, a10, a11, b12, b13, b14, b15, b16, b17, b18, a19)) : wpX_follow post (v1, v2, v3, v4, v5, v6, 0, 1, v9, a1, a2, a3, a4, a5, a6, a7, a8, a9, a10, a11, a12, a13, a14, a15, a16, a17, a18, a19) place := by
  obtain ⟨hpc, ⟨rfl, rfl, hc⟩ | ⟨q, hq, hc, h7, rfl, hc', rfl⟩⟩ := hF
  · refine ⟨2, rc_f2 (k := 0) (by omega) (by omega) h15 h16 (h14 _ (by omega)) (fun b18 hb ψ hψ => rc_go_stop (by omega) hc (fun b13 h13 => hψ _ _ _ _ _ _ _ _ _ _ _ _ _ _ _ _ _ _ _ _ _ _ _ _ _ _ _ _ (rc_fend (H _ _ _ _ _ _ _ pk_us (fun j hj => ?_)))))⟩
    rw [h13 j hj, hb j hj, h17 j hj]
  · refine ⟨3, rc_f2 (k := 0) (by omega) (by omega) h15 h16 (h14 _ (by omega)) (fun b18 hb ψ hψ => rc_go_note (by omega) hc hq h7 (fun b17 hb17 => hψ _ _ _ _ _ _ _ _ _ _ _ _ _ _ _ _ _ _ _ _ _ _ _ _ _ _ _ _ ?_))⟩
    refine rc_f2 (k := 1) (pc := pc + 1) (by omega) (by omega) (by rw [pk_us, nI_1]) pk_us (by rw [pk_un (by omega)]; exact h14 _ (by omega)) (fun c18 hc18 ψ2 hψ2 => rc_go_stop (by omega) hc' (fun b13 h13 => hψ2 _ _ _ _ _ _ _ _ _ _ _ _ _ _ _ _ _ _ _ _ _ _ _ _ _ _ _ _ (rc_fend (H _ _ _ _ _ _ _ pk_us (fun j hj => ?_)))))
    have hN : ∀ j, j < 6 → b18 j = N j := fun j hj => (hb j hj).trans (h17 j hj)
    rw [h13 j hj, hc18 j hj, hb17 j hj]
    exact rc_updc hN (rc_valc hN) j hj
end
section
/-! a step with one thread: done, a miss, a letter read -/
theorem rc_step_done {post : St2 → Prop} {v1 v2 v3 v4 v5 v7 v8 v9 : Int32} {a1 a2 a3 a4 a5 a6 a7 a8 a9 a10 a11 a12 a13 a14 a15 a16 a17 a18 a19 : Nat → Int32} {x1 : Int32} {pc : Nat} {N : Nat → Int32} (hpc : pc < 64) (h10 : a10 0 = nI pc) (h11 : ∀ j, j < 6 → a11 j = N j) (hc : a6 pc = 4)
    (H : ∀ b14 b18 b19, (∀ j, j < 6 → b19 j = N j) → post (v1, v2, v3, v4, v5, 0, 0, v8, x1, a1, a2, a3, a4, a5, a6, a7, a8, a9, a10, a11, a12, a13, b14, a15, a16, a17, b18, b19)) : wpX_step post (v1, v2, v3, v4, v5, 1, v7, v8, v9, a1, a2, a3, a4, a5, a6, a7, a8, a9, a10, a11, a12, a13, a14, a15, a16, a17, a18, a19) x1 (-1) := by
  unfold wpX_step
  refine rc_clear (fun b14 h14 => ⟨2, ?_⟩)
  refine br_f (by decide) (br_f (by decide) ⟨pk_in 0 64 (by omega), nm_r ((congrArg a10 sb_cl0).trans h10) (rc_load (fun b18 h18 => ⟨pk_in pc 64 hpc, br_t ((rc_cl a6 (by omega)).trans hc) (br_t (by decide) (rc_s65 (fun b19 h19 => ?_)))⟩))⟩)
  exact br_t (by decide) (rc_adv0 (H _ _ _ (fun j hj => by rw [h19 j hj, h18 j hj, h11 j hj])))
theorem rc_step_miss {post : St2 → Prop} {v1 v2 v3 v4 v5 v7 v8 v9 : Int32} {a1 a2 a3 a4 a5 a6 a7 a8 a9 a10 a11 a12 a13 a14 a15 a16 a17 a18 a19 : Nat → Int32} {p pc : Nat} (hp : p < 10) (hpc : pc < 64) (h10 : a10 0 = nI pc) (hc : a6 pc = 0) (hm : v5 ≤ nI p ∨ (¬ a7 pc = 3 ∧ ¬ a7 pc = a9 p))
    (H : ∀ b14 b18, post (v1, v2, v3, v4, v5, 0, 0, v8, v9, a1, a2, a3, a4, a5, a6, a7, a8, a9, a10, a11, a12, a13, b14, a15, a16, a17, b18, a19)) : wpX_step post (v1, v2, v3, v4, v5, 1, v7, v8, v9, a1, a2, a3, a4, a5, a6, a7, a8, a9, a10, a11, a12, a13, a14, a15, a16, a17, a18, a19) (nI p) (-1) := by
  unfold wpX_step
  refine rc_clear (fun b14 h14 => ⟨2, ?_⟩)
  have e6 : ¬ a6 (nI pc).toNatClampNeg = 4 := by rw [nI_clamp (by omega), hc]; decide
  refine br_f (by decide) (br_f (by decide) ⟨pk_in 0 64 (by omega), nm_r ((congrArg a10 sb_cl0).trans h10) (rc_load (fun b18 h18 => ⟨pk_in pc 64 hpc, br_f e6 ?_⟩))⟩)
  have fin : wX_step_9 post (nI p) (-1) 1 1 (0 + 1) v1 v2 v3 v4 v5 1 0 v8 v9 a1 a2 a3 a4 a5 a6 a7 a8 a9 a10 a11 a12 a13 b14 a15 a16 a17 b18 a19 := br_t (by decide) (rc_adv0 (H _ _))
  refine br_c (fun _ => nm_e fin) (fun hn => ?_)
  rcases hm with h | ⟨h3, h9⟩
  · exact absurd h hn
  · exact ⟨pk_in pc 64 hpc, br_f (by rw [nI_clamp (by omega)]; exact h3) ⟨pk_in pc 64 hpc, pk_in p 10 hp, br_f (by rw [nI_clamp (by omega), nI_clamp (by omega)]; exact h9) (nm_e fin)⟩⟩
theorem rc_step_read {post : St2 → Prop} {v1 v2 v3 v4 v5 v7 v9 : Int32} {a1 a2 a3 a4 a5 a6 a7 a8 a9 a10 a11 a12 a13 a14 a15 a16 a17 a18 a19 : Nat → Int32} {p pc pc' : Nat} {N N' : Nat → Int32} (hp : p < 10) (hpc : pc < 64) (h10 : a10 0 = nI pc) (h11 : ∀ j, j < 6 → a11 j = N j) (hc : a6 pc = 0) (hn : ¬ v5 ≤ nI p) (h3 : ¬ a7 pc = 3) (h9 : a7 pc = a9 p) (hF : rc_fol a6 a7 (nI p + 1) (pc + 1) N pc' N')
    (H : ∀ b10 b11 b12 b13 b14 b15 b16 b17 b18, b10 0 = nI pc' → (∀ j, j < 6 → b11 j = N' j) → post (v1, v2, v3, v4, v5, 1, 1, 0, v9, a1, a2, a3, a4, a5, a6, a7, a8, a9, b10, b11, b12, b13, b14, b15, b16, b17, b18, a19)) : wpX_step post (v1, v2, v3, v4, v5, 1, v7, 0, v9, a1, a2, a3, a4, a5, a6, a7, a8, a9, a10, a11, a12, a13, a14, a15, a16, a17, a18, a19) (nI p) (-1) := by
  unfold wpX_step
  refine rc_clear (fun b14 h14 => ⟨2, ?_⟩)
  have e6 : ¬ a6 (nI pc).toNatClampNeg = 4 := by rw [nI_clamp (by omega), hc]; decide
  refine br_f (by decide) (br_f (by decide) ⟨pk_in 0 64 (by omega), nm_r ((congrArg a10 sb_cl0).trans h10) (rc_load (fun b18 h18 => ⟨pk_in pc 64 hpc, br_f e6 (br_f hn ⟨pk_in pc 64 hpc, br_f (by rw [nI_clamp (by omega)]; exact h3) ⟨pk_in pc 64 hpc, pk_in p 10 hp, br_t (by rw [nI_clamp (by omega), nI_clamp (by omega)]; exact h9) ?_⟩⟩)⟩))⟩)
  unfold wX_step_132
  refine rc_push (fun b17 h17 => rc_follow (pc := pc + 1) hF (by rw [pk_us, nI_1]) pk_us (fun j hj => by rw [h17 j hj, h18 j hj, h11 j hj]) h14 (fun c12 c13 c14 c15 c16 c17 c18 k12 k13 => nm_e ?_))
  exact br_t (by decide) (rc_adv1 (fun b11 k11 => H _ _ _ _ _ _ _ _ _ (by rw [pk_us, k12]) (fun j hj => by rw [k11 j hj, k13 j hj])))
/-! the search from a place, to anywhere -/
theorem rc_s12 {post : St2 → Prop} {v1 v2 v3 v4 v5 v6 v8 v9 : Int32} {a1 a2 a3 a4 a5 a6 a7 a8 a9 a10 a11 a12 a13 a14 a15 a16 a17 a18 a19 : Nat → Int32} {p pc : Nat} {N : Nat → Int32} (h14 : ∀ j, j < 1088 → a14 j = 0) (hF : rc_fol a6 a7 (nI p) 0 (fun _ => -4) pc N)
    (H : ∀ b10 b11 b12 b13 b14 b15 b16 b17 b18, b10 0 = nI pc → (∀ j, j < 6 → b11 j = N j) → ∃ n, wX_search_54 post (-1) n (nI p) v1 v2 v3 v4 v5 1 1 0 v9 a1 a2 a3 a4 a5 a6 a7 a8 a9 b10 b11 b12 b13 b14 b15 b16 b17 b18 a19) :
    ∃ n, wX_search_12 post (nI p) (-1) v1 v2 v3 v4 v5 v6 0 v8 v9 n 0 a1 a2 a3 a4 a5 a6 a7 a8 a9 a10 a11 a12 a13 a14 a15 a16 a17 a18 a19 :=
  pk_loop (fun n i s => wX_search_12 post (nI p) (-1) v1 v2 v3 v4 v5 v6 0 v8 v9 n (nI i) a1 a2 a3 a4 a5 a6 a7 a8 a9 a10 a11 a12 a13 a14 a15 a16 a17 s a19) (fun i s => ∀ j, j < i → s j = -4) 6 0 a18 (by omega) (rc_none (f := fun _ => -4))
    (fun n s h => pk_le 6 6 (fun _ => rc_push (fun b17 h17 => rc_follow (pc := 0) hF pk_us pk_us (fun j hj => (h17 j hj).trans (h j hj)) h14 (fun c12 c13 c14 c15 c16 c17 c18 k12 k13 => rc_adv1 (fun b11 k11 => H _ _ _ _ _ _ _ _ _ (pk_us.trans k12) (fun j hj => (k11 j hj).trans (k13 j hj)))))) (fun z => absurd z (by omega)))
    (fun n i s hi h hw => pk_le 6 i (fun z => absurd z (by omega)) (fun _ => ⟨pk_in i 6 hi, nm_e (nm_r (nI_1 i) (hw _ (rc_fill (f := fun _ => -4) (nI_clamp (by omega)) h rfl)))⟩))
theorem rc_search {post : St2 → Prop} {v1 v2 v3 v4 v5 v6 v7 v8 v9 : Int32} {a1 a2 a3 a4 a5 a6 a7 a8 a9 a10 a11 a12 a13 a14 a15 a16 a17 a18 a19 : Nat → Int32} {p pc : Nat} {N : Nat → Int32} (hF : rc_fol a6 a7 (nI p) 0 (fun _ => -4) pc N)
    (H : ∀ b10 b11 b12 b13 b14 b15 b16 b17 b18, b10 0 = nI pc → (∀ j, j < 6 → b11 j = N j) → ∃ n, wX_search_54 post (-1) n (nI p) v1 v2 v3 v4 v5 1 1 0 (-4) a1 a2 a3 a4 a5 a6 a7 a8 a9 b10 b11 b12 b13 b14 b15 b16 b17 b18 a19) :
    wpX_search post (v1, v2, v3, v4, v5, v6, v7, v8, v9, a1, a2, a3, a4, a5, a6, a7, a8, a9, a10, a11, a12, a13, a14, a15, a16, a17, a18, a19) (nI p) (-1) := by
  unfold wpX_search
  exact rc_clear (fun b14 h14 => rc_s12 h14 hF H)
theorem rc_s54end {post : St2 → Prop} {v1 v2 v3 v4 v5 v7 v8 v9 : Int32} {a1 a2 a3 a4 a5 a6 a7 a8 a9 a10 a11 a12 a13 a14 a15 a16 a17 a18 a19 : Nat → Int32} {x3 : Int32} {n : Nat} (H : post (v1, v2, v3, v4, v5, 0, v7, v8, v9, a1, a2, a3, a4, a5, a6, a7, a8, a9, a10, a11, a12, a13, a14, a15, a16, a17, a18, a19)) : wX_search_54 post (-1) (n + 1) x3 v1 v2 v3 v4 v5 0 v7 v8 v9 a1 a2 a3 a4 a5 a6 a7 a8 a9 a10 a11 a12 a13 a14 a15 a16 a17 a18 a19 :=
  br_c (fun _ => H) (fun _ => br_t (by decide) H)
theorem rc_s54done {post : St2 → Prop} {v1 v2 v3 v4 v7 v8 v9 : Int32} {a1 a2 a3 a4 a5 a6 a7 a8 a9 a10 a11 a12 a13 a14 a15 a16 a17 a18 a19 : Nat → Int32} {p nn pc n : Nat} {N : Nat → Int32} (hp : p ≤ nn) (hnn : nn ≤ 1) (hpc : pc < 64) (h10 : a10 0 = nI pc) (h11 : ∀ j, j < 6 → a11 j = N j) (hc : a6 pc = 4)
    (H : ∀ (u6 u7 u8 : Int32) (b10 b11 b12 b13 b14 b15 b16 b17 b18 : Nat → Int32) b19, (∀ j, j < 6 → b19 j = N j) → post (v1, v2, v3, v4, nI nn, u6, u7, u8, nI p, a1, a2, a3, a4, a5, a6, a7, a8, a9, b10, b11, b12, b13, b14, b15, b16, b17, b18, b19)) : wX_search_54 post (-1) (n + 2) (nI p) v1 v2 v3 v4 (nI nn) 1 v7 v8 v9 a1 a2 a3 a4 a5 a6 a7 a8 a9 a10 a11 a12 a13 a14 a15 a16 a17 a18 a19 :=
  pk_lt nn p (fun z => absurd z (by omega)) (fun _ => br_f (by decide) (rc_step_done hpc h10 h11 hc (fun b14 b18 b19 h19 => nm_e (rc_s54end (H _ _ _ _ _ _ _ _ _ _ _ _ _ h19)))))
theorem rc_se_done {post : St2 → Prop} {v1 v2 v3 v4 v6 v7 v8 v9 : Int32} {a1 a2 a3 a4 a5 a6 a7 a8 a9 a10 a11 a12 a13 a14 a15 a16 a17 a18 a19 : Nat → Int32} {p nn pc : Nat} {N : Nat → Int32} (hp : p ≤ nn) (hnn : nn ≤ 1) (hpc : pc < 64) (hF : rc_fol a6 a7 (nI p) 0 (fun _ => -4) pc N) (hc : a6 pc = 4)
    (H : ∀ (u6 u7 u8 : Int32) (b10 b11 b12 b13 b14 b15 b16 b17 b18 : Nat → Int32) b19, (∀ j, j < 6 → b19 j = N j) → post (v1, v2, v3, v4, nI nn, u6, u7, u8, nI p, a1, a2, a3, a4, a5, a6, a7, a8, a9, b10, b11, b12, b13, b14, b15, b16, b17, b18, b19)) : wpX_search post (v1, v2, v3, v4, nI nn, v6, v7, v8, v9, a1, a2, a3, a4, a5, a6, a7, a8, a9, a10, a11, a12, a13, a14, a15, a16, a17, a18, a19) (nI p) (-1) :=
  rc_search hF (fun b10 b11 b12 b13 b14 b15 b16 b17 b18 k10 k11 => ⟨2, rc_s54done (n := 0) hp hnn hpc k10 k11 hc H⟩)
theorem rc_se_miss {post : St2 → Prop} {v1 v2 v3 v4 v6 v7 v8 v9 : Int32} {a1 a2 a3 a4 a5 a6 a7 a8 a9 a10 a11 a12 a13 a14 a15 a16 a17 a18 a19 : Nat → Int32} {p nn pc : Nat} {N : Nat → Int32} (hp : p ≤ nn) (hnn : nn ≤ 1) (hpc : pc < 64) (hF : rc_fol a6 a7 (nI p) 0 (fun _ => -4) pc N) (hc : a6 pc = 0) (hm : nI nn ≤ nI p ∨ (¬ a7 pc = 3 ∧ ¬ a7 pc = a9 p))
    (H : ∀ (u6 u7 u8 : Int32) (b10 b11 b12 b13 b14 b15 b16 b17 b18 : Nat → Int32), post (v1, v2, v3, v4, nI nn, u6, u7, u8, -4, a1, a2, a3, a4, a5, a6, a7, a8, a9, b10, b11, b12, b13, b14, b15, b16, b17, b18, a19)) : wpX_search post (v1, v2, v3, v4, nI nn, v6, v7, v8, v9, a1, a2, a3, a4, a5, a6, a7, a8, a9, a10, a11, a12, a13, a14, a15, a16, a17, a18, a19) (nI p) (-1) :=
  rc_search hF (fun b10 b11 b12 b13 b14 b15 b16 b17 b18 k10 k11 => ⟨2, pk_lt nn p (fun z => absurd z (by omega)) (fun _ => br_f (by decide) (rc_step_miss (by omega) hpc k10 hc hm (fun c14 c18 => nm_e (rc_s54end (H _ _ _ _ _ _ _ _ _ _ _ _)))))⟩)
theorem rc_se_hit {post : St2 → Prop} {v1 v2 v3 v4 v6 v7 v8 v9 : Int32} {a1 a2 a3 a4 a5 a6 a7 a8 a9 a10 a11 a12 a13 a14 a15 a16 a17 a18 a19 : Nat → Int32} {p nn pc pc' : Nat} {N N' : Nat → Int32} (hp : p < nn) (hnn : nn ≤ 1) (hpc : pc < 64) (hpc' : pc' < 64) (hF : rc_fol a6 a7 (nI p) 0 (fun _ => -4) pc N) (hc : a6 pc = 0) (h3 : ¬ a7 pc = 3) (h9 : a7 pc = a9 p) (hF' : rc_fol a6 a7 (nI p + 1) (pc + 1) N pc' N') (hc' : a6 pc' = 4)
    (H : ∀ (u6 u7 u8 : Int32) (b10 b11 b12 b13 b14 b15 b16 b17 b18 : Nat → Int32) b19, (∀ j, j < 6 → b19 j = N' j) → post (v1, v2, v3, v4, nI nn, u6, u7, u8, nI (p + 1), a1, a2, a3, a4, a5, a6, a7, a8, a9, b10, b11, b12, b13, b14, b15, b16, b17, b18, b19)) : wpX_search post (v1, v2, v3, v4, nI nn, v6, v7, v8, v9, a1, a2, a3, a4, a5, a6, a7, a8, a9, a10, a11, a12, a13, a14, a15, a16, a17, a18, a19) (nI p) (-1) :=
  rc_search hF (fun b10 b11 b12 b13 b14 b15 b16 b17 b18 k10 k11 => ⟨3, pk_lt nn p (fun z => absurd z (by omega)) (fun _ => br_f (by decide) (rc_step_read (by omega) hpc k10 k11 hc (nI_ge hp (by omega)) h3 h9 hF' (fun c10 c11 c12 c13 c14 c15 c16 c17 c18 q10 q11 => nm_r (nI_1 p) (rc_s54done (n := 0) (p := p + 1) hp hnn hpc' q10 q11 hc' H))))⟩)
end
section
/-! findFrom: a program that is done at once; one that reads a letter -/
theorem rc_ff_done {post : Int32 → St2 → Prop} {v1 v2 v3 v4 v6 v7 v8 v9 : Int32} {a1 a2 a3 a4 a5 a6 a7 a8 a9 a10 a11 a12 a13 a14 a15 a16 a17 a18 a19 : Nat → Int32} {p nn : Nat} (hp : p ≤ nn) (hnn : nn ≤ 1) (hc : a6 0 = 4)
    (H : ∀ (u6 u7 u8 : Int32) (b10 b11 b12 b13 b14 b15 b16 b17 b18 : Nat → Int32) b19, (∀ j, j < 6 → b19 j = -4) → post (nI p) (v1, v2, v3, v4, nI nn, u6, u7, u8, nI p, a1, a2, a3, a4, a5, a6, a7, a8, a9, b10, b11, b12, b13, b14, b15, b16, b17, b18, b19)) : wpX_findFrom post (v1, v2, v3, v4, nI nn, v6, v7, v8, v9, a1, a2, a3, a4, a5, a6, a7, a8, a9, a10, a11, a12, a13, a14, a15, a16, a17, a18, a19) (nI p) :=
  ⟨1, pk_lt nn p (fun z => absurd z (by omega)) (fun _ => rc_se_done (pc := 0) (N := fun _ => -4) hp hnn (by omega) ⟨by omega, Or.inl ⟨rfl, rfl, Or.inr hc⟩⟩ hc (fun u6 u7 u8 b10 b11 b12 b13 b14 b15 b16 b17 b18 b19 h19 => br_f (nI_pos (by omega)) (H u6 u7 u8 b10 b11 b12 b13 b14 b15 b16 b17 b18 b19 h19)))⟩
/-- the program reads the letter c at r and is then done at r'; its notes -/
def rc_LP (a6 a7 : Nat → Int32) (c : Int32) (r r' : Nat) (N N' : Nat → Nat → Int32) : Prop :=
  r < 64 ∧ r' < 64 ∧ a6 r = 0 ∧ a7 r = c ∧ a6 r' = 4 ∧ (∀ p, rc_fol a6 a7 (nI p) 0 (fun _ => -4) r (N p)) ∧ (∀ p, rc_fol a6 a7 (nI p + 1) (r + 1) (N p) r' (N' p))
theorem rc_ff_hit {post : Int32 → St2 → Prop} {v1 v2 v3 v4 v6 v7 v8 v9 : Int32} {a1 a2 a3 a4 a5 a6 a7 a8 a9 a10 a11 a12 a13 a14 a15 a16 a17 a18 a19 : Nat → Int32} {p nn r r' : Nat} {c : Int32} {N N' : Nat → Nat → Int32} (hp : p < nn) (hnn : nn ≤ 1) (hL : rc_LP a6 a7 c r r' N N') (h3 : ¬ c = 3) (h9 : c = a9 p)
    (H : ∀ (u6 u7 u8 : Int32) (b10 b11 b12 b13 b14 b15 b16 b17 b18 : Nat → Int32) b19, (∀ j, j < 6 → b19 j = N' p j) → post (nI p) (v1, v2, v3, v4, nI nn, u6, u7, u8, nI (p + 1), a1, a2, a3, a4, a5, a6, a7, a8, a9, b10, b11, b12, b13, b14, b15, b16, b17, b18, b19)) : wpX_findFrom post (v1, v2, v3, v4, nI nn, v6, v7, v8, v9, a1, a2, a3, a4, a5, a6, a7, a8, a9, a10, a11, a12, a13, a14, a15, a16, a17, a18, a19) (nI p) := by
  obtain ⟨hr, hr', k0, k7, k4, kF, kF'⟩ := hL
  subst k7
  exact ⟨1, pk_lt nn p (fun z => absurd z (by omega)) (fun _ => rc_se_hit hp hnn hr hr' (kF p) k0 h3 h9 (kF' p) k4 (fun u6 u7 u8 b10 b11 b12 b13 b14 b15 b16 b17 b18 b19 h19 => br_f (nI_pos (by omega)) (H u6 u7 u8 b10 b11 b12 b13 b14 b15 b16 b17 b18 b19 h19)))⟩
theorem rc_ff_miss {post : Int32 → St2 → Prop} {v1 v2 v3 v4 : Int32} {a1 a2 a3 a4 a5 a6 a7 a8 a9 a19 : Nat → Int32} {nn r r' : Nat} {c : Int32} {N N' : Nat → Nat → Int32} (hnn : nn ≤ 1) (hL : rc_LP a6 a7 c r r' N N') (h3 : ¬ c = 3)
    (H : ∀ (u6 u7 u8 : Int32) (b10 b11 b12 b13 b14 b15 b16 b17 b18 : Nat → Int32) u9, post (-4) (v1, v2, v3, v4, nI nn, u6, u7, u8, u9, a1, a2, a3, a4, a5, a6, a7, a8, a9, b10, b11, b12, b13, b14, b15, b16, b17, b18, a19)) : ∀ (m p : Nat), p + m = nn + 1 → (∀ i, p ≤ i → i < nn → ¬ c = a9 i) → ∀ (u6 u7 u8 : Int32) (b10 b11 b12 b13 b14 b15 b16 b17 b18 : Nat → Int32) u9, wX_findFrom_2 post (m + 1) (nI p) v1 v2 v3 v4 (nI nn) u6 u7 u8 u9 a1 a2 a3 a4 a5 a6 a7 a8 a9 b10 b11 b12 b13 b14 b15 b16 b17 b18 a19 := by
  obtain ⟨hr, hr', k0, k7, k4, kF, kF'⟩ := hL
  subst k7
  intro m
  induction m with
  | zero => exact fun p e h9 u6 u7 u8 b10 b11 b12 b13 b14 b15 b16 b17 b18 u9 => pk_lt nn p (fun _ => H u6 u7 u8 b10 b11 b12 b13 b14 b15 b16 b17 b18 u9) (fun z => absurd z (by omega))
  | succ m ih =>
    intro p e h9 u6 u7 u8 b10 b11 b12 b13 b14 b15 b16 b17 b18 u9
    have hm : nI nn ≤ nI p ∨ (¬ a7 r = 3 ∧ ¬ a7 r = a9 p) := by
      by_cases z : p < nn
      · exact Or.inr ⟨h3, h9 p (Nat.le_refl p) z⟩
      · exact Or.inl (nI_le (by omega) (by omega))
    exact pk_lt nn p (fun z => absurd z (by omega)) (fun _ => rc_se_miss (by omega) hnn hr (kF p) k0 hm (fun u6 u7 u8 b10 b11 b12 b13 b14 b15 b16 b17 b18 => br_t (by decide) (nm_r (nI_1 p) (ih (p + 1) (by omega) (fun i hi => h9 i (by omega)) u6 u7 u8 b10 b11 b12 b13 b14 b15 b16 b17 b18 (-4)))))
theorem rc_ffm {post : Int32 → St2 → Prop} {v1 v2 v3 v4 v6 v7 v8 v9 : Int32} {a1 a2 a3 a4 a5 a6 a7 a8 a9 a10 a11 a12 a13 a14 a15 a16 a17 a18 a19 : Nat → Int32} {p nn r r' : Nat} {c : Int32} {N N' : Nat → Nat → Int32} (hp : p ≤ nn) (hnn : nn ≤ 1) (hL : rc_LP a6 a7 c r r' N N') (h3 : ¬ c = 3) (h9 : ∀ i, p ≤ i → i < nn → ¬ c = a9 i)
    (H : ∀ (u6 u7 u8 : Int32) (b10 b11 b12 b13 b14 b15 b16 b17 b18 : Nat → Int32) u9, post (-4) (v1, v2, v3, v4, nI nn, u6, u7, u8, u9, a1, a2, a3, a4, a5, a6, a7, a8, a9, b10, b11, b12, b13, b14, b15, b16, b17, b18, a19)) : wpX_findFrom post (v1, v2, v3, v4, nI nn, v6, v7, v8, v9, a1, a2, a3, a4, a5, a6, a7, a8, a9, a10, a11, a12, a13, a14, a15, a16, a17, a18, a19) (nI p) :=
  ⟨nn + 1 - p + 1, rc_ff_miss hnn hL h3 H (nn + 1 - p) p (by omega) h9 v6 v7 v8 a10 a11 a12 a13 a14 a15 a16 a17 a18 v9⟩
/-! find and groupIn over it -/
theorem rc_find_off {post : Int32 → St2 → Prop} {v1 v2 v3 v4 v5 v6 v7 v8 v9 : Int32} {a1 a2 a3 a4 a5 a6 a7 a8 a9 a10 a11 a12 a13 a14 a15 a16 a17 a18 a19 : Nat → Int32} {f : Int32} (h : f < 0 ∨ ¬ f ≤ v5) (H : post (-4) (v1, v2, v3, v4, v5, v6, v7, v8, v9, a1, a2, a3, a4, a5, a6, a7, a8, a9, a10, a11, a12, a13, a14, a15, a16, a17, a18, a19)) : wpX_find post (v1, v2, v3, v4, v5, v6, v7, v8, v9, a1, a2, a3, a4, a5, a6, a7, a8, a9, a10, a11, a12, a13, a14, a15, a16, a17, a18, a19) f := by
  unfold wpX_find
  have k : ∀ {A : Prop}, ((1 : Int32) = 0 → A) ∧ (¬ (1 : Int32) = 0 → post (-4) (v1, v2, v3, v4, v5, v6, v7, v8, v9, a1, a2, a3, a4, a5, a6, a7, a8, a9, a10, a11, a12, a13, a14, a15, a16, a17, a18, a19)) := fun {A} => br_f (by decide) H
  exact br_c (fun _ => k) (fun h0 => br_c (fun h1 => by rcases h with h | h <;> contradiction) (fun _ => k))
theorem rc_find_on {post : Int32 → St2 → Prop} {v1 v2 v3 v4 v5 v6 v7 v8 v9 : Int32} {a1 a2 a3 a4 a5 a6 a7 a8 a9 a10 a11 a12 a13 a14 a15 a16 a17 a18 a19 : Nat → Int32} {f : Int32} (h0 : ¬ f < 0) (h1 : f ≤ v5) (H : ∀ ψ : Int32 → St2 → Prop, (∀ r u, post r u → ψ r u) → wpX_findFrom ψ (v1, v2, v3, v4, v5, v6, v7, v8, v9, a1, a2, a3, a4, a5, a6, a7, a8, a9, a10, a11, a12, a13, a14, a15, a16, a17, a18, a19) f) : wpX_find post (v1, v2, v3, v4, v5, v6, v7, v8, v9, a1, a2, a3, a4, a5, a6, a7, a8, a9, a10, a11, a12, a13, a14, a15, a16, a17, a18, a19) f := by
  unfold wpX_find
  refine br_f h0 (br_t h1 (br_t rfl (H _ ?_)))
  rintro r ⟨w1, w2, w3, w4, w5, w6, w7, w8, w9, c1, c2, c3, c4, c5, c6, c7, c8, c9, c10, c11, c12, c13, c14, c15, c16, c17, c18, c19⟩ h
  exact h
theorem rc_grp_off {post : Int32 → St2 → Prop} {v1 v2 v3 v4 v5 v6 v7 v8 v9 : Int32} {a1 a2 a3 a4 a5 a6 a7 a8 a9 a10 a11 a12 a13 a14 a15 a16 a17 a18 a19 : Nat → Int32} {f g : Int32} (h : (f < 0 ∨ ¬ f ≤ v5) ∨ (g < 0 ∨ ¬ g ≤ 2)) (H : post (-4) (v1, v2, v3, v4, v5, v6, v7, v8, v9, a1, a2, a3, a4, a5, a6, a7, a8, a9, a10, a11, a12, a13, a14, a15, a16, a17, a18, a19)) : wpX_groupIn post (v1, v2, v3, v4, v5, v6, v7, v8, v9, a1, a2, a3, a4, a5, a6, a7, a8, a9, a10, a11, a12, a13, a14, a15, a16, a17, a18, a19) f g := by
  unfold wpX_groupIn
  have k : ∀ {A : Prop}, ((1 : Int32) = 0 → A) ∧ (¬ (1 : Int32) = 0 → post (-4) (v1, v2, v3, v4, v5, v6, v7, v8, v9, a1, a2, a3, a4, a5, a6, a7, a8, a9, a10, a11, a12, a13, a14, a15, a16, a17, a18, a19)) := fun {A} => br_f (by decide) H
  exact br_c (fun _ => k) (fun h0 => br_c (fun h1 => br_t rfl (br_c (fun _ => H) (fun h2 => br_c (fun h3 => by rcases h with (h | h) | (h | h) <;> contradiction) (fun _ => H)))) (fun _ => k))
theorem rc_grp_on {post : Int32 → St2 → Prop} {v1 v2 v3 v4 v5 v6 v7 v8 v9 : Int32} {a1 a2 a3 a4 a5 a6 a7 a8 a9 a10 a11 a12 a13 a14 a15 a16 a17 a18 a19 : Nat → Int32} {f : Int32} {g : Nat} (hg : g < 3) (h0 : ¬ f < 0) (h1 : f ≤ v5)
    (H : ∀ ψ : Int32 → St2 → Prop, (∀ r (w1 w2 w3 w4 w5 w6 w7 w8 w9 : Int32) (c1 c2 c3 c4 c5 c6 c7 c8 c9 c10 c11 c12 c13 c14 c15 c16 c17 c18 c19 : Nat → Int32), (0 ≤ r → post (c19 g) (w1, w2, w3, w4, w5, w6, w7, w8, w9, c1, c2, c3, c4, c5, c6, c7, c8, c9, c10, c11, c12, c13, c14, c15, c16, c17, c18, c19)) → (¬ 0 ≤ r → post (-4) (w1, w2, w3, w4, w5, w6, w7, w8, w9, c1, c2, c3, c4, c5, c6, c7, c8, c9, c10, c11, c12, c13, c14, c15, c16, c17, c18, c19)) → ψ r (w1, w2, w3, w4, w5, w6, w7, w8, w9, c1, c2, c3, c4, c5, c6, c7, c8, c9, c10, c11, c12, c13, c14, c15, c16, c17, c18, c19)) → wpX_findFrom ψ (v1, v2, v3, v4, v5, v6, v7, v8, v9, a1, a2, a3, a4, a5, a6, a7, a8, a9, a10, a11, a12, a13, a14, a15, a16, a17, a18, a19) f) : wpX_groupIn post (v1, v2, v3, v4, v5, v6, v7, v8, v9, a1, a2, a3, a4, a5, a6, a7, a8, a9, a10, a11, a12, a13, a14, a15, a16, a17, a18, a19) f (nI g) := by
  unfold wpX_groupIn
  refine br_f h0 (br_t h1 (br_t rfl (br_f (nI_pos (by omega)) (br_t (nI_le (b := 2) (by omega) (by omega)) (H _ (fun r w1 w2 w3 w4 w5 w6 w7 w8 w9 c1 c2 c3 c4 c5 c6 c7 c8 c9 c10 c11 c12 c13 c14 c15 c16 c17 c18 c19 hA hB => br_c (fun z => ⟨pk_in g 6 (by omega), ?_⟩) hB))))))
  rw [nI_clamp (show g < 2 ^ 31 by omega)]
  exact hA z
end
section
/-! feed, find and groupIn in a row, over a program in use -/
def rc_I (x : Int32) : Prop := ¬ x < 0 ∧ ¬ 2 < x
def rc_Pl (d f : Int32) : Prop := ¬ f < 0 ∧ (rc_I d → f ≤ 1) ∧ (¬ rc_I d → f ≤ 0)
def rc_Hit (c d f : Int32) : Prop := rc_I d ∧ c = d ∧ f = 0
theorem rc_I_of {x : Int32} (h : rc_I x) : ∃ k : Nat, k < 3 ∧ x = nI k := by
  obtain ⟨k, hk, e⟩ := nI_of2 (M := 2) (n := 2) (by decide) h.1 (Int32.not_lt.mp h.2)
  exact ⟨k, by omega, e⟩
theorem rc_I_nI {k : Nat} (h : k < 3) : rc_I (nI k) := ⟨nI_pos (by omega), nI_nlt (a := 2) (b := k) (by omega) (by omega)⟩
theorem rc_I_not {x : Int32} (h : ¬ rc_I x) : x < 0 ∨ ¬ x ≤ 2 := by
  by_cases z : x < 0
  · exact Or.inl z
  · exact Or.inr (fun w => h ⟨z, Int32.not_lt.mpr w⟩)
theorem rc_ne3 {k : Nat} (h : k < 3) : ¬ nI k = 3 := fun e => absurd ((nI_eq (a := k) (b := 3) (by omega) (by omega)).mp e) (by omega)
/-- groupIn, then the end -/
def rc_Grp (FIN : Int32 → Prop) (p2 p3 : Int32) (u : St2) : Prop := ∀ ψ : Int32 → St2 → Prop, (∀ r u', FIN r → ψ r u') → wpX_groupIn ψ u p3 p2
def rc_Find (FIN : Int32 → Int32 → Prop) (p2 p3 : Int32) (u : St2) : Prop := ∀ ψ : Int32 → St2 → Prop, (∀ r u', rc_Grp (FIN r) p2 p3 u' → ψ r u') → wpX_find ψ u p3
def rc_Feed (FIN : Int32 → Int32 → Int32 → Prop) (p1 p2 p3 : Int32) (u : St2) : Prop := ∀ ψ : Int32 → St2 → Prop, (∀ r u', rc_Find (FIN r) p2 p3 u' → ψ r u') → wpX_feed ψ u p1
theorem rc_t_off {FIN : Int32 → Int32 → Prop} {v1 v2 v3 v4 v5 v6 v7 v8 v9 : Int32} {a1 a2 a3 a4 a5 a6 a7 a8 a9 a10 a11 a12 a13 a14 a15 a16 a17 a18 a19 : Nat → Int32} {p2 p3 : Int32} (h : p3 < 0 ∨ ¬ p3 ≤ v5) (HF : FIN (-4) (-4)) : rc_Find FIN p2 p3 (v1, v2, v3, v4, v5, v6, v7, v8, v9, a1, a2, a3, a4, a5, a6, a7, a8, a9, a10, a11, a12, a13, a14, a15, a16, a17, a18, a19) :=
  fun ψ hψ => rc_find_off h (hψ _ _ (fun ψ2 hψ2 => rc_grp_off (Or.inl h) (hψ2 _ _ HF)))
theorem rc_t_done {FIN : Int32 → Int32 → Prop} {v1 v2 v3 v4 v6 v7 v8 v9 : Int32} {a1 a2 a3 a4 a5 a6 a7 a8 a9 a10 a11 a12 a13 a14 a15 a16 a17 a18 a19 : Nat → Int32} {p nn : Nat} {p2 : Int32} (hp : p ≤ nn) (hnn : nn ≤ 1) (hc : a6 0 = 4) (HF : FIN (nI p) (-4)) : rc_Find FIN p2 (nI p) (v1, v2, v3, v4, nI nn, v6, v7, v8, v9, a1, a2, a3, a4, a5, a6, a7, a8, a9, a10, a11, a12, a13, a14, a15, a16, a17, a18, a19) := by
  have h0 : ¬ nI p < 0 := nI_pos (by omega)
  have h1 : nI p ≤ nI nn := nI_le hp (by omega)
  refine fun ψ hψ => rc_find_on h0 h1 (fun χ hχ => rc_ff_done hp hnn hc (fun u6 u7 u8 b10 b11 b12 b13 b14 b15 b16 b17 b18 b19 h19 => hχ _ _ (hψ _ _ ?_)))
  intro ψ2 hψ2
  by_cases hg : rc_I p2
  · obtain ⟨g, hg3, rfl⟩ := rc_I_of hg
    refine rc_grp_on hg3 h0 h1 (fun χ2 hχ2 => rc_ff_done hp hnn hc (fun u6 u7 u8 b10 b11 b12 b13 b14 b15 b16 b17 b18 b19 h19 => hχ2 _ _ _ _ _ _ _ _ _ _ _ _ _ _ _ _ _ _ _ _ _ _ _ _ _ _ _ _ _ (fun _ => ?_) (fun _ => hψ2 _ _ HF)))
    rw [h19 g (by omega)]
    exact hψ2 _ _ HF
  · exact rc_grp_off (Or.inr (rc_I_not hg)) (hψ2 _ _ HF)
theorem rc_t_miss {FIN : Int32 → Int32 → Prop} {v1 v2 v3 v4 v6 v7 v8 v9 : Int32} {a1 a2 a3 a4 a5 a6 a7 a8 a9 a10 a11 a12 a13 a14 a15 a16 a17 a18 a19 : Nat → Int32} {p nn r r' : Nat} {c p2 : Int32} {N N' : Nat → Nat → Int32} (hp : p ≤ nn) (hnn : nn ≤ 1) (hL : rc_LP a6 a7 c r r' N N') (h3 : ¬ c = 3) (h9 : ∀ i, p ≤ i → i < nn → ¬ c = a9 i) (HF : FIN (-4) (-4)) : rc_Find FIN p2 (nI p) (v1, v2, v3, v4, nI nn, v6, v7, v8, v9, a1, a2, a3, a4, a5, a6, a7, a8, a9, a10, a11, a12, a13, a14, a15, a16, a17, a18, a19) := by
  have h0 : ¬ nI p < 0 := nI_pos (by omega)
  have h1 : nI p ≤ nI nn := nI_le hp (by omega)
  refine fun ψ hψ => rc_find_on h0 h1 (fun χ hχ => rc_ffm hp hnn hL h3 h9 (fun u6 u7 u8 b10 b11 b12 b13 b14 b15 b16 b17 b18 u9 => hχ _ _ (hψ _ _ ?_)))
  intro ψ2 hψ2
  by_cases hg : rc_I p2
  · obtain ⟨g, hg3, rfl⟩ := rc_I_of hg
    exact rc_grp_on hg3 h0 h1 (fun χ2 hχ2 => rc_ffm hp hnn hL h3 h9 (fun u6 u7 u8 b10 b11 b12 b13 b14 b15 b16 b17 b18 u9 => hχ2 _ _ _ _ _ _ _ _ _ _ _ _ _ _ _ _ _ _ _ _ _ _ _ _ _ _ _ _ _ (fun z => absurd z (by decide)) (fun _ => hψ2 _ _ HF)))
  · exact rc_grp_off (Or.inr (rc_I_not hg)) (hψ2 _ _ HF)
theorem rc_t_hit {FIN : Int32 → Int32 → Prop} {v1 v2 v3 v4 v6 v7 v8 v9 : Int32} {a1 a2 a3 a4 a5 a6 a7 a8 a9 a10 a11 a12 a13 a14 a15 a16 a17 a18 a19 : Nat → Int32} {p nn r r' : Nat} {c p2 : Int32} {N N' : Nat → Nat → Int32} (hp : p < nn) (hnn : nn ≤ 1) (hL : rc_LP a6 a7 c r r' N N') (h3 : ¬ c = 3) (h9 : c = a9 p) (HF : ∀ g, g < 3 → p2 = nI g → FIN (nI p) (N' p g)) (HF' : ¬ rc_I p2 → FIN (nI p) (-4)) : rc_Find FIN p2 (nI p) (v1, v2, v3, v4, nI nn, v6, v7, v8, v9, a1, a2, a3, a4, a5, a6, a7, a8, a9, a10, a11, a12, a13, a14, a15, a16, a17, a18, a19) := by
  have h0 : ¬ nI p < 0 := nI_pos (by omega)
  have h1 : nI p ≤ nI nn := nI_le (by omega) (by omega)
  refine fun ψ hψ => rc_find_on h0 h1 (fun χ hχ => rc_ff_hit hp hnn hL h3 h9 (fun u6 u7 u8 b10 b11 b12 b13 b14 b15 b16 b17 b18 b19 h19 => hχ _ _ (hψ _ _ ?_)))
  intro ψ2 hψ2
  by_cases hg : rc_I p2
  · obtain ⟨g, hg3, rfl⟩ := rc_I_of hg
    refine rc_grp_on hg3 h0 h1 (fun χ2 hχ2 => rc_ff_hit hp hnn hL h3 h9 (fun u6 u7 u8 b10 b11 b12 b13 b14 b15 b16 b17 b18 b19 h19 => hχ2 _ _ _ _ _ _ _ _ _ _ _ _ _ _ _ _ _ _ _ _ _ _ _ _ _ _ _ _ _ (fun _ => ?_) (fun z => absurd (nI_pos' (by omega)) z)))
    rw [h19 g (by omega)]
    exact hψ2 _ _ (HF g hg3 rfl)
  · exact rc_grp_off (Or.inr (rc_I_not hg)) (hψ2 _ _ (HF' hg))
/-! feed on the empty text -/
theorem rc_feed {FIN : Int32 → Int32 → Int32 → Prop} {v1 v2 v3 v4 v6 v7 v8 v9 : Int32} {a1 a2 a3 a4 a5 a6 a7 a8 a9 a10 a11 a12 a13 a14 a15 a16 a17 a18 a19 : Nat → Int32} {p1 p2 p3 : Int32} (H0 : ¬ rc_I p1 → rc_Find (FIN (-1)) p2 p3 (v1, v2, v3, v4, nI 0, v6, v7, v8, v9, a1, a2, a3, a4, a5, a6, a7, a8, a9, a10, a11, a12, a13, a14, a15, a16, a17, a18, a19)) (H1 : rc_I p1 → ∀ b9, b9 0 = p1 → rc_Find (FIN 1) p2 p3 (v1, v2, v3, v4, nI 1, v6, v7, v8, v9, a1, a2, a3, a4, a5, a6, a7, a8, b9, a10, a11, a12, a13, a14, a15, a16, a17, a18, a19)) : rc_Feed FIN p1 p2 p3 (v1, v2, v3, v4, 0, v6, v7, v8, v9, a1, a2, a3, a4, a5, a6, a7, a8, a9, a10, a11, a12, a13, a14, a15, a16, a17, a18, a19) := by
  intro ψ hψ
  unfold wpX_feed
  have o : ¬ rc_I p1 → ψ (-1) (v1, v2, v3, v4, 0, v6, v7, v8, v9, a1, a2, a3, a4, a5, a6, a7, a8, a9, a10, a11, a12, a13, a14, a15, a16, a17, a18, a19) := fun h => hψ _ _ (H0 h)
  refine br_c (fun z => o (fun w => w.1 z)) (fun z => br_c (fun w => br_f (by decide) ⟨pk_in 0 10 (by omega), nm_e (nm_r (show (0 : Int32) + 1 = nI 1 by decide) ?_)⟩) (fun w => o (fun t => w (Int32.not_lt.mp t.2))))
  exact hψ _ _ (H1 ⟨z, Int32.not_lt.mpr w⟩ _ (by rw [sb_cl0, pk_us]))
theorem rc_on {nn : Nat} (hnn : nn ≤ 1) {f : Int32} (h0 : ¬ f < 0) (h1 : f ≤ nI nn) : ∃ p, p ≤ nn ∧ f = nI p := nI_of2 (nI_toInt (by omega)) h0 h1
theorem rc_placed {d f : Int32} {nn : Nat} (hn : (rc_I d ∧ nn = 1) ∨ (¬ rc_I d ∧ nn = 0)) : rc_Pl d f ↔ ¬ (f < 0 ∨ ¬ f ≤ nI nn) := by
  unfold rc_Pl
  rcases hn with ⟨h, rfl⟩ | ⟨h, rfl⟩
  · constructor
    · rintro ⟨h0, h1, _⟩ (z | z)
      · exact h0 z
      · exact z (h1 h)
    · intro w
      exact ⟨fun z => w (Or.inl z), fun _ => Decidable.byContradiction (fun z => w (Or.inr z)), fun z => absurd h z⟩
  · constructor
    · rintro ⟨h0, _, h1⟩ (z | z)
      · exact h0 z
      · exact z (h1 h)
    · intro w
      exact ⟨fun z => w (Or.inl z), fun z => absurd z h, fun _ => Decidable.byContradiction (fun z => w (Or.inr z))⟩
/-- no letter in the program: DONE at once -/
theorem rc_backA {FIN : Int32 → Int32 → Int32 → Prop} {v1 v2 v3 v4 v6 v7 v8 v9 : Int32} {a1 a2 a3 a4 a5 a6 a7 a8 a9 a10 a11 a12 a13 a14 a15 a16 a17 a18 a19 : Nat → Int32} {p1 p2 p3 : Int32} (hc : a6 0 = 4)
    (HF : ∀ r1 r2 r3, (rc_I p1 → r1 = 1) → (¬ rc_I p1 → r1 = -1) → (rc_Pl p1 p3 → r2 = p3) → (¬ rc_Pl p1 p3 → r2 = -4) → r3 = -4 → FIN r1 r2 r3) : rc_Feed FIN p1 p2 p3 (v1, v2, v3, v4, 0, v6, v7, v8, v9, a1, a2, a3, a4, a5, a6, a7, a8, a9, a10, a11, a12, a13, a14, a15, a16, a17, a18, a19) := by
  have key : ∀ (nn : Nat) (r1 : Int32) (b9 : Nat → Int32), ((rc_I p1 ∧ nn = 1) ∨ (¬ rc_I p1 ∧ nn = 0)) → (rc_I p1 → r1 = 1) → (¬ rc_I p1 → r1 = -1) → rc_Find (FIN r1) p2 p3 (v1, v2, v3, v4, nI nn, v6, v7, v8, v9, a1, a2, a3, a4, a5, a6, a7, a8, b9, a10, a11, a12, a13, a14, a15, a16, a17, a18, a19) := by
    intro nn r1 b9 hn e1 e2
    have hnn : nn ≤ 1 := by rcases hn with h | h <;> omega
    by_cases hp : p3 < 0 ∨ ¬ p3 ≤ nI nn
    · exact rc_t_off hp (HF _ _ _ e1 e2 (fun z => absurd hp ((rc_placed hn).mp z)) (fun _ => rfl) rfl)
    · obtain ⟨p, hpn, rfl⟩ := rc_on hnn (fun z => hp (Or.inl z)) (Decidable.byContradiction (fun z => hp (Or.inr z)))
      exact rc_t_done hpn hnn hc (HF _ _ _ e1 e2 (fun _ => rfl) (fun z => absurd ((rc_placed hn).mpr hp) z) rfl)
  exact rc_feed (fun h => key 0 _ a9 (Or.inr ⟨h, rfl⟩) (fun z => absurd z h) (fun _ => rfl)) (fun h b9 _ => key 1 _ b9 (Or.inl ⟨h, rfl⟩) (fun _ => rfl) (fun z => absurd h z))
/-- a program that reads the letter c -/
theorem rc_backL {FIN : Int32 → Int32 → Int32 → Prop} {v1 v2 v3 v4 v6 v7 v8 v9 : Int32} {a1 a2 a3 a4 a5 a6 a7 a8 a9 a10 a11 a12 a13 a14 a15 a16 a17 a18 a19 : Nat → Int32} {p1 p2 p3 : Int32} {r r' k : Nat} {N N' : Nat → Nat → Int32} (hk : k < 3) (hL : rc_LP a6 a7 (nI k) r r' N N') (hN : ∀ g, g < 3 → p2 = nI g → N' 0 g = 1)
    (HF : ∀ r1 r2 r3, (rc_I p1 → r1 = 1) → (¬ rc_I p1 → r1 = -1) → (rc_Hit (nI k) p1 p3 → r2 = 0) → (¬ rc_Hit (nI k) p1 p3 → r2 = -4) → (rc_Hit (nI k) p1 p3 → rc_I p2 → r3 = 1) → (¬ (rc_Hit (nI k) p1 p3 ∧ rc_I p2) → r3 = -4) → FIN r1 r2 r3) : rc_Feed FIN p1 p2 p3 (v1, v2, v3, v4, 0, v6, v7, v8, v9, a1, a2, a3, a4, a5, a6, a7, a8, a9, a10, a11, a12, a13, a14, a15, a16, a17, a18, a19) := by
  have h3 : ¬ nI k = 3 := rc_ne3 hk
  have key : ∀ (nn : Nat) (r1 : Int32) (b9 : Nat → Int32), ((rc_I p1 ∧ nn = 1 ∧ b9 0 = p1) ∨ (¬ rc_I p1 ∧ nn = 0)) → (rc_I p1 → r1 = 1) → (¬ rc_I p1 → r1 = -1) → rc_Find (FIN r1) p2 p3 (v1, v2, v3, v4, nI nn, v6, v7, v8, v9, a1, a2, a3, a4, a5, a6, a7, a8, b9, a10, a11, a12, a13, a14, a15, a16, a17, a18, a19) := by
    intro nn r1 b9 hn e1 e2
    have hnn : nn ≤ 1 := by rcases hn with h | h <;> omega
    have hn' : (rc_I p1 ∧ nn = 1) ∨ (¬ rc_I p1 ∧ nn = 0) := by
      rcases hn with h | h
      · exact Or.inl ⟨h.1, h.2.1⟩
      · exact Or.inr h
    by_cases hh : rc_Hit (nI k) p1 p3
    · obtain ⟨hi, hcd, hf⟩ := hh
      have hh : rc_Hit (nI k) p1 p3 := ⟨hi, hcd, hf⟩
      rcases hn with ⟨_, rfl, h9⟩ | ⟨h, _⟩
      · rw [show p3 = nI 0 from hf]
        refine rc_t_hit (by omega) hnn hL h3 (hcd.trans h9.symm) (fun g hg e => ?_) (fun hg => ?_)
        · exact HF _ _ _ e1 e2 (fun _ => rfl) (fun z => absurd hh z) (fun _ _ => hN g hg e) (fun z => absurd ⟨hh, e ▸ rc_I_nI hg⟩ z)
        · exact HF _ _ _ e1 e2 (fun _ => rfl) (fun z => absurd hh z) (fun _ z => absurd z hg) (fun _ => rfl)
      · exact absurd hi h
    · have fin : FIN r1 (-4) (-4) := HF _ _ _ e1 e2 (fun z => absurd z hh) (fun _ => rfl) (fun z => absurd z hh) (fun _ => rfl)
      by_cases hp : p3 < 0 ∨ ¬ p3 ≤ nI nn
      · exact rc_t_off hp fin
      · obtain ⟨p, hpn, e⟩ := rc_on hnn (fun z => hp (Or.inl z)) (Decidable.byContradiction (fun z => hp (Or.inr z)))
        rw [e]
        refine rc_t_miss hpn hnn hL h3 (fun i hi hin z => ?_) fin
        rcases hn with ⟨h, rfl, h9⟩ | ⟨_, rfl⟩
        · have e0 : i = 0 := by omega
          have ep : p = 0 := by omega
          subst e0 ep
          exact hh ⟨h, z.trans h9, e⟩
        · omega
  exact rc_feed (fun h => key 0 _ a9 (Or.inr ⟨h, rfl⟩) (fun z => absurd z h) (fun _ => rfl)) (fun h b9 h9 => key 1 _ b9 (Or.inl ⟨h, rfl, h9⟩) (fun _ => rfl) (fun z => absurd h z))
end
section
/-! making the pattern: letter, group, define -/
theorem rc_emit {post : St2 → Prop} {v1 v2 v4 v5 v6 v7 v8 v9 : Int32} {a1 a2 a3 a4 a5 a6 a7 a8 a9 a10 a11 a12 a13 a14 a15 a16 a17 a18 a19 : Nat → Int32} {l : Nat} {p0 p1 p2 : Int32} (hl : l < 64) (H : post (v1, v2, nI (l + 1), v4, v5, v6, v7, v8, v9, a1, a2, upd a3 l p0, upd a4 l p1, upd a5 l p2, a6, a7, a8, a9, a10, a11, a12, a13, a14, a15, a16, a17, a18, a19)) : wpX_emit post (v1, v2, nI l, v4, v5, v6, v7, v8, v9, a1, a2, a3, a4, a5, a6, a7, a8, a9, a10, a11, a12, a13, a14, a15, a16, a17, a18, a19) p0 p1 p2 := by
  unfold wpX_emit
  exact ⟨pk_in l 64 hl, nm_r (congrArg (fun k => upd a3 k p0) (nI_clamp (by omega))) ⟨pk_in l 64 hl, nm_r (congrArg (fun k => upd a4 k p1) (nI_clamp (by omega))) ⟨pk_in l 64 hl, nm_r (congrArg (fun k => upd a5 k p2) (nI_clamp (by omega))) (nm_r (nI_1 l) H)⟩⟩⟩
theorem rc_put0 {post : St2 → Prop} {v1 v2 v3 v4 v5 v6 v7 v8 v9 : Int32} {a1 a2 a3 a4 a5 a6 a7 a8 a9 a10 a11 a12 a13 a14 a15 a16 a17 a18 a19 : Nat → Int32} {p1 p2 p3 : Int32} (H : post (v1, v2, v3, v4, v5, v6, v7, v8, v9, a1, a2, upd a3 0 p1, upd a4 0 p2, upd a5 0 p3, a6, a7, a8, a9, a10, a11, a12, a13, a14, a15, a16, a17, a18, a19)) : wpX_put post (v1, v2, v3, v4, v5, v6, v7, v8, v9, a1, a2, a3, a4, a5, a6, a7, a8, a9, a10, a11, a12, a13, a14, a15, a16, a17, a18, a19) 0 p1 p2 p3 := by
  unfold wpX_put
  exact ⟨pk_in 0 64 (by omega), nm_r (congrArg (fun k => upd a3 k p1) sb_cl0) ⟨pk_in 0 64 (by omega), nm_r (congrArg (fun k => upd a4 k p2) sb_cl0) ⟨pk_in 0 64 (by omega), nm_r (congrArg (fun k => upd a5 k p3) sb_cl0) H⟩⟩⟩
theorem rc_mv (a : Nat → Int32) : upd a ((0 : Int32) + 1).toNatClampNeg (a (0 : Int32).toNatClampNeg) = upd a 1 (a 0) := by
  rw [show ((0 : Int32) + 1).toNatClampNeg = 1 by decide, sb_cl0]
theorem rc_room {post : St2 → Prop} {v1 v2 v4 v5 v6 v7 v8 v9 : Int32} {a1 a2 a3 a4 a5 a6 a7 a8 a9 a10 a11 a12 a13 a14 a15 a16 a17 a18 a19 : Nat → Int32} (H : post (v1, v2, nI 2, v4, v5, v6, v7, v8, v9, a1, a2, upd a3 1 (a3 0), upd a4 1 (a4 0), upd a5 1 (a5 0), a6, a7, a8, a9, a10, a11, a12, a13, a14, a15, a16, a17, a18, a19)) : wpX_open post (v1, v2, nI 1, v4, v5, v6, v7, v8, v9, a1, a2, a3, a4, a5, a6, a7, a8, a9, a10, a11, a12, a13, a14, a15, a16, a17, a18, a19) 0 1 := by
  unfold wpX_open
  refine nm_r (show nI 1 - 1 = 0 by decide) ⟨2, br_f (by decide) ⟨pk_in 0 64 (by omega), pk_in 1 64 (by omega), nm_r (rc_mv a3) ⟨pk_in 0 64 (by omega), pk_in 1 64 (by omega), nm_r (rc_mv a4) ⟨pk_in 0 64 (by omega), pk_in 1 64 (by omega), nm_r (rc_mv a5) (nm_r (show (0 : Int32) + (-1) = -1 by decide) (br_t (by decide) (nm_r (show nI 1 + 1 = nI 2 by decide) H)))⟩⟩⟩⟩
theorem rc_letter_out {post : Int32 → St2 → Prop} {v1 v2 v3 v4 v5 v6 v7 v8 v9 : Int32} {a1 a2 a3 a4 a5 a6 a7 a8 a9 a10 a11 a12 a13 a14 a15 a16 a17 a18 a19 : Nat → Int32} {p0 : Int32} (h : ¬ rc_I p0) (H : post (-1) (v1, v2, v3, v4, v5, v6, v7, v8, v9, a1, a2, a3, a4, a5, a6, a7, a8, a9, a10, a11, a12, a13, a14, a15, a16, a17, a18, a19)) : wpX_letter post (v1, v2, v3, v4, v5, v6, v7, v8, v9, a1, a2, a3, a4, a5, a6, a7, a8, a9, a10, a11, a12, a13, a14, a15, a16, a17, a18, a19) p0 := by
  unfold wpX_letter
  exact br_c (fun _ => H) (fun z => br_c (fun w => absurd ⟨z, Int32.not_lt.mpr w⟩ h) (fun _ => H))
theorem rc_letter_in {post : Int32 → St2 → Prop} {v4 v5 v6 v7 v8 v9 : Int32} {a1 a2 a3 a4 a5 a6 a7 a8 a9 a10 a11 a12 a13 a14 a15 a16 a17 a18 a19 : Nat → Int32} {p0 : Int32} (h : rc_I p0) (H : ∀ b1 b2 b3 b4 b5, b1 0 = 0 → b2 0 = 0 → b3 0 = 0 → b4 0 = p0 → post 1 (1, 1, nI 1, v4, v5, v6, v7, v8, v9, b1, b2, b3, b4, b5, a6, a7, a8, a9, a10, a11, a12, a13, a14, a15, a16, a17, a18, a19)) : wpX_letter post (0, 0, 0, v4, v5, v6, v7, v8, v9, a1, a2, a3, a4, a5, a6, a7, a8, a9, a10, a11, a12, a13, a14, a15, a16, a17, a18, a19) p0 := by
  unfold wpX_letter
  refine br_f h.1 (br_t (Int32.not_lt.mp h.2) ?_)
  unfold wpX_leaf
  refine br_f (by decide) (br_f (by decide) ⟨pk_in 0 6 (by omega), nm_r (congrArg (fun k => upd a1 k 0) sb_cl0) ⟨pk_in 0 6 (by omega), nm_r (congrArg (fun k => upd a2 k 0) sb_cl0) (nm_r (show (0 : Int32) + 1 = 1 by decide) (nm_r (show (0 : Int32) + 1 = 1 by decide) (br_t rfl ?_)))⟩⟩)
  unfold wX_leaf_73
  refine br_f (by decide) ?_
  unfold wX_leaf_85
  exact rc_emit (l := 0) (by omega) (H _ _ _ _ _ pk_us pk_us pk_us pk_us)
theorem rc_group_out {post : Int32 → St2 → Prop} {v1 v2 v3 v4 v5 v6 v7 v8 v9 : Int32} {a1 a2 a3 a4 a5 a6 a7 a8 a9 a10 a11 a12 a13 a14 a15 a16 a17 a18 a19 : Nat → Int32} {p0 : Int32} (h : ¬ rc_I p0) (H : post (-1) (v1, v2, v3, v4, v5, v6, v7, v8, v9, a1, a2, a3, a4, a5, a6, a7, a8, a9, a10, a11, a12, a13, a14, a15, a16, a17, a18, a19)) : wpX_group post (v1, v2, v3, v4, v5, v6, v7, v8, v9, a1, a2, a3, a4, a5, a6, a7, a8, a9, a10, a11, a12, a13, a14, a15, a16, a17, a18, a19) p0 := by
  unfold wpX_group
  exact br_c (fun _ => H) (fun z => br_c (fun w => absurd ⟨z, Int32.not_lt.mpr w⟩ h) (fun _ => H))
theorem rc_group_few {post : Int32 → St2 → Prop} {v3 v4 v5 v6 v7 v8 v9 : Int32} {a1 a2 a3 a4 a5 a6 a7 a8 a9 a10 a11 a12 a13 a14 a15 a16 a17 a18 a19 : Nat → Int32} {p0 : Int32} (h : rc_I p0) (H : post (-3) (0, 0, v3, v4, v5, v6, v7, v8, v9, a1, a2, a3, a4, a5, a6, a7, a8, a9, a10, a11, a12, a13, a14, a15, a16, a17, a18, a19)) : wpX_group post (0, 0, v3, v4, v5, v6, v7, v8, v9, a1, a2, a3, a4, a5, a6, a7, a8, a9, a10, a11, a12, a13, a14, a15, a16, a17, a18, a19) p0 := by
  unfold wpX_group
  exact br_f h.1 (br_t (Int32.not_lt.mp h.2) (br_f (by decide) (br_f (by decide) (br_f (by decide) H))))
theorem rc_group_in {post : Int32 → St2 → Prop} {v4 v5 v6 v7 v8 v9 : Int32} {a1 a2 a3 a4 a5 a6 a7 a8 a9 a10 a11 a12 a13 a14 a15 a16 a17 a18 a19 : Nat → Int32} {p0 : Int32} (h : rc_I p0) (h1 : a1 0 = 0) (h2 : a2 0 = 0)
    (H : ∀ b2 b3 b4 b5, b3 0 = 3 → b3 1 = a3 0 → b3 2 = 3 → b4 0 = 3 + p0 → b4 1 = a4 0 → b4 2 = p0 → post 1 (1, 2, nI 3, v4, v5, v6, v7, v8, v9, a1, b2, b3, b4, b5, a6, a7, a8, a9, a10, a11, a12, a13, a14, a15, a16, a17, a18, a19)) : wpX_group post (1, 1, nI 1, v4, v5, v6, v7, v8, v9, a1, a2, a3, a4, a5, a6, a7, a8, a9, a10, a11, a12, a13, a14, a15, a16, a17, a18, a19) p0 := by
  unfold wpX_group
  have e1 : (1 : Int32) - 1 = nI 0 := by decide
  have c1 : ((1 : Int32) - 1).toNatClampNeg = 0 := by decide
  have hb : ¬ ((a2 ((1 : Int32) - 1).toNatClampNeg) >>> (p0 &&& 31)) &&& 1 = 1 := by
    obtain ⟨k, hk, rfl⟩ := rc_I_of h
    rw [c1, h2]
    have : k = 0 ∨ k = 1 ∨ k = 2 := by omega
    rcases this with rfl | rfl | rfl <;> decide
  refine br_f h.1 (br_t (Int32.not_lt.mp h.2) (br_f (by decide) (br_t (by decide) (br_t (by decide) ⟨pk_in 0 6 (by omega) e1, br_f hb ⟨pk_in 0 6 (by omega) e1, pk_in 0 6 (by omega) e1, nm_e ⟨pk_in 0 6 (by omega) e1, nm_r (show a1 ((1 : Int32) - 1).toNatClampNeg = 0 by rw [c1, h1]) ?_⟩⟩⟩))))
  refine rc_room (rc_put0 (rc_emit (l := 2) (by omega) (nm_r (show (1 : Int32) + 1 = 2 by decide) (H _ _ _ _ ?_ ?_ ?_ ?_ ?_ ?_))))
  · rw [pk_un (by omega), pk_us]
  · rw [pk_un (by omega), pk_un (by omega), pk_us]
  · rw [pk_us]
  · rw [pk_un (by omega), pk_us]
  · rw [pk_un (by omega), pk_un (by omega), pk_us]
  · rw [pk_us]
theorem rc_define_few {post : Int32 → St2 → Prop} {v2 v3 v4 v5 v6 v7 v8 v9 : Int32} {a1 a2 a3 a4 a5 a6 a7 a8 a9 a10 a11 a12 a13 a14 a15 a16 a17 a18 a19 : Nat → Int32} (H : post (-3) (0, v2, v3, v4, v5, v6, v7, v8, v9, a1, a2, a3, a4, a5, a6, a7, a8, a9, a10, a11, a12, a13, a14, a15, a16, a17, a18, a19)) : wpX_define post (0, v2, v3, v4, v5, v6, v7, v8, v9, a1, a2, a3, a4, a5, a6, a7, a8, a9, a10, a11, a12, a13, a14, a15, a16, a17, a18, a19) := by
  unfold wpX_define
  exact br_t rfl H
theorem rc_define29 {post : Int32 → St2 → Prop} {v2 v5 v6 v7 v8 v9 : Int32} {a1 a2 a3 a4 a5 a6 a7 a8 a9 a10 a11 a12 a13 a14 a15 a16 a17 a18 a19 : Nat → Int32} {l : Nat} (hl : l < 60) (H : ∀ b6 b7 b8, (∀ j, j < l → b6 j = a3 j) → (∀ j, j < l → b7 j = a4 j) → b6 l = 4 → post 1 (0, 0, 0, nI (l + 1), v5, v6, v7, v8, v9, a1, a2, a3, a4, a5, b6, b7, b8, a9, a10, a11, a12, a13, a14, a15, a16, a17, a18, a19)) :
    ∃ n, wX_define_29 post 1 v2 (nI l) v5 v6 v7 v8 v9 n 0 0 a1 a2 a3 a4 a5 a6 a7 a8 a9 a10 a11 a12 a13 a14 a15 a16 a17 a18 a19 :=
  pk_loop (σ := (Nat → Int32) × (Nat → Int32) × (Nat → Int32)) (fun n i s => wX_define_29 post 1 v2 (nI l) v5 v6 v7 v8 v9 n (nI i) (nI i) a1 a2 a3 a4 a5 s.1 s.2.1 s.2.2 a9 a10 a11 a12 a13 a14 a15 a16 a17 a18 a19) (fun i s => (∀ j, j < i → s.1 j = a3 j) ∧ (∀ j, j < i → s.2.1 j = a4 j)) l 0 (a6, a7, a8) (by omega) ⟨rc_none, rc_none⟩
    (fun n s h => pk_le l l (fun _ => ⟨pk_in l 64 (by omega), nm_r (congrArg (fun k => upd s.1 k 4) (nI_clamp (by omega))) (nm_r (nI_1 l) (H _ _ _ (fun j hj => (pk_un (by omega)).trans (h.1 j hj)) h.2 pk_us))⟩) (fun z => absurd z (by omega)))
    (fun n i s hi h hw => pk_le l i (fun z => absurd z (by omega)) (fun _ => ⟨pk_in i 64 (by omega), pk_in i 64 (by omega), nm_e ⟨pk_in i 64 (by omega), pk_in i 64 (by omega), nm_e ⟨pk_in i 64 (by omega), pk_in i 64 (by omega), nm_e (nm_r (nI_1 i) (nm_r (nI_1 i) (hw (_, _, _) ⟨rc_fill (nI_clamp (by omega)) h.1 (rc_cl a3 (by omega)), rc_fill (nI_clamp (by omega)) h.2 (rc_cl a4 (by omega))⟩)))⟩⟩⟩))
theorem rc_define {post : Int32 → St2 → Prop} {v2 v4 v5 v6 v7 v8 v9 : Int32} {a1 a2 a3 a4 a5 a6 a7 a8 a9 a10 a11 a12 a13 a14 a15 a16 a17 a18 a19 : Nat → Int32} {l : Nat} (hl : l < 60) (h1 : a1 0 = 0) (H : ∀ b6 b7 b8, (∀ j, j < l → b6 j = a3 j) → (∀ j, j < l → b7 j = a4 j) → b6 l = 4 → post 1 (0, 0, 0, nI (l + 1), v5, v6, v7, v8, v9, a1, a2, a3, a4, a5, b6, b7, b8, a9, a10, a11, a12, a13, a14, a15, a16, a17, a18, a19)) : wpX_define post (1, v2, nI l, v4, v5, v6, v7, v8, v9, a1, a2, a3, a4, a5, a6, a7, a8, a9, a10, a11, a12, a13, a14, a15, a16, a17, a18, a19) := by
  unfold wpX_define
  exact br_f (by decide) ⟨pk_in 0 6 (by omega) (by decide), nm_r (show a1 ((1 : Int32) - 1).toNatClampNeg = 0 by rw [show ((1 : Int32) - 1).toNatClampNeg = 0 by decide, h1]) (rc_define29 hl H)⟩
/-! what each of the law's six answers is, and the walk up to them -/
def rc_Ans (p0 p1 p2 p3 r1 r2 r3 r4 r5 r6 : Int32) : Prop :=
  ((rc_I p0 → r1 = 1) ∧ (¬ rc_I p0 → r1 = -1)) ∧ ((¬ rc_I p2 → r2 = -1) ∧ (rc_I p2 → rc_I p0 → r2 = 1) ∧ (rc_I p2 → ¬ rc_I p0 → r2 = -3)) ∧ ((rc_I p0 → r3 = 1) ∧ (¬ rc_I p0 → r3 = -3)) ∧ ((rc_I p1 → r4 = 1) ∧ (¬ rc_I p1 → r4 = -1)) ∧
    ((¬ rc_I p0 → rc_Pl p1 p3 → r5 = p3) ∧ (¬ rc_I p0 → ¬ rc_Pl p1 p3 → r5 = -4) ∧ (rc_I p0 → rc_Hit p0 p1 p3 → r5 = 0) ∧ (rc_I p0 → ¬ rc_Hit p0 p1 p3 → r5 = -4)) ∧ ((rc_I p0 → rc_Hit p0 p1 p3 → rc_I p2 → r6 = 1) ∧ (¬ (rc_I p0 ∧ rc_Hit p0 p1 p3 ∧ rc_I p2) → r6 = -4))
def rc_Def (FIN : Int32 → Int32 → Int32 → Int32 → Prop) (p1 p2 p3 : Int32) (u : St2) : Prop := ∀ ψ : Int32 → St2 → Prop, (∀ r u', rc_Feed (FIN r) p1 p2 p3 u' → ψ r u') → wpX_define ψ u
def rc_Gro (FIN : Int32 → Int32 → Int32 → Int32 → Int32 → Prop) (p1 p2 p3 : Int32) (u : St2) : Prop := ∀ ψ : Int32 → St2 → Prop, (∀ r u', rc_Def (FIN r) p1 p2 p3 u' → ψ r u') → wpX_group ψ u p2
def rc_Let (FIN : Int32 → Int32 → Int32 → Int32 → Int32 → Int32 → Prop) (p0 p1 p2 p3 : Int32) (u : St2) : Prop := ∀ ψ : Int32 → St2 → Prop, (∀ r u', rc_Gro (FIN r) p1 p2 p3 u' → ψ r u') → wpX_letter ψ u p0
/-- c out of range: the program stays DONE -/
theorem rc_frontA {FIN : Int32 → Int32 → Int32 → Int32 → Int32 → Int32 → Prop} {v4 v6 v7 v8 v9 : Int32} {a1 a2 a3 a4 a5 a6 a7 a8 a9 a10 a11 a12 a13 a14 a15 a16 a17 a18 a19 : Nat → Int32} {p0 p1 p2 p3 : Int32} (h6 : a6 0 = 4) (hc : ¬ rc_I p0) (HF : ∀ r1 r2 r3 r4 r5 r6, rc_Ans p0 p1 p2 p3 r1 r2 r3 r4 r5 r6 → FIN r1 r2 r3 r4 r5 r6) : rc_Let FIN p0 p1 p2 p3 (0, 0, 0, v4, 0, v6, v7, v8, v9, a1, a2, a3, a4, a5, a6, a7, a8, a9, a10, a11, a12, a13, a14, a15, a16, a17, a18, a19) := by
  have key : ∀ r2, (¬ rc_I p2 → r2 = -1) → (rc_I p2 → r2 = -3) → rc_Def (FIN (-1) r2) p1 p2 p3 (0, 0, 0, v4, 0, v6, v7, v8, v9, a1, a2, a3, a4, a5, a6, a7, a8, a9, a10, a11, a12, a13, a14, a15, a16, a17, a18, a19) := fun r2 e1 e2 ψ hψ =>
    rc_define_few (hψ _ _ (rc_backA h6 (fun r4 r5 r6 k1 k2 k3 k4 k5 => HF _ _ _ _ _ _ ⟨⟨fun z => absurd z hc, fun _ => rfl⟩, ⟨e1, fun _ z => absurd z hc, fun z _ => e2 z⟩, ⟨fun z => absurd z hc, fun _ => rfl⟩, ⟨k1, k2⟩, ⟨fun _ => k3, fun _ => k4, fun z => absurd z hc, fun z => absurd z hc⟩, ⟨fun z => absurd z hc, fun _ => k5⟩⟩)))
  refine fun ψ hψ => rc_letter_out hc (hψ _ _ (fun ψ2 hψ2 => ?_))
  by_cases hg : rc_I p2
  · exact rc_group_few hg (hψ2 _ _ (key _ (fun z => absurd hg z) (fun _ => rfl)))
  · exact rc_group_out hg (hψ2 _ _ (key _ (fun _ => rfl) (fun z => absurd z hg)))
theorem rc_LP_B {a6 a7 : Nat → Int32} {c : Int32} (h0 : a6 0 = 0) (h1 : a6 1 = 4) (h7 : a7 0 = c) : rc_LP a6 a7 c 0 1 (fun _ _ => -4) (fun _ _ => -4) :=
  ⟨by omega, by omega, h0, h7, h1, fun p => ⟨by omega, Or.inl ⟨rfl, rfl, Or.inl h0⟩⟩, fun p => ⟨by omega, Or.inl ⟨rfl, rfl, Or.inr h1⟩⟩⟩
/-- the notes when the letter is due, and when it is read -/
def rc_N (g p : Nat) : Nat → Int32 := upd (fun _ => -4) (3 + g) (rc_val (3 + g) (fun _ => -4) (nI p))
def rc_M (g p : Nat) : Nat → Int32 := upd (rc_N g p) g (rc_val g (rc_N g p) (nI p + 1))
theorem rc_LP_C {a6 a7 : Nat → Int32} {c : Int32} {g : Nat} (hg : g < 3) (h0 : a6 0 = 3) (h1 : a6 1 = 0) (h2 : a6 2 = 3) (h3 : a6 3 = 4) (k0 : a7 0 = nI (3 + g)) (k1 : a7 1 = c) (k2 : a7 2 = nI g) : rc_LP a6 a7 c 1 3 (rc_N g) (rc_M g) :=
  ⟨by omega, by omega, h1, k1, h3, fun p => ⟨by omega, Or.inr ⟨3 + g, by omega, h0, k0, rfl, Or.inl h1, rfl⟩⟩, fun p => ⟨by omega, Or.inr ⟨g, by omega, h2, k2, rfl, Or.inr h3, rfl⟩⟩⟩
theorem rc_M0 {g : Nat} (hg : g < 3) : rc_M g 0 g = 1 := by
  have : g = 0 ∨ g = 1 ∨ g = 2 := by omega
  rcases this with rfl | rfl | rfl <;> decide
theorem rc_frontL {FIN : Int32 → Int32 → Int32 → Int32 → Int32 → Int32 → Prop} {v4 v6 v7 v8 v9 : Int32} {a1 a2 a3 a4 a5 a6 a7 a8 a9 a10 a11 a12 a13 a14 a15 a16 a17 a18 a19 : Nat → Int32} {p0 p1 p2 p3 : Int32} (hc : rc_I p0) (HF : ∀ r1 r2 r3 r4 r5 r6, rc_Ans p0 p1 p2 p3 r1 r2 r3 r4 r5 r6 → FIN r1 r2 r3 r4 r5 r6) : rc_Let FIN p0 p1 p2 p3 (0, 0, 0, v4, 0, v6, v7, v8, v9, a1, a2, a3, a4, a5, a6, a7, a8, a9, a10, a11, a12, a13, a14, a15, a16, a17, a18, a19) := by
  obtain ⟨k, hk, ek⟩ := rc_I_of hc
  refine fun ψ hψ => rc_letter_in hc (fun b1 b2 b3 b4 b5 q1 q2 q3 q4 => hψ _ _ (fun ψ2 hψ2 => ?_))
  by_cases hg : rc_I p2
  · obtain ⟨g, hg3, eg⟩ := rc_I_of hg
    refine rc_group_in hg q1 q2 (fun c2 c3 c4 c5 s0 s1 s2 t0 t1 t2 => hψ2 _ _ (fun ψ3 hψ3 => rc_define (l := 3) (by omega) q1 (fun b6 b7 b8 m6 m7 m4 => hψ3 _ _ ?_)))
    have hL : rc_LP b6 b7 (nI k) 1 3 (rc_N g) (rc_M g) := by
      refine rc_LP_C hg3 ((m6 0 (by omega)).trans s0) ((m6 1 (by omega)).trans (s1.trans q3)) ((m6 2 (by omega)).trans s2) m4 ((m7 0 (by omega)).trans (t0.trans ?_)) ((m7 1 (by omega)).trans (t1.trans (q4.trans ek))) ((m7 2 (by omega)).trans (t2.trans eg))
      rw [eg]
      exact nI_add 3 g
    refine rc_backL hk hL (fun g' hg' e => ?_) (fun r4 r5 r6 k1 k2 k3 k4 k5 k6 => HF _ _ _ _ _ _ ?_)
    · have : g' = g := (nI_eq (by omega) (by omega)).mp (e.symm.trans eg)
      rw [this]
      exact rc_M0 hg3
    · rw [← ek] at k3 k4 k5 k6
      exact ⟨⟨fun _ => rfl, fun z => absurd hc z⟩, ⟨fun z => absurd hg z, fun _ _ => rfl, fun _ z => absurd hc z⟩, ⟨fun _ => rfl, fun z => absurd hc z⟩, ⟨k1, k2⟩, ⟨fun z => absurd hc z, fun z => absurd hc z, fun _ => k3, fun _ => k4⟩, ⟨fun _ => k5, fun z => k6 (fun w => z ⟨hc, w⟩)⟩⟩
  · refine rc_group_out hg (hψ2 _ _ (fun ψ3 hψ3 => rc_define (l := 1) (by omega) q1 (fun b6 b7 b8 m6 m7 m4 => hψ3 _ _ ?_)))
    have hL : rc_LP b6 b7 (nI k) 0 1 (fun _ _ => -4) (fun _ _ => -4) := rc_LP_B ((m6 0 (by omega)).trans q3) m4 ((m7 0 (by omega)).trans (q4.trans ek))
    refine rc_backL hk hL (fun g' hg' e => absurd (e ▸ rc_I_nI hg') hg) (fun r4 r5 r6 k1 k2 k3 k4 k5 k6 => HF _ _ _ _ _ _ ?_)
    rw [← ek] at k3 k4 k5 k6
    exact ⟨⟨fun _ => rfl, fun z => absurd hc z⟩, ⟨fun _ => rfl, fun z => absurd z hg, fun z => absurd z hg⟩, ⟨fun _ => rfl, fun z => absurd hc z⟩, ⟨k1, k2⟩, ⟨fun z => absurd hc z, fun z => absurd hc z, fun _ => k3, fun _ => k4⟩, ⟨fun _ => k5, fun z => k6 (fun w => z ⟨hc, w⟩)⟩⟩
end
section
/-! the law's own checks -/
def rc_Fl (P : Prop) (x : Int32) : Prop := (x = 0 → ¬ P) ∧ (¬ x = 0 → P)
theorem rc_Fl0 {P : Prop} (h : ¬ P) : rc_Fl P 0 := ⟨fun _ => h, fun z => absurd rfl z⟩
theorem rc_Fl1 {P : Prop} (h : P) : rc_Fl P 1 := ⟨fun z => absurd z (by decide), fun _ => h⟩
theorem rc_e259 {post : Int32 → St0 → Prop} {mc ms kc ks : Nat} {p0 p1 p2 p3 r6 x13 x15 z0 z1 : Int32} (hp : post 1 ()) (f13 : rc_Fl (rc_I p2) x13) (f15 : rc_Fl (rc_I p0 ∧ rc_Hit p0 p1 p3) x15) (ka : rc_I p0 → rc_Hit p0 p1 p3 → rc_I p2 → r6 = 1) (kb : ¬ (rc_I p0 ∧ rc_Hit p0 p1 p3 ∧ rc_I p2) → r6 = -4) (h : z1 = z0) : wL_lawOf_259 post mc ms r6 x13 x15 z0 z1 kc ks :=
  br_t h (br_c (fun z => br_t (kb (fun t => f15.1 z ⟨t.1, t.2.1⟩)) hp) (fun z => br_c (fun w => br_t (kb (fun t => f13.1 w t.2.2)) hp) (fun w => br_t (ka (f15.2 z).1 (f15.2 z).2 (f13.2 w)) hp)))
theorem rc_e154 {post : Int32 → St0 → Prop} {mc ms kc ks : Nat} {p0 p1 p2 p3 r1 r2 r3 r4 r5 r6 x11 x12 x13 x14 x15 : Int32} (hp : post 1 ()) (f11 : rc_Fl (rc_I p0) x11) (f12 : rc_Fl (rc_I p1) x12) (f13 : rc_Fl (rc_I p2) x13) (f14 : rc_Fl (rc_Pl p1 p3) x14) (f15 : rc_Fl (rc_I p0 ∧ rc_Hit p0 p1 p3) x15) (A : rc_Ans p0 p1 p2 p3 r1 r2 r3 r4 r5 r6) :
    wL_lawOf_154 post mc ms p3 r1 r2 r3 r4 r5 r6 x11 x12 x13 x14 x15 kc ks := by
  obtain ⟨⟨k1, k1'⟩, ⟨k2, k2', k2''⟩, ⟨k3, k3'⟩, ⟨k4, k4'⟩, ⟨k5a, k5b, k5c, k5d⟩, ⟨k6a, k6b⟩⟩ := A
  have e259 : ∀ z0, r5 = z0 → wL_lawOf_259 post mc ms r6 x13 x15 z0 r5 kc ks := fun z0 h => rc_e259 hp f13 f15 k6a k6b h
  have e224 : ∀ z0, r4 = z0 → wL_lawOf_224 post mc ms p3 r5 r6 x11 x13 x14 x15 z0 r4 kc ks := fun z0 h =>
    br_t h (br_c (fun z => br_c (fun w => e259 _ (k5b (f11.1 z) (f14.1 w))) (fun w => e259 _ (k5a (f11.1 z) (f14.2 w)))) (fun z => br_c (fun w => e259 _ (k5d (f11.2 z) (fun t => f15.1 w ⟨f11.2 z, t⟩))) (fun w => e259 _ (k5c (f11.2 z) (f15.2 w).2))))
  have e209 : ∀ z0, r3 = z0 → wL_lawOf_209 post mc ms p3 r4 r5 r6 x11 x12 x13 x14 x15 z0 r3 kc ks := fun z0 h =>
    br_t h (br_c (fun z => e224 _ (k4' (f12.1 z))) (fun z => e224 _ (k4 (f12.2 z))))
  have e193 : ∀ z0, r2 = z0 → wL_lawOf_193 post mc ms p3 r3 r4 r5 r6 x11 x12 x13 x14 x15 z0 r2 kc ks := fun z0 h =>
    br_t h (br_c (fun z => e209 _ (k3' (f11.1 z))) (fun z => e209 _ (k3 (f11.2 z))))
  have e168 : ∀ z0, r1 = z0 → wL_lawOf_168 post mc ms p3 r2 r3 r4 r5 r6 x11 x12 x13 x14 x15 z0 r1 kc ks := fun z0 h =>
    br_t h (br_c (fun z => e193 _ (k2 (f13.1 z))) (fun z => br_c (fun w => e193 _ (k2'' (f13.2 z) (f11.1 w))) (fun w => e193 _ (k2' (f13.2 z) (f11.2 w)))))
  exact br_c (fun z => e168 _ (k1' (f11.1 z))) (fun z => e168 _ (k1 (f11.2 z)))
theorem rc_e128 {post : Int32 → St0 → Prop} {mc ms kc ks : Nat} {p0 p1 p2 p3 r1 r2 r3 r4 r5 r6 x11 x12 x13 x14 : Int32} (hp : post 1 ()) (f11 : rc_Fl (rc_I p0) x11) (f12 : rc_Fl (rc_I p1) x12) (f13 : rc_Fl (rc_I p2) x13) (f14 : rc_Fl (rc_Pl p1 p3) x14) (A : rc_Ans p0 p1 p2 p3 r1 r2 r3 r4 r5 r6) :
    wL_lawOf_128 post mc ms p0 p1 p3 r1 r2 r3 r4 r5 r6 x11 x12 x13 x14 kc ks := by
  have no : ¬ (rc_I p0 ∧ rc_Hit p0 p1 p3) → wL_lawOf_153 post mc ms p3 r1 r2 r3 r4 r5 r6 x11 x12 x13 x14 kc ks := fun h => rc_e154 hp f11 f12 f13 f14 (rc_Fl0 h) A
  exact br_c (fun z => no (fun t => f11.1 z t.1)) (fun z11 => br_c (fun z => no (fun t => f12.1 z t.2.1)) (fun z12 => br_c (fun e => br_c (fun e3 => rc_e154 hp f11 f12 f13 f14 (rc_Fl1 ⟨f11.2 z11, f12.2 z12, e, e3⟩) A) (fun z => no (fun t => z t.2.2.2))) (fun z => no (fun t => z t.2.2.1))))
theorem rc_e103 {post : Int32 → St0 → Prop} {mc ms kc ks : Nat} {p0 p1 p2 p3 r1 r2 r3 r4 r5 r6 x11 x12 x13 : Int32} (hp : post 1 ()) (f11 : rc_Fl (rc_I p0) x11) (f12 : rc_Fl (rc_I p1) x12) (f13 : rc_Fl (rc_I p2) x13) (A : rc_Ans p0 p1 p2 p3 r1 r2 r3 r4 r5 r6) :
    wL_lawOf_103 post mc ms p0 p1 p3 r1 r2 r3 r4 r5 r6 x11 x12 x13 kc ks := by
  have no : ¬ rc_Pl p1 p3 → wL_lawOf_127 post mc ms p0 p1 p3 r1 r2 r3 r4 r5 r6 x11 x12 x13 kc ks := fun h => rc_e128 hp f11 f12 f13 (rc_Fl0 h) A
  have ok : rc_Pl p1 p3 → wL_lawOf_128 post mc ms p0 p1 p3 r1 r2 r3 r4 r5 r6 x11 x12 x13 1 kc ks := fun h => rc_e128 hp f11 f12 f13 (rc_Fl1 h) A
  exact br_c (fun z => no (fun t => t.1 z)) (fun z => br_c (fun w => br_c (fun e => no (fun t => Int32.not_lt.mpr (t.2.2 (f12.1 w)) e)) (fun e => ok ⟨z, fun t => absurd t (f12.1 w), fun _ => Int32.not_lt.mp e⟩)) (fun w => br_c (fun e => no (fun t => Int32.not_lt.mpr (t.2.1 (f12.2 w)) e)) (fun e => ok ⟨z, fun _ => Int32.not_lt.mp e, fun t => absurd (f12.2 w) t⟩)))
theorem rc_br {A0 A1 : Prop} (x : Int32) (h1 : rc_I x → A1) (h0 : ¬ rc_I x → A0) : (x < 0 → A0) ∧ (¬ x < 0 → ((2 < x → A0) ∧ (¬ 2 < x → A1))) :=
  br_c (fun z => h0 (fun t => t.1 z)) (fun z => br_c (fun w => h0 (fun t => t.2 w)) (fun w => h1 ⟨z, w⟩))
theorem rc_e71 {post : Int32 → St0 → Prop} {mc ms kc ks : Nat} {p0 p1 p2 p3 r1 r2 r3 r4 r5 r6 x11 : Int32} (hp : post 1 ()) (f11 : rc_Fl (rc_I p0) x11) (A : rc_Ans p0 p1 p2 p3 r1 r2 r3 r4 r5 r6) : wL_lawOf_71 post mc ms p0 p1 p2 p3 r1 r2 r3 r4 r5 r6 x11 kc ks := by
  have e87 : ∀ x12, rc_Fl (rc_I p1) x12 → wL_lawOf_87 post mc ms p0 p1 p2 p3 r1 r2 r3 r4 r5 r6 x11 x12 kc ks := fun x12 f12 =>
    rc_br p2 (fun h => rc_e103 hp f11 f12 (rc_Fl1 h) A) (fun h => rc_e103 hp f11 f12 (rc_Fl0 h) A)
  exact rc_br p1 (fun h => e87 _ (rc_Fl1 h)) (fun h => e87 _ (rc_Fl0 h))
theorem rc_cell {post : Int32 → Prop} {L k : Nat} {xs : Nat → Int32} {u : St0} (hL : L ≤ 4) (hk : k < 4) (H : ∀ x, post x) : wpL_cellAt post L xs u (nI k) :=
  pk_le L k (fun _ => H _) (fun z => ⟨pk_in k L z, H _⟩)
theorem rc_init {post : St2 → Prop} (H : ∀ b6, b6 0 = 4 → post (0, 0, 0, 1, 0, 0, 0, 0, 0, (fun _ => 0), (fun _ => 0), (fun _ => 0), (fun _ => 0), (fun _ => 0), b6, (fun _ => 0), (fun _ => 0), (fun _ => 0), (fun _ => 0), (fun _ => 0), (fun _ => 0), (fun _ => 0), (fun _ => 0), (fun _ => 0), (fun _ => 0), (fun _ => 0), (fun _ => 0), (fun _ => 0))) : wpX_init post 19 7522 (0, 0, 0, 0, 0, 0, 0, 0, 0) := by
  unfold wpX_init
  refine ⟨by omega, by omega, by omega, by omega, by omega, by omega, by omega, by omega, by omega, by omega, by omega, by omega, by omega, by omega, by omega, by omega, by omega, by omega, by omega, by omega, by omega, by omega, by omega, by omega, by omega, by omega, by omega, by omega, by omega, by omega, by omega, by omega, by omega, by omega, by omega, by omega, by omega, by omega, nm_e ?_⟩
  exact H _ pk_us
theorem rc_lawOf (p0 p1 p2 p3 : Int32) : wpL_lawOf (fun r _ => r = 1) 20 7550 () p0 p1 p2 p3 := by
  unfold wpL_lawOf
  refine ⟨by omega, by omega, 19, 7522, by omega, by omega, rc_init (fun b6 h6 => ?_)⟩
  have HF : ∀ r1 r2 r3 r4 r5 r6, rc_Ans p0 p1 p2 p3 r1 r2 r3 r4 r5 r6 → (p0 < 0 → wL_lawOf_70 (fun r _ => r = 1) 20 7550 p0 p1 p2 p3 r1 r2 r3 r4 r5 r6 (1 + 19) (28 + 7522)) ∧ (¬ p0 < 0 → ((2 < p0 → wL_lawOf_70 (fun r _ => r = 1) 20 7550 p0 p1 p2 p3 r1 r2 r3 r4 r5 r6 (1 + 19) (28 + 7522)) ∧ (¬ 2 < p0 → wL_lawOf_71 (fun r _ => r = 1) 20 7550 p0 p1 p2 p3 r1 r2 r3 r4 r5 r6 1 (1 + 19) (28 + 7522)))) :=
    fun r1 r2 r3 r4 r5 r6 A => rc_br p0 (fun h => rc_e71 rfl (rc_Fl1 h) A) (fun h => rc_e71 rfl (rc_Fl0 h) A)
  have K : rc_Let (fun r1 r2 r3 r4 r5 r6 => (p0 < 0 → wL_lawOf_70 (fun r _ => r = 1) 20 7550 p0 p1 p2 p3 r1 r2 r3 r4 r5 r6 (1 + 19) (28 + 7522)) ∧ (¬ p0 < 0 → ((2 < p0 → wL_lawOf_70 (fun r _ => r = 1) 20 7550 p0 p1 p2 p3 r1 r2 r3 r4 r5 r6 (1 + 19) (28 + 7522)) ∧ (¬ 2 < p0 → wL_lawOf_71 (fun r _ => r = 1) 20 7550 p0 p1 p2 p3 r1 r2 r3 r4 r5 r6 1 (1 + 19) (28 + 7522))))) p0 p1 p2 p3 (0, 0, 0, 1, 0, 0, 0, 0, 0, (fun _ => 0), (fun _ => 0), (fun _ => 0), (fun _ => 0), (fun _ => 0), b6, (fun _ => 0), (fun _ => 0), (fun _ => 0), (fun _ => 0), (fun _ => 0), (fun _ => 0), (fun _ => 0), (fun _ => 0), (fun _ => 0), (fun _ => 0), (fun _ => 0), (fun _ => 0), (fun _ => 0)) := by
    by_cases hc : rc_I p0
    · exact rc_frontL hc HF
    · exact rc_frontA h6 hc HF
  refine K _ ?_
  rintro r1 ⟨w1, w2, w3, w4, w5, w6, w7, w8, w9, c1, c2, c3, c4, c5, c6, c7, c8, c9, c10, c11, c12, c13, c14, c15, c16, c17, c18, c19⟩ K1
  refine K1 _ ?_
  rintro r2 ⟨w1, w2, w3, w4, w5, w6, w7, w8, w9, c1, c2, c3, c4, c5, c6, c7, c8, c9, c10, c11, c12, c13, c14, c15, c16, c17, c18, c19⟩ K2
  refine K2 _ ?_
  rintro r3 ⟨w1, w2, w3, w4, w5, w6, w7, w8, w9, c1, c2, c3, c4, c5, c6, c7, c8, c9, c10, c11, c12, c13, c14, c15, c16, c17, c18, c19⟩ K3
  refine K3 _ ?_
  rintro r4 ⟨w1, w2, w3, w4, w5, w6, w7, w8, w9, c1, c2, c3, c4, c5, c6, c7, c8, c9, c10, c11, c12, c13, c14, c15, c16, c17, c18, c19⟩ K4
  refine K4 _ ?_
  rintro r5 ⟨w1, w2, w3, w4, w5, w6, w7, w8, w9, c1, c2, c3, c4, c5, c6, c7, c8, c9, c10, c11, c12, c13, c14, c15, c16, c17, c18, c19⟩ K5
  refine K5 _ ?_
  rintro r6 ⟨w1, w2, w3, w4, w5, w6, w7, w8, w9, c1, c2, c3, c4, c5, c6, c7, c8, c9, c10, c11, c12, c13, c14, c15, c16, c17, c18, c19⟩ K6
  exact K6
theorem i_vc (xs : Nat → Int32) (L : Nat) (hL : L ≤ 4) : wpL_law (fun r => r = 1) L xs := by
  unfold wpL_law
  exact rc_cell (k := 0) hL (by omega) (fun x0 => rc_cell (k := 1) hL (by omega) (fun x1 => rc_cell (k := 2) hL (by omega) (fun x2 => rc_cell (k := 3) hL (by omega) (fun x3 => ⟨20, 7550, by omega, by omega, rc_lawOf x0 x1 x2 x3⟩))))
end
