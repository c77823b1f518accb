section
/-! small facts: places of a replica's rows -/
theorem tl_48 (r i : Nat) : nI r * 48 + nI i = nI (r * 48 + i) := by
  rw [show (48 : Int32) = nI 48 from rfl, pk_mul, nI_add]
theorem tl_8 (r i : Nat) : nI r * 8 + nI i = nI (r * 8 + i) := by
  rw [show (8 : Int32) = nI 8 from rfl, pk_mul, nI_add]
theorem tl_4 (r i : Nat) : nI r * 4 + nI i = nI (r * 4 + i) := by
  rw [show (4 : Int32) = nI 4 from rfl, pk_mul, nI_add]
theorem tl_480 (r : Nat) : nI r * 48 = nI (r * 48) := by
  rw [show (48 : Int32) = nI 48 from rfl, pk_mul]
theorem tl_c (f : Nat → Int32) {x : Int32} {n : Nat} {y : Int32} (hx : x = nI n) (hn : n < 2 ^ 31) (h : f n = y) : f x.toNatClampNeg = y := by
  rw [hx, nI_clamp hn, h]
theorem tl_u {f : Nat → Int32} {x v v' : Int32} {n : Nat} (hx : x = nI n) (hn : n < 2 ^ 31) (hv : v = v') : upd f x.toNatClampNeg v = upd f n v' := by
  rw [hx, nI_clamp hn, hv]
theorem tl_fill {g s : Nat → Int32} {i k : Nat} {x : Int32} (hk : k = i) (h : ∀ j, j < i → s j = g j) (hx : x = g i) : ∀ j, j < i + 1 → upd s k x j = g j := by
  intro j hj
  rw [hk]
  by_cases e : j = i
  · rw [e, pk_us, hx]
  · rw [pk_un e]
    exact h j (by omega)
/-! the carrying out of one write: SET and ADD alone -/
theorem tl_perform {post : Int32 → St2 → Prop} {rp wr : Int32} {a1 a2 a3 a4 a5 a6 a7 a8 a9 a10 a11 a12 a13 a14 a15 a16 a17 a18 a19 a20 a21 a22 a23 a24 : Nat → Int32} {w c : Nat} {y : Int32} (hw : w < 48) (hc : c < 8) (h5 : a5 w = nI c) (h4 : (a4 w = 0 ∧ y = a6 w) ∨ (a4 w = 1 ∧ y = a24 c + a6 w))
    (H : post 2 (rp, wr, a1, a2, a3, a4, a5, a6, a7, a8, a9, a10, a11, a12, a13, a14, a15, a16, a17, a18, a19, a20, a21, a22, a23, upd a24 c y)) : wpX_perform post (rp, wr, a1, a2, a3, a4, a5, a6, a7, a8, a9, a10, a11, a12, a13, a14, a15, a16, a17, a18, a19, a20, a21, a22, a23, a24) (nI w) := by
  unfold wpX_perform
  dsimp only
  rcases h4 with ⟨h4, hy⟩ | ⟨h4, hy⟩
  · exact ⟨pk_in w 48 hw, nm_r (tl_c a5 rfl (by omega) h5) ⟨pk_in w 48 hw, nm_r (tl_c a6 rfl (by omega) rfl) (nm_e ⟨pk_in w 48 hw, nm_r (tl_c a4 rfl (by omega) h4) (br_f (by decide) (br_f (by decide) (br_t rfl ⟨pk_in c 8 hc, nm_r (tl_u rfl (by omega) hy.symm) H⟩)))⟩)⟩⟩
  · exact ⟨pk_in w 48 hw, nm_r (tl_c a5 rfl (by omega) h5) ⟨pk_in w 48 hw, nm_r (tl_c a6 rfl (by omega) rfl) (nm_e ⟨pk_in w 48 hw, nm_r (tl_c a4 rfl (by omega) h4) (br_f (by decide) (br_f (by decide) (br_f (by decide) (br_t rfl ⟨pk_in c 8 hc, pk_in c 8 hc, nm_r (tl_u rfl (by omega) (by rw [nI_clamp (by omega)]; exact hy.symm)) H⟩))))⟩)⟩⟩
theorem tl_perform2 {post : Int32 → St2 → Prop} {rp wr : Int32} {a1 a2 a3 a4 a5 a6 a7 a8 a9 a10 a11 a12 a13 a14 a15 a16 a17 a18 a19 a20 a21 a22 a23 a24 : Nat → Int32} {w c : Nat} {y : Int32} (hw : w < 48) (hc : c < 8) (h5 : a5 w = nI c) (h4 : (a4 w = 0 ∧ y = a6 w) ∨ (a4 w = 1 ∧ y = a24 c + a6 w))
    (H : post 2 (rp, wr, a1, a2, a3, a4, a5, a6, a7, a8, a9, a10, a11, a12, a13, a14, a15, a16, a17, a18, a19, a20, a21, a22, a23, upd a24 c y)) : wpX_perform_2 post (rp, wr, a1, a2, a3, a4, a5, a6, a7, a8, a9, a10, a11, a12, a13, a14, a15, a16, a17, a18, a19, a20, a21, a22, a23, a24) (nI w) := by
  unfold wpX_perform_2
  dsimp only
  rcases h4 with ⟨h4, hy⟩ | ⟨h4, hy⟩
  · exact ⟨pk_in w 48 hw, nm_r (tl_c a5 rfl (by omega) h5) ⟨pk_in w 48 hw, nm_r (tl_c a6 rfl (by omega) rfl) (nm_e ⟨pk_in w 48 hw, nm_r (tl_c a4 rfl (by omega) h4) (br_f (by decide) (br_f (by decide) (br_t rfl ⟨pk_in c 8 hc, nm_r (tl_u rfl (by omega) hy.symm) H⟩)))⟩)⟩⟩
  · exact ⟨pk_in w 48 hw, nm_r (tl_c a5 rfl (by omega) h5) ⟨pk_in w 48 hw, nm_r (tl_c a6 rfl (by omega) rfl) (nm_e ⟨pk_in w 48 hw, nm_r (tl_c a4 rfl (by omega) h4) (br_f (by decide) (br_f (by decide) (br_f (by decide) (br_t rfl ⟨pk_in c 8 hc, pk_in c 8 hc, nm_r (tl_u rfl (by omega) (by rw [nI_clamp (by omega)]; exact hy.symm)) H⟩))))⟩)⟩⟩
/-! undoing: nothing is to be undone -/
theorem tl_undo {post : St2 → Prop} {rp wr : Int32} {a1 a2 a3 a4 a5 a6 a7 a8 a9 a10 a11 a12 a13 a14 a15 a16 a17 a18 a19 a20 a21 a22 a23 a24 : Nat → Int32} {r : Nat} {k : Int32} (hr : r < 4) (h : a17 r - 1 < k) (H : post (rp, wr, a1, a2, a3, a4, a5, a6, a7, a8, a9, a10, a11, a12, a13, a14, a15, a16, a17, a18, a19, a20, a21, a22, a23, a24)) : wpX_undoTo post (rp, wr, a1, a2, a3, a4, a5, a6, a7, a8, a9, a10, a11, a12, a13, a14, a15, a16, a17, a18, a19, a20, a21, a22, a23, a24) (nI r) k := by
  unfold wpX_undoTo
  dsimp only
  exact ⟨pk_in r 4 hr, nm_r (e' := a17 r - 1) (by rw [nI_clamp (by omega)]) ⟨1, br_t h H⟩⟩
end
section
/-! applyOne -/
theorem tl_ao18 {post : St2 → Prop} {rp wr : Int32} {a1 a2 a3 a4 a5 a6 a7 a8 a9 a10 a11 a12 a13 a14 a15 a16 a17 a18 a19 a20 a21 a22 a23 a24 : Nat → Int32} {x3 x4 : Int32} {r : Nat} (hr : r < 4)
    (H : ∀ n b, (∀ j, j < 8 → b j = a15 (r * 8 + j)) → wX_applyOne_18 post (nI r) x3 x4 rp wr (n + 1) (nI 8) a1 a2 a3 a4 a5 a6 a7 a8 a9 a10 a11 a12 a13 a14 a15 a16 a17 a18 a19 a20 a21 a22 a23 b) :
    ∃ n, wX_applyOne_18 post (nI r) x3 x4 rp wr n 0 a1 a2 a3 a4 a5 a6 a7 a8 a9 a10 a11 a12 a13 a14 a15 a16 a17 a18 a19 a20 a21 a22 a23 a24 :=
  pk_loop (fun n i s => wX_applyOne_18 post (nI r) x3 x4 rp wr n (nI i) a1 a2 a3 a4 a5 a6 a7 a8 a9 a10 a11 a12 a13 a14 a15 a16 a17 a18 a19 a20 a21 a22 a23 s) (fun i s => ∀ j, j < i → s j = a15 (r * 8 + j)) 8 0 a24 (by omega) (fun j hj => absurd hj (by omega))
    (fun n s h => H n s h)
    (fun n i s hi h hw => pk_le 8 i (fun z => absurd z (by omega)) (fun _ => ⟨pk_in (r * 8 + i) 32 (by omega) (tl_8 r i), pk_in i 8 hi, nm_e (nm_r (nI_1 i) (hw _ (tl_fill (g := fun j => a15 (r * 8 + j)) (nI_clamp (by omega)) h (tl_c a15 (tl_8 r i) (by omega) rfl))))⟩))
theorem tl_ao155 {post : St2 → Prop} {rp wr : Int32} {a1 a2 a3 a4 a5 a6 a7 a8 a9 a10 a11 a12 a13 a14 a15 a16 a17 a18 a19 a20 a21 a22 a23 a24 : Nat → Int32} {r : Nat} (hr : r < 4)
    (H : ∀ b, (∀ j, j < 8 → b (r * 8 + j) = a24 j) → (∀ j, j < r * 8 ∨ r * 8 + 8 ≤ j → b j = a15 j) → post (rp, wr, a1, a2, a3, a4, a5, a6, a7, a8, a9, a10, a11, a12, a13, a14, b, a16, a17, a18, a19, a20, a21, a22, a23, a24)) :
    ∃ n, wX_applyOne_155 post (nI r) rp wr n 0 a1 a2 a3 a4 a5 a6 a7 a8 a9 a10 a11 a12 a13 a14 a15 a16 a17 a18 a19 a20 a21 a22 a23 a24 :=
  pk_loop (fun n i s => wX_applyOne_155 post (nI r) rp wr n (nI i) a1 a2 a3 a4 a5 a6 a7 a8 a9 a10 a11 a12 a13 a14 s a16 a17 a18 a19 a20 a21 a22 a23 a24) (fun i s => (∀ j, j < i → s (r * 8 + j) = a24 j) ∧ (∀ j, j < r * 8 ∨ r * 8 + 8 ≤ j → s j = a15 j)) 8 0 a15 (by omega) ⟨fun j hj => absurd hj (by omega), fun _ _ => rfl⟩
    (fun n s h => pk_le 8 8 (fun _ => H s h.1 h.2) (fun z => absurd z (by omega)))
    (fun n i s hi h hw => pk_le 8 i (fun z => absurd z (by omega)) (fun _ => ⟨pk_in i 8 hi, pk_in (r * 8 + i) 32 (by omega) (tl_8 r i), nm_r (e' := upd s (r * 8 + i) (a24 i)) (tl_u (tl_8 r i) (by omega) (tl_c a24 rfl (by omega) rfl)) (nm_r (nI_1 i) (hw _ ⟨fun j hj => by
        by_cases e : j = i
        · rw [e, pk_us]
        · rw [pk_un (by omega)]
          exact h.1 j (by omega), fun j hj => by
        rw [pk_un (by omega)]
        exact h.2 j hj⟩))⟩))
theorem tl_ao100 {post : St2 → Prop} {rp wr : Int32} {a1 a2 a3 a4 a5 a6 a7 a8 a9 a10 a11 a12 a13 a14 a15 a16 a17 a18 a19 a20 a21 a22 a23 a24 : Nat → Int32} {x6 : Int32} {r q c d : Nat} (hr : r < 4) (ha : q < 192) (hc : c < 8) (hd : d < 8) (h6 : x6 = nI d)
    (H : ∀ b15 b20 b21 b22 b23, (∀ j, j < 8 → b15 (r * 8 + j) = a24 j) → (∀ j, j < r * 8 ∨ r * 8 + 8 ≤ j → b15 j = a15 j) → post (rp, wr, a1, a2, a3, a4, a5, a6, a7, a8, a9, a10, a11, a12, a13, a14, b15, a16, a17, a18, a19, b20, b21, b22, b23, a24)) :
    wX_applyOne_100 post (nI r) (nI q) (nI c) x6 rp wr a1 a2 a3 a4 a5 a6 a7 a8 a9 a10 a11 a12 a13 a14 a15 a16 a17 a18 a19 a20 a21 a22 a23 a24 := by
  subst h6
  unfold wX_applyOne_100
  exact ⟨pk_in q 192 ha, nm_e ⟨pk_in (r * 8 + c) 32 (by omega) (tl_8 r c), pk_in q 192 ha, nm_e ⟨pk_in q 192 ha, nm_e ⟨pk_in (r * 8 + d) 32 (by omega) (tl_8 r d), pk_in q 192 ha, nm_e (tl_ao155 hr (fun b h1 h2 => H b _ _ _ _ h1 h2))⟩⟩⟩⟩
theorem tl_applyOne {post : St2 → Prop} {rp wr : Int32} {a1 a2 a3 a4 a5 a6 a7 a8 a9 a10 a11 a12 a13 a14 a15 a16 a17 a18 a19 a20 a21 a22 a23 a24 : Nat → Int32} {r i w c : Nat} {y : Int32} (hr : r < 4) (hi : i < 48) (hw : w < 48) (hc : c < 8) (h18 : a18 (r * 48 + i) = nI w) (h5 : a5 w = nI c) (h4 : (a4 w = 0 ∧ y = a6 w) ∨ (a4 w = 1 ∧ y = a15 (r * 8 + c) + a6 w))
    (H : ∀ b15 b20 b21 b22 b23 b24, b15 (r * 8 + c) = y → (∀ j, j < r * 8 ∨ r * 8 + 8 ≤ j → b15 j = a15 j) → post (rp, wr, a1, a2, a3, a4, a5, a6, a7, a8, a9, a10, a11, a12, a13, a14, b15, a16, a17, a18, upd a19 (r * 48 + i) 2, b20, b21, b22, b23, b24)) :
    wpX_applyOne post (rp, wr, a1, a2, a3, a4, a5, a6, a7, a8, a9, a10, a11, a12, a13, a14, a15, a16, a17, a18, a19, a20, a21, a22, a23, a24) (nI r) (nI i) := by
  unfold wpX_applyOne
  dsimp only
  refine nm_r (tl_48 r i) ⟨pk_in (r * 48 + i) 192 (by omega), nm_r (tl_c a18 rfl (by omega) h18) (tl_ao18 hr (fun n b hb => ?_))⟩
  have h4' : (a4 w = 0 ∧ y = a6 w) ∨ (a4 w = 1 ∧ y = b c + a6 w) := by
    rw [hb c hc]
    exact h4
  have h4n : ¬ a4 (nI w).toNatClampNeg = 4 := by
    rw [nI_clamp (by omega)]
    rcases h4 with h | h
    · rw [h.1]
      decide
    · rw [h.1]
      decide
  obtain ⟨d, hd, e6⟩ := pk_andE (nI c + 1) (m := 7) 3 (by decide)
  refine br_t (by decide) (tl_perform hw hc h5 h4' ?_)
  refine ⟨pk_in (r * 48 + i) 192 (by omega), nm_r (tl_u rfl (by omega) rfl) ⟨pk_in w 48 hw, nm_r (tl_c a5 rfl (by omega) h5) (nm_e ⟨pk_in w 48 hw, br_f h4n ?_⟩)⟩⟩
  refine tl_ao100 hr (by omega) hc hd e6 (fun b15 b20 b21 b22 b23 h1 h2 => H b15 b20 b21 b22 b23 _ ?_ h2)
  rw [h1 c hc, pk_us]
theorem tl_applyAll {post : St2 → Prop} {rp wr : Int32} {a1 a2 a3 a4 a5 a6 a7 a8 a9 a10 a11 a12 a13 a14 a15 a16 a17 a18 a19 a20 a21 a22 a23 a24 : Nat → Int32} {r k w c : Nat} {y : Int32} (hr : r < 4) (hk : k < 47) (hw : w < 48) (hc : c < 8) (h17 : a17 r = nI k) (h16 : a16 r = nI (k + 1)) (h18 : a18 (r * 48 + k) = nI w) (h5 : a5 w = nI c) (h4 : (a4 w = 0 ∧ y = a6 w) ∨ (a4 w = 1 ∧ y = a15 (r * 8 + c) + a6 w))
    (H : ∀ b15 b20 b21 b22 b23 b24, b15 (r * 8 + c) = y → (∀ j, j < r * 8 ∨ r * 8 + 8 ≤ j → b15 j = a15 j) → post (rp, wr, a1, a2, a3, a4, a5, a6, a7, a8, a9, a10, a11, a12, a13, a14, b15, a16, upd a17 r (nI (k + 1)), a18, upd a19 (r * 48 + k) 2, b20, b21, b22, b23, b24)) :
    wpX_applyAll post (rp, wr, a1, a2, a3, a4, a5, a6, a7, a8, a9, a10, a11, a12, a13, a14, a15, a16, a17, a18, a19, a20, a21, a22, a23, a24) (nI r) := by
  unfold wpX_applyAll
  dsimp only
  refine ⟨pk_in r 4 hr, nm_r (tl_c a17 rfl (by omega) h17) ⟨2, pk_in r 4 hr, pk_le (k + 1) k (fun z => absurd z (by omega)) (fun _ => ?_) (tl_c a16 rfl (by omega) h16)⟩⟩
  refine tl_applyOne hr (by omega) hw hc h18 h5 h4 (fun b15 b20 b21 b22 b23 b24 h1 h2 => ?_)
  refine nm_r (nI_1 k) ⟨pk_in r 4 hr, pk_le (k + 1) (k + 1) (fun _ => ?_) (fun z => absurd z (by omega)) (tl_c a16 rfl (by omega) h16)⟩
  exact ⟨pk_in r 4 hr, pk_in r 4 hr, nm_r (tl_u rfl (by omega) (tl_c a16 rfl (by omega) h16)) (H b15 b20 b21 b22 b23 b24 h1 h2)⟩
/-- nothing waits that isn't applied -/
theorem tl_applyAll0 {post : St2 → Prop} {rp wr : Int32} {a1 a2 a3 a4 a5 a6 a7 a8 a9 a10 a11 a12 a13 a14 a15 a16 a17 a18 a19 a20 a21 a22 a23 a24 : Nat → Int32} {r : Nat} (hr : r < 4) (h : a16 r ≤ a17 r) (H : post (rp, wr, a1, a2, a3, a4, a5, a6, a7, a8, a9, a10, a11, a12, a13, a14, a15, a16, upd a17 r (a16 r), a18, a19, a20, a21, a22, a23, a24)) : wpX_applyAll post (rp, wr, a1, a2, a3, a4, a5, a6, a7, a8, a9, a10, a11, a12, a13, a14, a15, a16, a17, a18, a19, a20, a21, a22, a23, a24) (nI r) := by
  unfold wpX_applyAll
  dsimp only
  have e : (nI r).toNatClampNeg = r := nI_clamp (by omega)
  rw [e]
  refine ⟨pk_in r 4 hr, nm_e ⟨1, pk_in r 4 hr, br_t (by rw [e]; exact h) ⟨pk_in r 4 hr, pk_in r 4 hr, nm_r (e' := upd a17 r (a16 r)) (by rw [e]) H⟩⟩⟩
end
section
/-! insert: the replica's first tentative write, and one that goes behind the only one -/
theorem tl_ins50 {post : St2 → Prop} {rp wr : Int32} {a1 a2 a3 a4 a5 a6 a7 a8 a9 a10 a11 a12 a13 a14 a15 a16 a17 a18 a19 a20 a21 a22 a23 a24 : Nat → Int32} {x : Int32} {r k : Nat} (hr : r < 4) (hk : k < 48) (h17 : a17 r = nI k)
    (H : post (rp, wr, a1, a2, a3, a4, a5, a6, a7, a8, a9, a10, a11, a12, a13, a14, a15, upd a16 r (nI (k + 1)), a17, upd a18 (r * 48 + k) x, a19, a20, a21, a22, a23, a24)) : wX_insert_50 post (nI r) x (nI k) (nI k) rp wr a1 a2 a3 a4 a5 a6 a7 a8 a9 a10 a11 a12 a13 a14 a15 a16 a17 a18 a19 a20 a21 a22 a23 a24 := by
  unfold wX_insert_50
  refine tl_undo hr ?_ ⟨1, pk_le k k (fun _ => ?_) (fun z => absurd z (by omega))⟩
  · rw [h17]
    rcases k with _ | k
    · decide
    · rw [nI_pred]
      exact nI_lt (by omega) (by omega)
  · exact ⟨pk_in (r * 48 + k) 192 (by omega) (tl_48 r k), nm_r (tl_u (tl_48 r k) (by omega) rfl) ⟨pk_in r 4 hr, nm_r (tl_u rfl (by omega) (nI_1 k)) H⟩⟩
theorem tl_insert0 {post : St2 → Prop} {rp wr : Int32} {a1 a2 a3 a4 a5 a6 a7 a8 a9 a10 a11 a12 a13 a14 a15 a16 a17 a18 a19 a20 a21 a22 a23 a24 : Nat → Int32} {x : Int32} {r : Nat} (hr : r < 4) (h16 : a16 r = 0) (h17 : a17 r = 0)
    (H : post (rp, wr, a1, a2, a3, a4, a5, a6, a7, a8, a9, a10, a11, a12, a13, a14, a15, upd a16 r 1, a17, upd a18 (r * 48) x, a19, a20, a21, a22, a23, a24)) : wpX_insert post (rp, wr, a1, a2, a3, a4, a5, a6, a7, a8, a9, a10, a11, a12, a13, a14, a15, a16, a17, a18, a19, a20, a21, a22, a23, a24) (nI r) x := by
  unfold wpX_insert
  dsimp only
  exact ⟨pk_in r 4 hr, nm_r (tl_c a16 rfl (by omega) h16) (br_t (by decide) ⟨1, br_t (by decide) (tl_ins50 (k := 0) hr (by omega) h17 H)⟩)⟩
theorem tl_before {post : Int32 → Prop} {rp wr : Int32} {a1 a2 a3 a4 a5 a6 a7 a8 a9 a10 a11 a12 a13 a14 a15 a16 a17 a18 a19 a20 a21 a22 a23 a24 : Nat → Int32} {p q : Nat} (hp : p < 48) (hq : q < 48) (h3 : a3 p = a3 q) (h1 : a1 q ≤ a1 p) (H : post 0) : wpX_before post (rp, wr, a1, a2, a3, a4, a5, a6, a7, a8, a9, a10, a11, a12, a13, a14, a15, a16, a17, a18, a19, a20, a21, a22, a23, a24) (nI p) (nI q) := by
  have ep : (nI p).toNatClampNeg = p := nI_clamp (by omega)
  have eq : (nI q).toNatClampNeg = q := nI_clamp (by omega)
  unfold wpX_before
  dsimp only
  rw [ep, eq]
  exact ⟨pk_in p 48 hp, pk_in q 48 hq, br_t h3 ⟨pk_in p 48 hp, pk_in q 48 hq, br_t h1 H⟩⟩
theorem tl_insert1 {post : St2 → Prop} {rp wr : Int32} {a1 a2 a3 a4 a5 a6 a7 a8 a9 a10 a11 a12 a13 a14 a15 a16 a17 a18 a19 a20 a21 a22 a23 a24 : Nat → Int32} {p q : Nat} (hp : p < 48) (hq : q < 48) (h16 : a16 0 = 1) (h17 : a17 0 = 1) (h18 : a18 0 = nI q) (h3 : a3 p = a3 q) (h1 : a1 q ≤ a1 p)
    (H : post (rp, wr, a1, a2, a3, a4, a5, a6, a7, a8, a9, a10, a11, a12, a13, a14, a15, upd a16 0 2, a17, upd a18 1 (nI p), a19, a20, a21, a22, a23, a24)) : wpX_insert post (rp, wr, a1, a2, a3, a4, a5, a6, a7, a8, a9, a10, a11, a12, a13, a14, a15, a16, a17, a18, a19, a20, a21, a22, a23, a24) (nI 0) (nI p) := by
  unfold wpX_insert
  dsimp only
  refine ⟨pk_in 0 4 (by omega), nm_r (tl_c a16 rfl (by omega) h16) (br_t (by decide) ⟨1, br_f (by decide) ⟨pk_in 0 192 (by omega) (by decide), ?_⟩⟩)⟩
  have e : a18 (nI 0 * 48 + 1 - 1).toNatClampNeg = nI q := tl_c a18 (n := 0) (by decide) (by omega) h18
  rw [e]
  exact tl_before hp hq h3 h1 (br_t rfl (tl_ins50 (k := 1) (r := 0) (by omega) (by omega) h17 H))
/-! a write at a replica that has none waiting -/
theorem tl_bad0 {post : Int32 → Prop} {wr : Int32} {a1 a2 a3 a4 a5 a6 a7 a8 a9 a10 a11 a12 a13 a14 a15 a16 a17 a18 a19 a20 a21 a22 a23 a24 : Nat → Int32} {r : Nat} (hr : r < 2) (H : post 0) : wpX_bad post (2, wr, a1, a2, a3, a4, a5, a6, a7, a8, a9, a10, a11, a12, a13, a14, a15, a16, a17, a18, a19, a20, a21, a22, a23, a24) (nI r) := by
  unfold wpX_bad
  dsimp only
  exact br_f (nI_pos (by omega)) (pk_lt r 2 (fun _ => H) (fun z => absurd z (by omega)))
theorem tl_write {post : Int32 → St2 → Prop} {a1 a2 a3 a4 a5 a6 a7 a8 a9 a10 a11 a12 a13 a14 a15 a16 a17 a18 a19 a20 a21 a22 a23 a24 : Nat → Int32} {r m c : Nat} {kd v y : Int32} (hr : r < 2) (hm : m < 48) (hc : c < 8) (hk : (kd = 0 ∧ y = v) ∨ (kd = 1 ∧ y = a15 (r * 8 + c) + v)) (h16 : a16 r = 0) (h17 : a17 r = 0)
    (H : ∀ b15 b20 b21 b22 b23 b24, b15 (r * 8 + c) = y → (∀ j, j < r * 8 ∨ r * 8 + 8 ≤ j → b15 j = a15 j) → post (nI m) (2, nI (m + 1), upd a1 m (nI r), upd a2 m (a8 (r * 4 + r)), upd a3 m (a7 r + 1), upd a4 m kd, upd a5 m (nI c), upd a6 m v, upd a7 r (a7 r + 1), upd a8 (r * 4 + r) (a8 (r * 4 + r) + 1), a9, a10, a11, a12, a13, a14, b15, upd a16 r 1, upd a17 r 1, upd a18 (r * 48) (nI m), upd a19 (r * 48) 2, b20, b21, b22, b23, b24)) :
    wpX_write post (2, nI m, a1, a2, a3, a4, a5, a6, a7, a8, a9, a10, a11, a12, a13, a14, a15, a16, a17, a18, a19, a20, a21, a22, a23, a24) (nI r) kd (nI c) v := by
  have k0 : ¬ kd < 0 := by
    rcases hk with h | h <;> rw [h.1] <;> decide
  have k5 : kd ≤ 5 := by
    rcases hk with h | h <;> rw [h.1] <;> decide
  have er : (nI r).toNatClampNeg = r := nI_clamp (by omega)
  have em : (nI m).toNatClampNeg = m := nI_clamp (by omega)
  have e4 : (nI r * 4 + nI r).toNatClampNeg = r * 4 + r := pk_cl _ (tl_4 r r)
  have i4 : vp_in (nI r) 4 := pk_in r 4 (by omega)
  have i48 : vp_in (nI m) 48 := pk_in m 48 hm
  have i16 : vp_in (nI r * 4 + nI r) 16 := pk_in (r * 4 + r) 16 (by omega) (tl_4 r r)
  unfold wpX_write
  dsimp only
  refine tl_bad0 hr (br_t rfl (br_f k0 (br_t k5 (br_f (nI_pos (by omega)) (br_t (nI_le (b := 7) (by omega) (by omega)) (br_t (nI_lt (b := 48) hm (by omega)) ?_))))))
  rw [er, em, e4]
  refine ⟨i4, i4, nm_e ⟨i48, nm_e ⟨i16, i48, nm_e ⟨i4, i48, nm_r (e' := upd a3 m (a7 r + 1)) (by rw [pk_us]) ⟨i48, nm_e ⟨i48, nm_e ⟨i48, nm_e (nm_r (nI_1 m) ?_)⟩⟩⟩⟩⟩⟩⟩
  refine tl_insert0 (by omega) h16 h17 ?_
  refine ⟨i16, i16, nm_e ?_⟩
  refine tl_applyAll (k := 0) (w := m) (c := c) (y := y) (by omega) (by omega) hm hc h17 pk_us pk_us pk_us ?_ ?_
  · rcases hk with h | h
    · exact Or.inl ⟨Eq.trans pk_us h.1, Eq.trans h.2 (Eq.symm pk_us)⟩
    · exact Or.inr ⟨Eq.trans pk_us h.1, show y = a15 (r * 8 + c) + upd a6 m v m by rw [pk_us, h.2]⟩
  · intro b15 b20 b21 b22 b23 b24 h1 h2
    exact H b15 b20 b21 b22 b23 b24 h1 h2
theorem tl_writeBad {post : Int32 → St2 → Prop} {wr : Int32} {a1 a2 a3 a4 a5 a6 a7 a8 a9 a10 a11 a12 a13 a14 a15 a16 a17 a18 a19 a20 a21 a22 a23 a24 : Nat → Int32} {r : Nat} {kd c v : Int32} (hr : r < 2) (hk : kd = 0 ∨ kd = 1) (hc : c < 0 ∨ ¬ c ≤ 7)
    (H : post (-3) (2, wr, a1, a2, a3, a4, a5, a6, a7, a8, a9, a10, a11, a12, a13, a14, a15, a16, a17, a18, a19, a20, a21, a22, a23, a24)) : wpX_write post (2, wr, a1, a2, a3, a4, a5, a6, a7, a8, a9, a10, a11, a12, a13, a14, a15, a16, a17, a18, a19, a20, a21, a22, a23, a24) (nI r) kd c v := by
  have k0 : ¬ kd < 0 := by
    rcases hk with h | h <;> rw [h] <;> decide
  have k5 : kd ≤ 5 := by
    rcases hk with h | h <;> rw [h] <;> decide
  unfold wpX_write
  dsimp only
  refine tl_bad0 hr (br_t rfl (br_f k0 (br_t k5 (br_c (fun _ => H) (fun z => ?_)))))
  rcases hc with h | h
  · exact absurd h z
  · exact br_f h H
end
section
/-! bring(1, 0) -/
theorem tl_b31 {post : Int32 → St2 → Prop} {rp wr : Int32} {a1 a2 a3 a4 a5 a6 a7 a8 a9 a10 a11 a12 a13 a14 a15 a16 a17 a18 a19 a20 a21 a22 a23 a24 : Nat → Int32} {n o : Nat} {x3 x3' d : Int32} (ho : o < 4) (hd : a8 (4 + o) - a8 o = d) (hx : x3 + d = x3')
    (H0 : d ≤ 0 → wX_bring_31 post (nI 1) (nI 0) rp wr a1 a2 a3 a4 a5 a6 a7 a8 a9 a10 a11 a12 a13 a14 a15 a16 a17 a18 a19 a20 a21 a22 a23 a24 n x3 (nI (o + 1))) (H1 : ¬ d ≤ 0 → wX_bring_31 post (nI 1) (nI 0) rp wr a1 a2 a3 a4 a5 a6 a7 a8 a9 a10 a11 a12 a13 a14 a15 a16 a17 a18 a19 a20 a21 a22 a23 a24 n x3' (nI (o + 1))) :
    wX_bring_31 post (nI 1) (nI 0) rp wr a1 a2 a3 a4 a5 a6 a7 a8 a9 a10 a11 a12 a13 a14 a15 a16 a17 a18 a19 a20 a21 a22 a23 a24 (n + 1) x3 (nI o) := by
  have e1 : a8 (nI 1 * 4 + nI o).toNatClampNeg = a8 (4 + o) := tl_c a8 (tl_4 1 o) (by omega) (by rw [Nat.one_mul])
  have e0 : a8 (nI 0 * 4 + nI o).toNatClampNeg = a8 o := tl_c a8 (tl_4 0 o) (by omega) (by rw [Nat.zero_mul, Nat.zero_add])
  refine pk_le 4 o (fun z => absurd z (by omega)) (fun _ => ⟨pk_in (1 * 4 + o) 16 (by omega) (tl_4 1 o), pk_in (0 * 4 + o) 16 (by omega) (tl_4 0 o), nm_r (e' := d) (by rw [e1, e0, hd]) (br_c (fun z => nm_r (nI_1 o) (H0 z)) (fun z => nm_r hx (nm_r (nI_1 o) (H1 z))))⟩)
theorem tl_b193 {post : Int32 → St2 → Prop} {rp wr : Int32} {a1 a2 a3 a4 a5 a6 a7 a8 a9 a10 a11 a12 a13 a14 a15 a16 a17 a18 a19 a20 a21 a22 a23 a24 : Nat → Int32} {n o : Nat} {x3 : Int32} (ho : o < 4)
    (H0 : a8 (4 + o) ≤ a8 o → wX_bring_193 post (nI 1) (nI 0) x3 rp wr n (nI (o + 1)) a1 a2 a3 a4 a5 a6 a7 a8 a9 a10 a11 a12 a13 a14 a15 a16 a17 a18 a19 a20 a21 a22 a23 a24) (H1 : ¬ a8 (4 + o) ≤ a8 o → wX_bring_193 post (nI 1) (nI 0) x3 rp wr n (nI (o + 1)) a1 a2 a3 a4 a5 a6 a7 (upd a8 o (a8 (4 + o))) a9 a10 a11 a12 a13 a14 a15 a16 a17 a18 a19 a20 a21 a22 a23 a24) :
    wX_bring_193 post (nI 1) (nI 0) x3 rp wr (n + 1) (nI o) a1 a2 a3 a4 a5 a6 a7 a8 a9 a10 a11 a12 a13 a14 a15 a16 a17 a18 a19 a20 a21 a22 a23 a24 := by
  have e1 : a8 (nI 1 * 4 + nI o).toNatClampNeg = a8 (4 + o) := tl_c a8 (tl_4 1 o) (by omega) (by rw [Nat.one_mul])
  have e0 : a8 (nI 0 * 4 + nI o).toNatClampNeg = a8 o := tl_c a8 (tl_4 0 o) (by omega) (by rw [Nat.zero_mul, Nat.zero_add])
  have c0 : (nI 0 * 4 + nI o).toNatClampNeg = o := by rw [pk_cl _ (tl_4 0 o)]; omega
  have i0 : vp_in (nI 0 * 4 + nI o) 16 := pk_in (0 * 4 + o) 16 (by omega) (tl_4 0 o)
  refine pk_le 4 o (fun z => absurd z (by omega)) (fun _ => ⟨pk_in (1 * 4 + o) 16 (by omega) (tl_4 1 o), nm_r e1 ⟨i0, br_c (fun z => nm_r (nI_1 o) (H0 (by rw [e0] at z; exact z))) (fun z => ⟨i0, nm_r (e' := upd a8 o (a8 (4 + o))) (by rw [c0]) (nm_r (nI_1 o) (H1 (by rw [e0] at z; exact z)))⟩)⟩⟩)
theorem tl_b193x {post : Int32 → St2 → Prop} {rp wr : Int32} {a1 a2 a3 a4 a5 a6 a7 a8 a9 a10 a11 a12 a13 a14 a15 a16 a17 a18 a19 a20 a21 a22 a23 a24 : Nat → Int32} {n : Nat} {x3 : Int32} (h7 : a7 1 ≤ a7 0) (H : wpX_applyAll (fun u => post x3 u) (rp, wr, a1, a2, a3, a4, a5, a6, a7, a8, a9, a10, a11, a12, a13, a14, a15, a16, a17, a18, a19, a20, a21, a22, a23, a24) (nI 0)) : wX_bring_193 post (nI 1) (nI 0) x3 rp wr (n + 1) (nI 4) a1 a2 a3 a4 a5 a6 a7 a8 a9 a10 a11 a12 a13 a14 a15 a16 a17 a18 a19 a20 a21 a22 a23 a24 := by
  have e : wX_bring_274 post (nI 0) x3 rp wr a1 a2 a3 a4 a5 a6 a7 a8 a9 a10 a11 a12 a13 a14 a15 a16 a17 a18 a19 a20 a21 a22 a23 a24 := by
    unfold wX_bring_274
    exact H
  exact pk_le 4 4 (fun _ => ⟨pk_in 1 4 (by omega), pk_in 0 4 (by omega), br_t h7 e⟩) (fun z => absurd z (by omega))
/-- the whole of bring(1, 0) when both have one write, 0 and 1, of the same stamp -/
theorem tl_bring {post : Int32 → St2 → Prop} {wr : Int32} {a1 a2 a3 a4 a5 a6 a7 a8 a9 a10 a11 a12 a13 a14 a15 a16 a17 a18 a19 a20 a21 a22 a23 a24 : Nat → Int32} {c : Nat} {y : Int32} (hc : c < 8)
    (h80 : a8 0 = 1) (h81 : a8 1 = 0) (h82 : a8 2 = 0) (h83 : a8 3 = 0) (h84 : a8 4 = 0) (h85 : a8 5 = 1) (h86 : a8 6 = 0) (h87 : a8 7 = 0)
    (hA : a10 1 ≤ a10 0) (h160 : a16 0 = 1) (h161 : a16 1 = 1) (h170 : a17 0 = 1) (h180 : a18 0 = 0) (h184 : a18 48 = 1)
    (h10 : a1 0 = 0) (h11 : a1 1 = 1) (h21 : a2 1 = 0) (h3 : a3 1 = a3 0) (h41 : a4 1 = 1) (h51 : a5 1 = nI c) (h7 : a7 1 ≤ a7 0) (hy : y = a15 c + a6 1)
    (H : ∀ b15 b20 b21 b22 b23 b24, b15 c = y → (∀ j, 8 ≤ j → b15 j = a15 j) → post 1 (2, wr, a1, a2, a3, a4, a5, a6, a7, upd a8 1 1, a9, a10, a11, a12, a13, a14, b15, upd a16 0 2, upd a17 0 2, upd a18 1 1, upd a19 1 2, b20, b21, b22, b23, b24)) :
    wpX_bring post (2, wr, a1, a2, a3, a4, a5, a6, a7, a8, a9, a10, a11, a12, a13, a14, a15, a16, a17, a18, a19, a20, a21, a22, a23, a24) (nI 1) (nI 0) := by
  unfold wpX_bring
  dsimp only
  refine tl_bad0 (r := 1) (by omega) (br_t rfl (tl_bad0 (r := 0) (by omega) (br_t rfl (br_f (by decide) ⟨5, ?_⟩))))
  refine tl_b31 (o := 0) (d := -1) (x3' := _) (by omega) (by rw [h84, h80]; decide) rfl (fun _ => ?_) (fun z => absurd (by decide) z)
  refine tl_b31 (o := 1) (d := 1) (x3' := 1) (by omega) (by rw [h85, h81]; decide) (by decide) (fun z => absurd z (by decide)) (fun _ => ?_)
  refine tl_b31 (o := 2) (d := 0) (x3' := _) (by omega) (by rw [h86, h82]; decide) rfl (fun _ => ?_) (fun z => absurd (by decide) z)
  refine tl_b31 (o := 3) (d := 0) (x3' := _) (by omega) (by rw [h87, h83]; decide) rfl (fun _ => ?_) (fun z => absurd (by decide) z)
  refine br_t (by decide) ⟨pk_in 1 4 (by omega), pk_in 0 4 (by omega), br_t hA ⟨2, pk_in 1 4 (by omega), ?_⟩⟩
  have e48 : a18 (nI 1 * 48 + 0).toNatClampNeg = nI 1 := tl_c a18 (n := 48) (by decide) (by omega) h184
  refine br_f (by rw [tl_c a16 (n := 1) rfl (by omega) h161]; decide) ⟨pk_in 48 192 (by omega) (by decide), nm_r e48 ⟨pk_in 1 48 (by omega), pk_in 1 48 (by omega), ?_⟩⟩
  have e1 : a1 (nI 1).toNatClampNeg = nI 1 := tl_c a1 (n := 1) rfl (by omega) h11
  have e2 : a2 (nI 1).toNatClampNeg = 0 := tl_c a2 (n := 1) rfl (by omega) h21
  have e8 : a8 (nI 0 * 4 + nI 1).toNatClampNeg = 0 := tl_c a8 (n := 1) (by decide) (by omega) h81
  rw [e1, e2, e8]
  refine ⟨pk_in 1 16 (by omega) (by decide), br_f (by decide) ?_⟩
  refine tl_insert1 (p := 1) (q := 0) (by omega) (by omega) h160 h170 h180 h3 (by rw [h10, h11]; decide) ?_
  refine nm_r (e' := nI 1) (by decide) ⟨pk_in 1 4 (by omega), br_t ?_ ⟨5, ?_⟩⟩
  · rw [tl_c (upd a16 0 2) (n := 1) rfl (by omega) (show upd a16 0 2 1 = 1 by rw [pk_un (by omega)]; exact h161)]
    decide
  refine tl_b193 (o := 0) (by omega) (fun _ => ?_) (fun z => absurd (by rw [h84, h80]; decide) z)
  refine tl_b193 (o := 1) (by omega) (fun z => absurd z (by rw [h85, h81]; decide)) (fun _ => ?_)
  refine tl_b193 (o := 2) (by omega) (fun _ => ?_) (fun z => absurd (by rw [pk_un (by omega), pk_un (by omega), h86, h82]; decide) z)
  refine tl_b193 (o := 3) (by omega) (fun _ => ?_) (fun z => absurd (by rw [pk_un (by omega), pk_un (by omega), h87, h83]; decide) z)
  refine tl_b193x h7 ?_
  refine tl_applyAll (r := 0) (k := 1) (w := 1) (c := c) (y := y) (by omega) (by omega) (by omega) hc h170 pk_us pk_us h51 (Or.inr ⟨h41, by rw [Nat.zero_mul, Nat.zero_add]; exact hy⟩) ?_
  intro b15 b20 b21 b22 b23 b24 g1 g2
  rw [h85]
  exact H b15 b20 b21 b22 b23 b24 (by rw [Nat.zero_mul, Nat.zero_add] at g1; exact g1) (fun j hj => g2 j (Or.inr (by omega)))
/-- the same when nothing was ever written -/
theorem tl_bringBad {post : Int32 → St2 → Prop} {wr : Int32} {a1 a2 a3 a4 a5 a6 a7 a8 a9 a10 a11 a12 a13 a14 a15 a16 a17 a18 a19 a20 a21 a22 a23 a24 : Nat → Int32} (h8 : ∀ j, a8 j = 0) (hA : a10 1 ≤ a10 0) (h161 : a16 1 = 0) (h7 : a7 1 ≤ a7 0) (h0 : a16 0 ≤ a17 0)
    (H : post 0 (2, wr, a1, a2, a3, a4, a5, a6, a7, a8, a9, a10, a11, a12, a13, a14, a15, a16, upd a17 0 (a16 0), a18, a19, a20, a21, a22, a23, a24)) : wpX_bring post (2, wr, a1, a2, a3, a4, a5, a6, a7, a8, a9, a10, a11, a12, a13, a14, a15, a16, a17, a18, a19, a20, a21, a22, a23, a24) (nI 1) (nI 0) := by
  unfold wpX_bring
  dsimp only
  refine tl_bad0 (r := 1) (by omega) (br_t rfl (tl_bad0 (r := 0) (by omega) (br_t rfl (br_f (by decide) ⟨5, ?_⟩))))
  refine tl_b31 (o := 0) (d := 0) (x3' := _) (by omega) (by rw [h8, h8]; decide) rfl (fun _ => ?_) (fun z => absurd (by decide) z)
  refine tl_b31 (o := 1) (d := 0) (x3' := _) (by omega) (by rw [h8, h8]; decide) rfl (fun _ => ?_) (fun z => absurd (by decide) z)
  refine tl_b31 (o := 2) (d := 0) (x3' := _) (by omega) (by rw [h8, h8]; decide) rfl (fun _ => ?_) (fun z => absurd (by decide) z)
  refine tl_b31 (o := 3) (d := 0) (x3' := _) (by omega) (by rw [h8, h8]; decide) rfl (fun _ => ?_) (fun z => absurd (by decide) z)
  refine br_t (by decide) ⟨pk_in 1 4 (by omega), pk_in 0 4 (by omega), br_t hA ⟨1, pk_in 1 4 (by omega), ?_⟩⟩
  refine br_t (by rw [tl_c a16 (n := 1) rfl (by omega) h161]; decide) ⟨5, ?_⟩
  refine tl_b193 (o := 0) (by omega) (fun _ => ?_) (fun z => absurd (by rw [h8, h8]; decide) z)
  refine tl_b193 (o := 1) (by omega) (fun _ => ?_) (fun z => absurd (by rw [h8, h8]; decide) z)
  refine tl_b193 (o := 2) (by omega) (fun _ => ?_) (fun z => absurd (by rw [h8, h8]; decide) z)
  refine tl_b193 (o := 3) (by omega) (fun _ => ?_) (fun z => absurd (by rw [h8, h8]; decide) z)
  exact tl_b193x h7 (tl_applyAll0 (r := 0) (by omega) h0 H)
end
section
/-! removeTentative at replica 0: the first of k + 1 goes -/
theorem tl_rm54 {post : St2 → Prop} {rp wr : Int32} {a1 a2 a3 a4 a5 a6 a7 a8 a9 a10 a11 a12 a13 a14 a15 a16 a17 a18 a19 a20 a21 a22 a23 a24 : Nat → Int32} {k : Nat} (hk : k < 48) (h17 : a17 0 = nI (k + 1))
    (H : ∀ b18 b19 b20 b21 b22 b23, (∀ j, j < k → b18 j = a18 (j + 1)) → (∀ j, k ≤ j → b18 j = a18 j) → (∀ j, k ≤ j → b19 j = a19 j) → post (rp, wr, a1, a2, a3, a4, a5, a6, a7, a8, a9, a10, a11, a12, a13, a14, a15, upd a16 0 (nI k), upd a17 0 (nI k), b18, b19, b20, b21, b22, b23, a24)) :
    ∃ n, wX_removeTentative_54 post (nI 0) (nI (k + 1)) (nI 0) rp wr n (nI 0) a1 a2 a3 a4 a5 a6 a7 a8 a9 a10 a11 a12 a13 a14 a15 a16 a17 a18 a19 a20 a21 a22 a23 a24 :=
  have e : nI 0 * 48 + nI (k + 1) - 1 = nI k := by
    rw [tl_48, show 0 * 48 + (k + 1) = k + 1 by omega, nI_pred]
  pk_loop (σ := (Nat → Int32) × (Nat → Int32) × (Nat → Int32) × (Nat → Int32) × (Nat → Int32) × (Nat → Int32)) (fun n i s => wX_removeTentative_54 post (nI 0) (nI (k + 1)) (nI 0) rp wr n (nI i) a1 a2 a3 a4 a5 a6 a7 a8 a9 a10 a11 a12 a13 a14 a15 a16 a17 s.1 s.2.1 s.2.2.1 s.2.2.2.1 s.2.2.2.2.1 s.2.2.2.2.2 a24)
    (fun i s => (∀ j, j < i → s.1 j = a18 (j + 1)) ∧ (∀ j, i ≤ j → s.1 j = a18 j) ∧ (∀ j, k ≤ j → s.2.1 j = a19 j)) k 0 (a18, a19, a20, a21, a22, a23) (by omega) ⟨fun j hj => absurd hj (by omega), fun _ _ => rfl, fun _ _ => rfl⟩
    (fun n s h => br_t (by rw [e]; exact nI_le (by omega) (by omega)) ⟨pk_in 0 4 (by omega), nm_r (tl_u (n := 0) rfl (by omega) (nI_pred k)) ⟨pk_in 0 4 (by omega), br_f (by rw [tl_c a17 (n := 0) rfl (by omega) h17]; exact nI_nle (by omega) (by omega)) ⟨pk_in 0 4 (by omega), pk_in 0 4 (by omega), nm_r (tl_u (n := 0) rfl (by omega) (by rw [tl_c a17 (n := 0) rfl (by omega) h17, nI_pred])) (H _ _ _ _ _ _ h.1 h.2.1 h.2.2)⟩⟩⟩)
    (fun n i s hi h hw =>
      have i1 : vp_in (nI i + 1) 192 := pk_in (i + 1) 192 (by omega) (nI_1 i)
      have i0 : vp_in (nI i) 192 := pk_in i 192 (by omega)
      br_f (by rw [e]; exact nI_ge hi (by omega)) ⟨i1, i0, nm_r (e' := upd s.1 i (s.1 (i + 1))) (tl_u rfl (by omega) (tl_c s.1 (nI_1 i) (by omega) rfl)) ⟨i1, i0, nm_r (e' := upd s.2.1 i (s.2.1 (i + 1))) (tl_u rfl (by omega) (tl_c s.2.1 (nI_1 i) (by omega) rfl)) ⟨i1, i0, nm_e ⟨i1, i0, nm_e ⟨i1, i0, nm_e ⟨i1, i0, nm_e (nm_r (nI_1 i) (hw (_, _, _, _, _, _) ⟨tl_fill (g := fun j => a18 (j + 1)) rfl h.1 (h.2.1 (i + 1) (by omega)), fun j hj => by
          show upd s.1 i (s.1 (i + 1)) j = a18 j
          rw [pk_un (by omega)]
          exact h.2.1 j (by omega), fun j hj => by
          show upd s.2.1 i (s.2.1 (i + 1)) j = a19 j
          rw [pk_un (by omega)]
          exact h.2.2 j hj⟩))⟩⟩⟩⟩⟩⟩)
theorem tl_remove {post : St2 → Prop} {rp wr : Int32} {a1 a2 a3 a4 a5 a6 a7 a8 a9 a10 a11 a12 a13 a14 a15 a16 a17 a18 a19 a20 a21 a22 a23 a24 : Nat → Int32} {k : Nat} {x : Int32} (hk : k < 47) (h16 : a16 0 = nI (k + 1)) (h17 : a17 0 = nI (k + 1)) (h18 : a18 0 = x)
    (H : ∀ b18 b19 b20 b21 b22 b23, (∀ j, j < k → b18 j = a18 (j + 1)) → (∀ j, k ≤ j → b18 j = a18 j) → (∀ j, k ≤ j → b19 j = a19 j) → post (rp, wr, a1, a2, a3, a4, a5, a6, a7, a8, a9, a10, a11, a12, a13, a14, a15, upd a16 0 (nI k), upd a17 0 (nI k), b18, b19, b20, b21, b22, b23, a24)) :
    wpX_removeTentative post (rp, wr, a1, a2, a3, a4, a5, a6, a7, a8, a9, a10, a11, a12, a13, a14, a15, a16, a17, a18, a19, a20, a21, a22, a23, a24) (nI 0) x := by
  have t : wX_removeTentative_38 post (nI 0) (nI (k + 1)) (nI 0) rp wr a1 a2 a3 a4 a5 a6 a7 a8 a9 a10 a11 a12 a13 a14 a15 a16 a17 a18 a19 a20 a21 a22 a23 a24 := by
    unfold wX_removeTentative_38
    exact br_t (nI_lt (by omega) (by omega)) (nm_r (e' := nI 0) (by decide) (tl_rm54 (by omega) h17 H))
  unfold wpX_removeTentative
  dsimp only
  exact ⟨pk_in 0 4 (by omega), nm_r (tl_c a16 (n := 0) rfl (by omega) h16) ⟨1, br_f (nI_nle (by omega) (by omega)) ⟨pk_in 0 192 (by omega) (by decide), br_t (tl_c a18 (n := 0) (by decide) (by omega) h18) t⟩⟩⟩
/-! fix at replica 0, of its first tentative write -/
theorem tl_f56 {post : St2 → Prop} {rp wr : Int32} {a1 a2 a3 a4 a5 a6 a7 a8 a9 a10 a11 a12 a13 a14 a15 a16 a17 a18 a19 a20 a21 a22 a23 a24 : Nat → Int32} {x2 x3 : Int32}
    (H : ∀ n b, (∀ j, j < 8 → b j = a14 j) → wX_fix_56 post (nI 0) x2 x3 rp wr (n + 1) (nI 8) a1 a2 a3 a4 a5 a6 a7 a8 a9 a10 a11 a12 a13 a14 a15 a16 a17 a18 a19 a20 a21 a22 a23 b) :
    ∃ n, wX_fix_56 post (nI 0) x2 x3 rp wr n 0 a1 a2 a3 a4 a5 a6 a7 a8 a9 a10 a11 a12 a13 a14 a15 a16 a17 a18 a19 a20 a21 a22 a23 a24 :=
  pk_loop (fun n i s => wX_fix_56 post (nI 0) x2 x3 rp wr n (nI i) a1 a2 a3 a4 a5 a6 a7 a8 a9 a10 a11 a12 a13 a14 a15 a16 a17 a18 a19 a20 a21 a22 a23 s) (fun i s => ∀ j, j < i → s j = a14 j) 8 0 a24 (by omega) (fun j hj => absurd hj (by omega))
    (fun n s h => H n s h)
    (fun n i s hi h hw => pk_le 8 i (fun z => absurd z (by omega)) (fun _ => ⟨pk_in (0 * 8 + i) 32 (by omega) (tl_8 0 i), pk_in i 8 hi, nm_e (nm_r (nI_1 i) (hw _ (tl_fill (g := a14) (nI_clamp (by omega)) h (tl_c a14 (tl_8 0 i) (by omega) (by rw [Nat.zero_mul, Nat.zero_add])))))⟩))
theorem tl_f97 {post : St2 → Prop} {rp wr : Int32} {a1 a2 a3 a4 a5 a6 a7 a8 a9 a10 a11 a12 a13 a14 a15 a16 a17 a18 a19 a20 a21 a22 a23 a24 : Nat → Int32} {w o d : Nat} (hw : w < 48) (ho : o < 4) (hd : d < 48) (h1 : a1 w = nI o) (hA : a10 0 = nI d)
    (H : ∀ b13 b14, (∀ j, j < 8 → b14 j = a24 j) → post (rp, wr, a1, a2, a3, a4, a5, a6, a7, a8, upd a9 o (a9 o + 1), upd a10 0 (nI (d + 1)), a11, a12, b13, b14, a15, a16, a17, a18, a19, a20, a21, a22, a23, a24)) :
    ∃ n, wX_fix_97 post (nI 0) (nI w) 1 rp wr n 0 a1 a2 a3 a4 a5 a6 a7 a8 a9 a10 a11 a12 a13 a14 a15 a16 a17 a18 a19 a20 a21 a22 a23 a24 :=
  have eA : a10 (nI 0).toNatClampNeg = nI d := tl_c a10 (n := 0) rfl (by omega) hA
  have e1 : a1 (nI w).toNatClampNeg = nI o := tl_c a1 rfl (by omega) h1
  have eo : nI 0 * 4 + a1 (nI w).toNatClampNeg = nI o := by
    rw [e1, tl_4, Nat.zero_mul, Nat.zero_add]
  have ed : nI 0 * 48 + a10 (nI 0).toNatClampNeg = nI d := by
    rw [eA, tl_48, Nat.zero_mul, Nat.zero_add]
  have i4 : vp_in (nI 0) 4 := pk_in 0 4 (by omega)
  have io : vp_in (nI 0 * 4 + a1 (nI w).toNatClampNeg) 16 := pk_in o 16 (by omega) eo
  pk_loop (fun n i s => wX_fix_97 post (nI 0) (nI w) 1 rp wr n (nI i) a1 a2 a3 a4 a5 a6 a7 a8 a9 a10 a11 a12 a13 s a15 a16 a17 a18 a19 a20 a21 a22 a23 a24) (fun i s => ∀ j, j < i → s j = a24 j) 8 0 a14 (by omega) (fun j hj => absurd hj (by omega))
    (fun n s h => pk_le 8 8 (fun _ => ⟨i4, pk_in d 192 (by omega) ed, nm_e ⟨i4, i4, nm_r (tl_u (n := 0) rfl (by omega) (by rw [eA, nI_1])) ⟨pk_in w 48 hw, io, io, nm_r (tl_u eo (by omega) (by rw [tl_c a9 eo (by omega) rfl])) (H _ s h)⟩⟩⟩) (fun z => absurd z (by omega)))
    (fun n i s hi h hw => pk_le 8 i (fun z => absurd z (by omega)) (fun _ => ⟨pk_in i 8 hi, pk_in (0 * 8 + i) 32 (by omega) (tl_8 0 i), nm_e (br_f (by decide) (nm_r (nI_1 i) (hw _ (tl_fill (g := a24) (by rw [pk_cl _ (tl_8 0 i)]; omega) h (tl_c a24 rfl (by omega) rfl)))))⟩))
theorem tl_fix {post : St2 → Prop} {rp wr : Int32} {a1 a2 a3 a4 a5 a6 a7 a8 a9 a10 a11 a12 a13 a14 a15 a16 a17 a18 a19 a20 a21 a22 a23 a24 : Nat → Int32} {k w o d c : Nat} {y : Int32} (hk : k < 47) (hw : w < 48) (ho : o < 4) (hd : d < 48) (hc : c < 8) (h16 : a16 0 = nI (k + 1)) (h17 : a17 0 = nI (k + 1)) (h18 : a18 0 = nI w) (h1 : a1 w = nI o) (hA : a10 0 = nI d) (h5 : a5 w = nI c) (h4 : (a4 w = 0 ∧ y = a6 w) ∨ (a4 w = 1 ∧ y = a14 c + a6 w))
    (H : ∀ b13 b14 b18 b19 b20 b21 b22 b23 b24, b14 c = y → (∀ j, j < k → b18 j = a18 (j + 1)) → (∀ j, k ≤ j → b18 j = a18 j) → (∀ j, k ≤ j → b19 j = a19 j) →
      post (rp, wr, a1, a2, a3, a4, a5, a6, a7, a8, upd a9 o (a9 o + 1), upd a10 0 (nI (d + 1)), a11, a12, b13, b14, a15, upd a16 0 (nI k), upd a17 0 (nI k), b18, b19, b20, b21, b22, b23, b24)) :
    wpX_fix post (rp, wr, a1, a2, a3, a4, a5, a6, a7, a8, a9, a10, a11, a12, a13, a14, a15, a16, a17, a18, a19, a20, a21, a22, a23, a24) (nI 0) (nI w) := by
  have t : wX_fix_36 post (nI 0) (nI w) 1 rp wr a1 a2 a3 a4 a5 a6 a7 a8 a9 a10 a11 a12 a13 a14 a15 a16 a17 a18 a19 a20 a21 a22 a23 a24 := by
    unfold wX_fix_36
    refine br_f (by decide) ?_
    unfold wX_fix_47
    refine tl_remove hk h16 h17 h18 (fun b18 b19 b20 b21 b22 b23 g1 g2 g3 => ?_)
    refine tl_f56 (fun n b hb => br_t (by decide) ?_)
    refine tl_perform2 (y := y) hw hc h5 ?_ ?_
    · rw [hb c hc]
      exact h4
    · refine tl_f97 hw ho hd h1 hA (fun b13 b14 hb14 => H b13 b14 b18 b19 b20 b21 b22 b23 _ ?_ g1 g2 g3)
      rw [hb14 c hc, pk_us]
  unfold wpX_fix
  dsimp only
  exact ⟨pk_in 0 4 (by omega), br_f (by rw [tl_c a16 (n := 0) rfl (by omega) h16]; exact nI_nle (by omega) (by omega)) ⟨pk_in 0 192 (by omega) (by decide), br_t (tl_c a18 (n := 0) (by decide) (by omega) h18) ⟨pk_in 0 4 (by omega), br_f (by rw [tl_c a17 (n := 0) rfl (by omega) h17]; exact nI_nle (by omega) (by omega)) t⟩⟩⟩
/-! commit -/
theorem tl_commit0 {post : Int32 → St2 → Prop} {rp wr : Int32} {a1 a2 a3 a4 a5 a6 a7 a8 a9 a10 a11 a12 a13 a14 a15 a16 a17 a18 a19 a20 a21 a22 a23 a24 : Nat → Int32} {n : Int32} (h : n ≤ 0 ∨ a16 0 ≤ 0) (H : post 0 (rp, wr, a1, a2, a3, a4, a5, a6, a7, a8, a9, a10, a11, a12, a13, a14, a15, a16, a17, a18, a19, a20, a21, a22, a23, a24)) : wpX_commit post (rp, wr, a1, a2, a3, a4, a5, a6, a7, a8, a9, a10, a11, a12, a13, a14, a15, a16, a17, a18, a19, a20, a21, a22, a23, a24) n := by
  unfold wpX_commit
  dsimp only
  refine ⟨1, br_c (fun _ => H) (fun z => ?_)⟩
  rcases h with h | h
  · exact absurd h z
  · exact br_t h H
/-- what the law asks of the state behind the commits -/
def tl_Q (c : Nat) (s t : Int32) (a1 a2 a8 a9 a10 a14 a15 a16 a18 a19 : Nat → Int32) : Prop :=
  a14 c = s ∧ a15 c = t ∧ a10 1 = 0 ∧ a1 1 = 1 ∧ a2 1 = 0 ∧ a8 5 = 1 ∧ a9 5 = 0 ∧ a16 1 = 1 ∧ a18 48 = 1 ∧ a19 48 = 2
theorem tl_commit {post : Int32 → St2 → Prop} {rp wr : Int32} {a1 a2 a3 a4 a5 a6 a7 a8 a9 a10 a11 a12 a13 a14 a15 a16 a17 a18 a19 a20 a21 a22 a23 a24 : Nat → Int32} {c : Nat} {n v w t : Int32} (hn : ¬ n ≤ 0) (hc : c < 8)
    (h16 : a16 0 = 2) (h17 : a17 0 = 2) (h180 : a18 0 = 0) (h181 : a18 1 = 1) (h10 : a1 0 = 0) (hA : a10 0 = 0) (h50 : a5 0 = nI c) (h51 : a5 1 = nI c) (h40 : a4 0 = 0) (h41 : a4 1 = 1) (h60 : a6 0 = v) (h61 : a6 1 = w)
    (Q : tl_Q c (a14 c) t a1 a2 a8 a9 a10 a14 a15 a16 a18 a19)
    (H1 : n ≤ 1 → ∀ b9 b10 b13 b14 b16 b17 b18 b19 b20 b21 b22 b23 b24, tl_Q c v t a1 a2 a8 b9 b10 b14 a15 b16 b18 b19 → post 1 (rp, wr, a1, a2, a3, a4, a5, a6, a7, a8, b9, b10, a11, a12, b13, b14, a15, b16, b17, b18, b19, b20, b21, b22, b23, b24))
    (H2 : ¬ n ≤ 1 → ∀ b9 b10 b13 b14 b16 b17 b18 b19 b20 b21 b22 b23 b24, tl_Q c (v + w) t a1 a2 a8 b9 b10 b14 a15 b16 b18 b19 → post 2 (rp, wr, a1, a2, a3, a4, a5, a6, a7, a8, b9, b10, a11, a12, b13, b14, a15, b16, b17, b18, b19, b20, b21, b22, b23, b24)) :
    wpX_commit post (rp, wr, a1, a2, a3, a4, a5, a6, a7, a8, a9, a10, a11, a12, a13, a14, a15, a16, a17, a18, a19, a20, a21, a22, a23, a24) n := by
  obtain ⟨q1, q2, q3, q4, q5, q6, q7, q8, q9, q10⟩ := Q
  unfold wpX_commit
  dsimp only
  refine ⟨3, br_f hn (br_f (by rw [h16]; decide) ?_)⟩
  rw [h180]
  refine tl_fix (k := 1) (w := 0) (o := 0) (d := 0) (c := c) (y := v) (by omega) (by omega) (by omega) (by omega) hc h16 h17 h180 h10 hA h50 (Or.inl ⟨h40, h60.symm⟩) (fun b13 b14 b18 b19 b20 b21 b22 b23 b24 g14 g1 g2 g3 => ?_)
  have e0 : b18 0 = nI 1 := by
    rw [g1 0 (by omega)]
    exact h181
  refine nm_r (e' := 1) (by decide) (br_c (fun z => H1 z _ _ _ _ _ _ _ _ _ _ _ _ _ ?_) (fun z => br_f (by rw [pk_us]; decide) ?_))
  · exact ⟨g14, q2, by rw [pk_un (by omega)]; exact q3, q4, q5, q6, by rw [pk_un (by omega)]; exact q7, by rw [pk_un (by omega)]; exact q8, by rw [g2 48 (by omega)]; exact q9, by rw [g3 48 (by omega)]; exact q10⟩
  · rw [e0]
    refine tl_fix (k := 0) (w := 1) (o := 1) (d := 1) (c := c) (y := v + w) (by omega) (by omega) (by omega) (by omega) hc pk_us pk_us e0 q4 pk_us h51 (Or.inr ⟨h41, by rw [g14, h61]⟩) (fun b13' b14' b18' b19' b20' b21' b22' b23' b24' g14' g1' g2' g3' => ?_)
    have Q' := H2 z (upd (upd a9 0 (a9 0 + 1)) 1 (upd a9 0 (a9 0 + 1) 1 + 1)) (upd (upd a10 0 (nI (0 + 1))) 0 (nI (1 + 1))) b13' b14' (upd (upd a16 0 (nI 1)) 0 (nI 0)) (upd (upd a17 0 (nI 1)) 0 (nI 0)) b18' b19' b20' b21' b22' b23' b24'
      ⟨g14', q2, by rw [pk_un (by omega), pk_un (by omega)]; exact q3, q4, q5, q6, by rw [pk_un (by omega), pk_un (by omega)]; exact q7, by rw [pk_un (by omega), pk_un (by omega)]; exact q8, by rw [g2' 48 (by omega), g2 48 (by omega)]; exact q9, by rw [g3' 48 (by omega), g3 48 (by omega)]; exact q10⟩
    exact nm_r (e' := 2) (by decide) (br_c (fun _ => Q') (fun _ => br_t (by rw [pk_us]; decide) Q'))
end
section
/-! the questions -/
theorem tl_cell {post : Int32 → Prop} {wr : Int32} {a1 a2 a3 a4 a5 a6 a7 a8 a9 a10 a11 a12 a13 a14 a15 a16 a17 a18 a19 a20 a21 a22 a23 a24 : Nat → Int32} {r c : Nat} (hr : r < 2) (hc : c < 8) (H : post (a15 (r * 8 + c))) : wpX_cell post (2, wr, a1, a2, a3, a4, a5, a6, a7, a8, a9, a10, a11, a12, a13, a14, a15, a16, a17, a18, a19, a20, a21, a22, a23, a24) (nI r) (nI c) := by
  unfold wpX_cell
  dsimp only
  rw [pk_cl _ (tl_8 r c)]
  exact tl_bad0 hr (br_t rfl (br_f (nI_pos (by omega)) (br_t (nI_le (b := 7) (by omega) (by omega)) ⟨pk_in (r * 8 + c) 32 (by omega) (tl_8 r c), H⟩)))
theorem tl_stable {post : Int32 → Prop} {wr : Int32} {a1 a2 a3 a4 a5 a6 a7 a8 a9 a10 a11 a12 a13 a14 a15 a16 a17 a18 a19 a20 a21 a22 a23 a24 : Nat → Int32} {r c : Nat} (hr : r < 2) (hc : c < 8) (H : post (a14 (r * 8 + c))) : wpX_stable post (2, wr, a1, a2, a3, a4, a5, a6, a7, a8, a9, a10, a11, a12, a13, a14, a15, a16, a17, a18, a19, a20, a21, a22, a23, a24) (nI r) (nI c) := by
  unfold wpX_stable
  dsimp only
  rw [pk_cl _ (tl_8 r c)]
  exact tl_bad0 hr (br_t rfl (br_f (nI_pos (by omega)) (br_t (nI_le (b := 7) (by omega) (by omega)) ⟨pk_in (r * 8 + c) 32 (by omega) (tl_8 r c), H⟩)))
theorem tl_cellBad {post : Int32 → Prop} {wr : Int32} {a1 a2 a3 a4 a5 a6 a7 a8 a9 a10 a11 a12 a13 a14 a15 a16 a17 a18 a19 a20 a21 a22 a23 a24 : Nat → Int32} {r : Nat} {x : Int32} (hr : r < 2) (hx : x < 0 ∨ ¬ x ≤ 7) (H : post 0) : wpX_cell post (2, wr, a1, a2, a3, a4, a5, a6, a7, a8, a9, a10, a11, a12, a13, a14, a15, a16, a17, a18, a19, a20, a21, a22, a23, a24) (nI r) x := by
  unfold wpX_cell
  dsimp only
  refine tl_bad0 hr (br_t rfl (br_c (fun _ => H) (fun z => ?_)))
  rcases hx with h | h
  · exact absurd h z
  · exact br_f h H
theorem tl_stableBad {post : Int32 → Prop} {wr : Int32} {a1 a2 a3 a4 a5 a6 a7 a8 a9 a10 a11 a12 a13 a14 a15 a16 a17 a18 a19 a20 a21 a22 a23 a24 : Nat → Int32} {r : Nat} {x : Int32} (hr : r < 2) (hx : x < 0 ∨ ¬ x ≤ 7) (H : post 0) : wpX_stable post (2, wr, a1, a2, a3, a4, a5, a6, a7, a8, a9, a10, a11, a12, a13, a14, a15, a16, a17, a18, a19, a20, a21, a22, a23, a24) (nI r) x := by
  unfold wpX_stable
  dsimp only
  refine tl_bad0 hr (br_t rfl (br_c (fun _ => H) (fun z => ?_)))
  rcases hx with h | h
  · exact absurd h z
  · exact br_f h H
theorem tl_committed {post : Int32 → Prop} {wr : Int32} {a1 a2 a3 a4 a5 a6 a7 a8 a9 a10 a11 a12 a13 a14 a15 a16 a17 a18 a19 a20 a21 a22 a23 a24 : Nat → Int32} {r : Nat} (hr : r < 2) (H : post (a10 r)) : wpX_committed post (2, wr, a1, a2, a3, a4, a5, a6, a7, a8, a9, a10, a11, a12, a13, a14, a15, a16, a17, a18, a19, a20, a21, a22, a23, a24) (nI r) := by
  unfold wpX_committed
  dsimp only
  rw [nI_clamp (show r < 2 ^ 31 by omega)]
  exact tl_bad0 hr (br_t rfl ⟨pk_in r 4 (by omega), H⟩)
theorem tl_standing {post : Int32 → Prop} {a1 a2 a3 a4 a5 a6 a7 a8 a9 a10 a11 a12 a13 a14 a15 a16 a17 a18 a19 a20 a21 a22 a23 a24 : Nat → Int32} (h1 : a1 1 = 1) (h2 : a2 1 = 0) (h8 : a8 5 = 1) (h9 : a9 5 = 0) (h16 : a16 1 = 1) (h18 : a18 48 = 1) (h19 : a19 48 = 2) (H : post 2) : wpX_standing post (2, 2, a1, a2, a3, a4, a5, a6, a7, a8, a9, a10, a11, a12, a13, a14, a15, a16, a17, a18, a19, a20, a21, a22, a23, a24) (nI 1) (nI 1) := by
  have c1 : (nI 1).toNatClampNeg = 1 := nI_clamp (by omega)
  have c48 : (nI 1 * 48 + 0).toNatClampNeg = 48 := pk_cl 48 (by decide)
  have i48 : vp_in (nI 1) 48 := pk_in 1 48 (by omega)
  have i16 : vp_in (nI 5) 16 := pk_in 5 16 (by omega)
  have i192 : vp_in (nI 1 * 48 + 0) 192 := pk_in 48 192 (by omega) (by decide)
  unfold wpX_standing
  dsimp only
  rw [c1, h1, h2]
  refine tl_bad0 (r := 1) (by omega) (br_t rfl (br_f (by decide) (br_t (by decide) ⟨i48, nm_r (e' := nI 5) (by decide) ⟨i48, i16, ?_⟩⟩)))
  rw [pk_cl 5 (x := nI 5), h8, h9]
  refine br_t (by decide) ⟨i48, i16, br_t (by decide) ⟨1, pk_in 1 4 (by omega), ?_⟩⟩
  refine br_f (by rw [c1, h16]; decide) ⟨i192, br_t (by rw [c48, h18]; rfl) ⟨i192, ?_⟩⟩
  rw [c48, h19]
  exact H
theorem tl_standing0 {post : Int32 → Prop} {a1 a2 a3 a4 a5 a6 a7 a8 a9 a10 a11 a12 a13 a14 a15 a16 a17 a18 a19 a20 a21 a22 a23 a24 : Nat → Int32} (H : post 0) : wpX_standing post (2, 0, a1, a2, a3, a4, a5, a6, a7, a8, a9, a10, a11, a12, a13, a14, a15, a16, a17, a18, a19, a20, a21, a22, a23, a24) (nI 1) (nI 1) := by
  unfold wpX_standing
  dsimp only
  exact tl_bad0 (r := 1) (by omega) (br_t rfl (br_f (by decide) (br_f (by decide) H)))
end
section
/-! the law, its cell in range: from its end to its begin -/
theorem tl_l236 {post : Int32 → St0 → Prop} {a1 a2 a3 a4 a5 a6 a7 a8 a9 a10 a11 a12 a13 a14 a15 a16 a17 a18 a19 a20 a21 a22 a23 a24 : Nat → Int32} {mc ms kc ks c : Nat} {s t z0 z1 : Int32} (P : post 1 ()) (hz : z1 = z0) (Q : tl_Q c s t a1 a2 a8 a9 a10 a14 a15 a16 a18 a19) : wL_lawOf_236 post mc ms 1 z0 z1 kc ks 2 2 a1 a2 a3 a4 a5 a6 a7 a8 a9 a10 a11 a12 a13 a14 a15 a16 a17 a18 a19 a20 a21 a22 a23 a24 := by
  obtain ⟨q1, q2, q3, q4, q5, q6, q7, q8, q9, q10⟩ := Q
  unfold wL_lawOf_236
  refine br_t hz (tl_committed (r := 1) (by omega) (br_t q3 (tl_standing q4 q5 q6 q7 q8 q9 q10 (br_f (by decide) ?_))))
  unfold wL_lawOf_267
  exact br_t rfl P
theorem tl_l203 {post : Int32 → St0 → Prop} {a1 a2 a3 a4 a5 a6 a7 a8 a9 a10 a11 a12 a13 a14 a15 a16 a17 a18 a19 a20 a21 a22 a23 a24 : Nat → Int32} {mc ms kc ks c : Nat} {v w s : Int32} (P : post 1 ()) (hc : c < 8) (Q : tl_Q c s (v + w) a1 a2 a8 a9 a10 a14 a15 a16 a18 a19) : wL_lawOf_203 post mc ms (nI c) v w 1 s kc ks 2 2 a1 a2 a3 a4 a5 a6 a7 a8 a9 a10 a11 a12 a13 a14 a15 a16 a17 a18 a19 a20 a21 a22 a23 a24 := by
  have q1 : a14 (0 * 8 + c) = s := by
    rw [Nat.zero_mul, Nat.zero_add]
    exact Q.1
  have q2 : a15 (0 * 8 + c) = v + w := by
    rw [Nat.zero_mul, Nat.zero_add]
    exact Q.2.1
  unfold wL_lawOf_203
  exact tl_stable (r := 0) (by omega) hc (br_t q1 (tl_cell (r := 0) (by omega) hc (br_f (by decide) (tl_l236 P q2 Q))))
theorem tl_l166 {post : Int32 → St0 → Prop} {a1 a2 a3 a4 a5 a6 a7 a8 a9 a10 a11 a12 a13 a14 a15 a16 a17 a18 a19 a20 a21 a22 a23 a24 : Nat → Int32} {mc ms kc ks c : Nat} {n v w z : Int32} (P : post 1 ()) (hc : c < 8)
    (h16 : a16 0 = 2) (h17 : a17 0 = 2) (h180 : a18 0 = 0) (h181 : a18 1 = 1) (h10 : a1 0 = 0) (hA : a10 0 = 0) (h50 : a5 0 = nI c) (h51 : a5 1 = nI c) (h40 : a4 0 = 0) (h41 : a4 1 = 1) (h60 : a6 0 = v) (h61 : a6 1 = w)
    (Q : tl_Q c 0 (v + w) a1 a2 a8 a9 a10 a14 a15 a16 a18 a19)
    (hz : (n ≤ 0 ∧ z = 0) ∨ (¬ n ≤ 0 ∧ n ≤ 1 ∧ z = 1) ∨ (¬ n ≤ 0 ∧ ¬ n ≤ 1 ∧ z = 2)) :
    wL_lawOf_166 post mc ms (nI c) v w n 1 z kc ks 2 2 a1 a2 a3 a4 a5 a6 a7 a8 a9 a10 a11 a12 a13 a14 a15 a16 a17 a18 a19 a20 a21 a22 a23 a24 := by
  have Q' : tl_Q c (a14 c) (v + w) a1 a2 a8 a9 a10 a14 a15 a16 a18 a19 := ⟨rfl, Q.2⟩
  unfold wL_lawOf_166
  rcases hz with ⟨hn, rfl⟩ | ⟨h0, h1, rfl⟩ | ⟨h0, h1, rfl⟩
  · exact tl_commit0 (Or.inl hn) (br_t rfl (br_t rfl (tl_l203 P hc Q)))
  · exact tl_commit (v := v) (w := w) h0 hc h16 h17 h180 h181 h10 hA h50 h51 h40 h41 h60 h61 Q' (fun _ b9 b10 b13 b14 b16 b17 b18 b19 b20 b21 b22 b23 b24 R => br_t rfl (br_f (by decide) (br_t rfl (tl_l203 P hc R)))) (fun z => absurd h1 z)
  · exact tl_commit (v := v) (w := w) h0 hc h16 h17 h180 h181 h10 hA h50 h51 h40 h41 h60 h61 Q' (fun z => absurd z h1) (fun _ b9 b10 b13 b14 b16 b17 b18 b19 b20 b21 b22 b23 b24 R => br_t rfl (br_f (by decide) (br_f (by decide) (tl_l203 P hc R))))
theorem tl_l94 {post : Int32 → St0 → Prop} {a1 a2 a3 a4 a5 a6 a7 a8 a9 a10 a11 a12 a13 a14 a15 a16 a17 a18 a19 a20 a21 a22 a23 a24 : Nat → Int32} {mc ms kc ks c : Nat} {n v w : Int32} (P : post 1 ()) (hc : c < 8)
    (h16 : a16 0 = 2) (h17 : a17 0 = 2) (h180 : a18 0 = 0) (h181 : a18 1 = 1) (h10 : a1 0 = 0) (hA : a10 0 = 0) (h50 : a5 0 = nI c) (h51 : a5 1 = nI c) (h40 : a4 0 = 0) (h41 : a4 1 = 1) (h60 : a6 0 = v) (h61 : a6 1 = w)
    (Q : tl_Q c 0 (v + w) a1 a2 a8 a9 a10 a14 a15 a16 a18 a19) (hw : a15 (1 * 8 + c) = w) :
    wL_lawOf_94 post mc ms (nI c) v w n 1 1 1 kc ks 2 2 a1 a2 a3 a4 a5 a6 a7 a8 a9 a10 a11 a12 a13 a14 a15 a16 a17 a18 a19 a20 a21 a22 a23 a24 := by
  have q2 : a15 (0 * 8 + c) = v + w := by
    rw [Nat.zero_mul, Nat.zero_add]
    exact Q.2.1
  have t0 : (0 : Int32).toInt = 0 := by decide
  have t1 : (1 : Int32).toInt = 1 := by decide
  have t2 : (2 : Int32).toInt = 2 := by decide
  unfold wL_lawOf_94
  refine br_t rfl (tl_cell (r := 0) (by omega) hc (br_f (by decide) ?_))
  unfold wL_lawOf_118
  refine br_t q2 (tl_cell (r := 1) (by omega) hc (br_f (by decide) ?_))
  unfold wL_lawOf_138
  refine br_t hw (br_f (by decide) (br_c (fun g => br_c (fun g2 => ?_) (fun g2 => ?_)) (fun g => ?_)))
  · refine tl_l166 P hc h16 h17 h180 h181 h10 hA h50 h51 h40 h41 h60 h61 Q ?_
    obtain ⟨j, hj, e⟩ := nI_of2 (x := n) (M := 2) (n := 2) t2 (by rw [Int32.le_iff_toInt_le] at g; rw [Int32.lt_iff_toInt_lt]; omega) g2
    subst e
    rcases j with _ | _ | j
    · exact Or.inl ⟨by decide, rfl⟩
    · exact Or.inr (Or.inl ⟨by decide, by decide, rfl⟩)
    · have ej : j = 0 := by omega
      subst ej
      exact Or.inr (Or.inr ⟨by decide, by decide, rfl⟩)
  · refine tl_l166 P hc h16 h17 h180 h181 h10 hA h50 h51 h40 h41 h60 h61 Q (Or.inr (Or.inr ⟨?_, ?_, rfl⟩))
    · rw [Int32.le_iff_toInt_le] at g2 ⊢
      omega
    · rw [Int32.le_iff_toInt_le] at g2 ⊢
      omega
  · unfold wL_lawOf_152
    refine tl_l166 P hc h16 h17 h180 h181 h10 hA h50 h51 h40 h41 h60 h61 Q (Or.inl ⟨?_, rfl⟩)
    rw [Int32.le_iff_toInt_le] at g ⊢
    omega
theorem tl_ok {post : Int32 → St0 → Prop} {mc ms kc ks c : Nat} {v w n : Int32} (P : post 1 ()) (hc : c < 8) : wL_lawOf_25 post mc ms (nI c) v w n 1 kc ks 2 0 (fun _ => 0) (fun _ => 0) (fun _ => 0) (fun _ => 0) (fun _ => 0) (fun _ => 0) (fun _ => 0) (fun _ => 0) (fun _ => 0) (fun _ => 0) (fun _ => 0) (fun _ => 0) (fun _ => 0) (fun _ => 0) (fun _ => 0) (fun _ => 0) (fun _ => 0) (fun _ => 0) (fun _ => 0) (fun _ => 0) (fun _ => 0) (fun _ => 0) (fun _ => 0) (fun _ => 0) := by
  unfold wL_lawOf_25
  refine tl_write (r := 0) (m := 0) (c := c) (kd := 0) (v := v) (y := v) (by omega) (by omega) hc (Or.inl ⟨rfl, rfl⟩) rfl rfl (fun b15 b20 b21 b22 b23 b24 g1 g2 => ?_)
  refine br_f (by decide) ?_
  unfold wL_lawOf_47
  refine br_t rfl ?_
  refine tl_write (r := 1) (m := 1) (c := c) (kd := 1) (v := w) (y := w) (by omega) (by omega) hc (Or.inr ⟨rfl, by rw [g2 _ (Or.inr (by omega)), Int32.zero_add]⟩) rfl rfl (fun d15 d20 d21 d22 d23 d24 k1 k2 => ?_)
  refine br_f (by decide) ?_
  unfold wL_lawOf_72
  refine br_t rfl ?_
  have e15 : d15 c = v := by
    rw [k2 c (Or.inl (by omega))]
    rw [Nat.zero_mul, Nat.zero_add] at g1
    exact g1
  refine tl_bring (c := c) (y := v + w) hc (by decide) (by decide) (by decide) (by decide) (by decide) (by decide) (by decide) (by decide) (by decide) (by decide) (by decide) (by decide) (by decide) (by decide) (by decide) (by decide) (by decide) (by decide) (by decide) rfl (by decide) (by rw [e15]; rfl) (fun f15 f20 f21 f22 f23 f24 m1 m2 => ?_)
  refine br_f (by decide) ?_
  refine tl_l94 P hc (by decide) (by decide) (by decide) (by decide) (by decide) (by decide) rfl rfl (by decide) (by decide) rfl rfl ⟨rfl, m1, by decide, by decide, by decide, by decide, by decide, by decide, by decide, by decide⟩ ?_
  rw [m2 _ (by omega)]
  exact k1
/-! the law, its cell out of range -/
theorem tl_no {post : Int32 → St0 → Prop} {mc ms kc ks : Nat} {x v w n : Int32} (P : post 1 ()) (hx : x < 0 ∨ ¬ x ≤ 7) : wL_lawOf_25 post mc ms x v w n 0 kc ks 2 0 (fun _ => 0) (fun _ => 0) (fun _ => 0) (fun _ => 0) (fun _ => 0) (fun _ => 0) (fun _ => 0) (fun _ => 0) (fun _ => 0) (fun _ => 0) (fun _ => 0) (fun _ => 0) (fun _ => 0) (fun _ => 0) (fun _ => 0) (fun _ => 0) (fun _ => 0) (fun _ => 0) (fun _ => 0) (fun _ => 0) (fun _ => 0) (fun _ => 0) (fun _ => 0) (fun _ => 0) := by
  unfold wL_lawOf_25
  refine tl_writeBad (r := 0) (by omega) (Or.inl rfl) hx (br_t rfl ?_)
  unfold wL_lawOf_47
  refine br_t rfl (tl_writeBad (r := 1) (by omega) (Or.inr rfl) hx (br_t rfl ?_))
  unfold wL_lawOf_72
  refine br_t rfl (tl_bringBad (fun _ => rfl) (by decide) rfl (by decide) (by decide) (br_t rfl ?_))
  unfold wL_lawOf_94
  refine br_t rfl (tl_cellBad (r := 0) (by omega) hx (br_t rfl ?_))
  unfold wL_lawOf_118
  refine br_t rfl (tl_cellBad (r := 1) (by omega) hx (br_t rfl ?_))
  unfold wL_lawOf_138
  refine br_t rfl (br_t rfl ?_)
  unfold wL_lawOf_152
  unfold wL_lawOf_166
  refine tl_commit0 (Or.inr (by decide)) (br_t rfl (br_t rfl ?_))
  unfold wL_lawOf_203
  refine tl_stableBad (r := 0) (by omega) hx (br_t rfl (tl_cellBad (r := 0) (by omega) hx (br_t rfl ?_)))
  unfold wL_lawOf_236
  refine br_t rfl (tl_committed (r := 1) (by omega) (br_t rfl (tl_standing0 (br_t rfl ?_))))
  unfold wL_lawOf_267
  exact br_t rfl P
theorem tl_init {post : St2 → Prop} (H : post (2, 0, fun _ => 0, fun _ => 0, fun _ => 0, fun _ => 0, fun _ => 0, fun _ => 0, fun _ => 0, fun _ => 0, fun _ => 0, fun _ => 0, fun _ => 0, fun _ => 0, fun _ => 0, fun _ => 0, fun _ => 0, fun _ => 0, fun _ => 0, fun _ => 0, fun _ => 0, fun _ => 0, fun _ => 0, fun _ => 0, fun _ => 0, fun _ => 0)) : wpX_init post 24 1760 (0, 0) 2 := by
  unfold wpX_init
  dsimp only
  refine ⟨by decide, by decide, by decide, by decide, by decide, by decide, by decide, by decide, by decide, by decide, by decide, by decide, by decide, by decide, by decide, by decide, by decide, by decide, by decide, by decide, by decide, by decide, by decide, by decide, by decide, by decide, by decide, by decide, by decide, by decide, by decide, by decide, by decide, by decide, by decide, by decide, by decide, by decide, by decide, by decide, by decide, by decide, by decide, by decide, by decide, by decide, by decide, by decide, br_t (by decide) ?_⟩
  unfold wX_init_206
  exact br_t (by decide) H
theorem tl_lawOf {post : Int32 → St0 → Prop} (x v w n : Int32) (P : post 1 ()) : wpL_lawOf post 25 1786 () x v w n := by
  unfold wpL_lawOf
  refine ⟨by decide, by decide, 24, 1760, by decide, by decide, tl_init ?_⟩
  refine br_c (fun g => ?_) (fun g => br_c (fun g7 => ?_) (fun g7 => ?_))
  · unfold wL_lawOf_24
    exact tl_no P (Or.inl g)
  · unfold wL_lawOf_24
    exact tl_no P (Or.inr (Int32.not_le.mpr g7))
  · obtain ⟨c, hc, e⟩ := nI_of2 (x := x) (M := 7) (n := 7) (by decide) g (Int32.not_lt.mp g7)
    subst e
    exact tl_ok P (by omega)
theorem tl_cellAt {post : Int32 → Prop} {L : Nat} {xs : Nat → Int32} (k : Nat) (hk : k < 4) (hL : L ≤ 4) (H : ∀ x, post x) : wpL_cellAt post L xs () (nI k) := by
  unfold wpL_cellAt
  exact pk_le L k (fun _ => H 0) (fun z => ⟨pk_in k L z, H _⟩)
theorem i_vc (xs : Nat → Int32) (L : Nat) (hL : L ≤ 4) : wpL_law (fun r => r = 1) L xs := by
  unfold wpL_law
  exact tl_cellAt 0 (by omega) hL (fun x => tl_cellAt 1 (by omega) hL (fun v => tl_cellAt 2 (by omega) hL (fun w => tl_cellAt 3 (by omega) hL (fun n => ⟨25, 1786, by omega, by omega, tl_lawOf x v w n rfl⟩))))
end
