section
theorem tl_x48 (r i : Nat) : nI r * 48 + nI i = nI (r * 48 + i) := by
  rw [show (48 : Int32) = nI 48 from rfl, pk_mul, nI_add]
theorem tl_x8 (r i : Nat) : nI r * 8 + nI i = nI (r * 8 + i) := by
  rw [show (8 : Int32) = nI 8 from rfl, pk_mul, nI_add]
theorem tl_x4 (r i : Nat) : nI r * 4 + nI i = nI (r * 4 + i) := by
  rw [show (4 : Int32) = nI 4 from rfl, pk_mul, nI_add]
theorem tl_x480 (r : Nat) : nI r * 48 + 0 = nI (r * 48) := tl_x48 r 0
theorem tl_c4 {r i : Nat} (hr : r < 4) (hi : i < 4) : (nI r * 4 + nI i).toNatClampNeg = r * 4 + i := by
  rw [tl_x4, nI_clamp (by omega)]
theorem tl_c8 {r i : Nat} (hr : r < 4) (hi : i < 8) : (nI r * 8 + nI i).toNatClampNeg = r * 8 + i := by
  rw [tl_x8, nI_clamp (by omega)]
theorem tl_c480 {r : Nat} (hr : r < 4) : (nI r * 48 + 0).toNatClampNeg = r * 48 := by
  rw [tl_x480, nI_clamp (by omega)]
theorem tl_c {r : Nat} (hr : r < 4) : (nI r).toNatClampNeg = r := nI_clamp (by omega)
theorem tl_uc {f : Nat → Int32} {k k' : Nat} {x x' : Int32} (hk : k = k') (hx : x = x') : upd f k x = upd f k' x' := by
  rw [hk, hx]
theorem tl_if {f : Nat → Int32} {k : Nat} {x : Int32} (h : ∀ j, f j = 0) : ∀ j, upd f k x j = if j = k then x else 0 := by
  intro j
  by_cases e : j = k
  · rw [if_pos e, e, pk_us]
  · rw [if_neg e, pk_un e, h]
/-- 'bad' says no -/
theorem tl_bad0 {post : Int32 → Prop} {f1 : Int32} {a1 a2 a3 a4 a5 a6 a7 a8 a9 a10 a11 a12 a13 a14 a15 a16 a17 a18 a19 a20 a21 a22 a23 a24 : Nat → Int32} {m j : Nat} (hm : m ≤ 4) (hj : j < m) (H : post 0) : wpX_bad post (nI m, f1, a1, a2, a3, a4, a5, a6, a7, a8, a9, a10, a11, a12, a13, a14, a15, a16, a17, a18, a19, a20, a21, a22, a23, a24) (nI j) :=
  br_f (nI_pos (by omega)) (br_t (nI_lt hj (by omega)) H)
/-- 'bad' says yes -/
theorem tl_bad1 {post : Int32 → Prop} {f0 f1 : Int32} {a1 a2 a3 a4 a5 a6 a7 a8 a9 a10 a11 a12 a13 a14 a15 a16 a17 a18 a19 a20 a21 a22 a23 a24 : Nat → Int32} {x : Int32} (h : x < 0 ∨ ¬ x < f0) (H : post 1) : wpX_bad post (f0, f1, a1, a2, a3, a4, a5, a6, a7, a8, a9, a10, a11, a12, a13, a14, a15, a16, a17, a18, a19, a20, a21, a22, a23, a24) x :=
  br_c (fun _ => H) (fun z => br_f (h.resolve_left z) H)
/-- nothing applied: nothing undone -/
theorem tl_undo0 {post : St2 → Prop} {f0 f1 : Int32} {a1 a2 a3 a4 a5 a6 a7 a8 a9 a10 a11 a12 a13 a14 a15 a16 a17 a18 a19 a20 a21 a22 a23 a24 : Nat → Int32} {r : Nat} (hr : r < 4) (h : a17 r = 0) (H : post (f0, f1, a1, a2, a3, a4, a5, a6, a7, a8, a9, a10, a11, a12, a13, a14, a15, a16, a17, a18, a19, a20, a21, a22, a23, a24)) : wpX_undoTo post (f0, f1, a1, a2, a3, a4, a5, a6, a7, a8, a9, a10, a11, a12, a13, a14, a15, a16, a17, a18, a19, a20, a21, a22, a23, a24) (nI r) 0 := by
  refine And.intro (pk_in r 4 hr) (nm_r (e' := (-1)) ?_ ⟨0 + 1, ?_⟩)
  · rw [tl_c hr, h]; rfl
  · exact br_t (by decide) H
/-- the first tentative write of a replica -/
theorem tl_insert0 {post : St2 → Prop} {f0 f1 : Int32} {a1 a2 a3 a4 a5 a6 a7 a8 a9 a10 a11 a12 a13 a14 a15 a16 a17 a18 a19 a20 a21 a22 a23 a24 : Nat → Int32} {r : Nat} {w : Int32} (hr : r < 4) (h16 : a16 r = 0) (h17 : a17 r = 0)
    (H : post (f0, f1, a1, a2, a3, a4, a5, a6, a7, a8, a9, a10, a11, a12, a13, a14, a15, upd a16 r 1, a17, upd a18 (r * 48) w, a19, a20, a21, a22, a23, a24)) : wpX_insert post (f0, f1, a1, a2, a3, a4, a5, a6, a7, a8, a9, a10, a11, a12, a13, a14, a15, a16, a17, a18, a19, a20, a21, a22, a23, a24) (nI r) w := by
  refine And.intro (pk_in r 4 hr) (nm_r (e' := 0) (by rw [tl_c hr, h16]) (br_t (by decide) ⟨0 + 1, br_t (by decide) ?_⟩))
  unfold wX_insert_50
  refine tl_undo0 hr h17 ⟨0 + 1, br_t (by decide) ?_⟩
  refine And.intro (pk_in (r * 48) 192 (by omega) (tl_x480 r)) (nm_r (tl_uc (tl_c480 hr) rfl) (And.intro (pk_in r 4 hr) (nm_r (tl_uc (tl_c hr) (show (0 : Int32) + 1 = 1 from rfl)) H)))
end
section
theorem tl_take {post : Int32 → St2 → Prop} {f0 f1 : Int32} {a1 a2 a3 a4 a5 a6 a7 a8 a9 a10 a11 a12 a13 a14 a15 a16 a17 a18 a19 a20 a21 a22 a23 a24 : Nat → Int32} {c j : Nat} {v : Int32} (hc : c < 8) (hj : j < 8) (H : ∀ q b24, post q (f0, f1, a1, a2, a3, a4, a5, a6, a7, a8, a9, a10, a11, a12, a13, a14, a15, a16, a17, a18, a19, a20, a21, a22, a23, b24)) : wpX_take post (f0, f1, a1, a2, a3, a4, a5, a6, a7, a8, a9, a10, a11, a12, a13, a14, a15, a16, a17, a18, a19, a20, a21, a22, a23, a24) (nI c) (nI j) v :=
  And.intro (pk_in c 8 hc) (br_c (fun _ => And.intro (pk_in j 8 hj) (br_c (fun _ => H _ _) (fun _ => And.intro (pk_in j 8 hj) (And.intro (pk_in j 8 hj) (nm_e (H _ _)))))) (fun _ => And.intro (pk_in c 8 hc) (And.intro (pk_in c 8 hc) (nm_e (H _ _)))))
theorem tl_claim {post : Int32 → St2 → Prop} {f0 f1 : Int32} {a1 a2 a3 a4 a5 a6 a7 a8 a9 a10 a11 a12 a13 a14 a15 a16 a17 a18 a19 a20 a21 a22 a23 a24 : Nat → Int32} {c : Nat} {v : Int32} (H : ∀ q b24, post q (f0, f1, a1, a2, a3, a4, a5, a6, a7, a8, a9, a10, a11, a12, a13, a14, a15, a16, a17, a18, a19, a20, a21, a22, a23, b24)) : wpX_claim post (f0, f1, a1, a2, a3, a4, a5, a6, a7, a8, a9, a10, a11, a12, a13, a14, a15, a16, a17, a18, a19, a20, a21, a22, a23, a24) (nI c) v :=
  pk_loop (σ := Unit) (fun n i _ => wX_claim_2 post (nI c) v f0 f1 a1 a2 a3 a4 a5 a6 a7 a8 a9 a10 a11 a12 a13 a14 a15 a16 a17 a18 a19 a20 a21 a22 a23 a24 n (nI i)) (fun _ _ => True) 8 0 () (by omega) trivial
    (fun n _ _ => pk_le 8 8 (fun _ => H _ _) (fun z => absurd z (by omega)))
    (fun n i _ hi _ hw => pk_le 8 i (fun z => absurd z (by omega)) (fun _ => Exists.elim (pk_andE (nI c + nI i) (m := 7) 3 rfl) (fun j h =>
      nm_r h.2 (And.intro (pk_in j 8 h.1) (br_c (fun _ => And.intro (pk_in j 8 h.1) (nm_e (br_c (fun _ => H _ _) (fun _ => H _ _)))) (fun _ => nm_r (nI_1 i) (hw () trivial)))))))
theorem tl_perform {post : Int32 → St2 → Prop} {f0 f1 : Int32} {a1 a2 a3 a4 a5 a6 a7 a8 a9 a10 a11 a12 a13 a14 a15 a16 a17 a18 a19 a20 a21 a22 a23 a24 : Nat → Int32} {c k : Nat} (hc : a5 0 = nI c) (hc8 : c < 8) (hk : a4 0 = nI k) (hk5 : k ≤ 5) (H : ∀ q b24, post q (f0, f1, a1, a2, a3, a4, a5, a6, a7, a8, a9, a10, a11, a12, a13, a14, a15, a16, a17, a18, a19, a20, a21, a22, a23, b24)) : wpX_perform post (f0, f1, a1, a2, a3, a4, a5, a6, a7, a8, a9, a10, a11, a12, a13, a14, a15, a16, a17, a18, a19, a20, a21, a22, a23, a24) 0 := by
  obtain ⟨j, hj, ej⟩ := pk_andE (nI c + 1) (m := 7) 3 rfl
  have hj8 : j < 8 := hj
  have g : vp_in 0 48 := pk_in 0 48 (by omega)
  refine And.intro g (nm_r (e' := nI c) (by rw [sb_cl0]; exact hc) (And.intro g (nm_e (nm_r (e' := nI j) ej (And.intro g (nm_r (e' := nI k) (by rw [sb_cl0]; exact hk) (br_f (nI_pos (by omega)) ?_)))))))
  have h1 : vp_in (nI c) 8 := pk_in c 8 hc8
  have h2 : vp_in (nI j) 8 := pk_in j 8 hj8
  refine pk_lt 4 k (fun _ => And.intro h1 (nm_e (And.intro h2 (And.intro h1 (nm_e (And.intro h2 (nm_e (H _ _)))))))) (fun z => ?_)
  refine pk_eq k 0 (fun _ => And.intro h1 (nm_e (H _ _))) (fun z0 => ?_)
  refine pk_eq k 1 (fun _ => And.intro h1 (And.intro h1 (nm_e (H _ _)))) (fun z1 => ?_)
  refine pk_eq k 2 (fun _ => tl_take hc8 hj8 H) (fun z2 => ?_)
  refine pk_eq k 3 (fun _ => And.intro h1 (br_c (fun _ => And.intro h1 (And.intro h1 (nm_e (And.intro h2 (And.intro h2 (nm_e (H _ _))))))) (fun _ => H _ _))) (fun z3 => ?_)
  exact pk_eq k 4 (fun _ => tl_claim H) (fun _ => trivial)
theorem tl_take_2 {post : Int32 → St2 → Prop} {f0 f1 : Int32} {a1 a2 a3 a4 a5 a6 a7 a8 a9 a10 a11 a12 a13 a14 a15 a16 a17 a18 a19 a20 a21 a22 a23 a24 : Nat → Int32} {c j : Nat} {v : Int32} (hc : c < 8) (hj : j < 8) (H : ∀ q b24, post q (f0, f1, a1, a2, a3, a4, a5, a6, a7, a8, a9, a10, a11, a12, a13, a14, a15, a16, a17, a18, a19, a20, a21, a22, a23, b24)) : wpX_take_2 post (f0, f1, a1, a2, a3, a4, a5, a6, a7, a8, a9, a10, a11, a12, a13, a14, a15, a16, a17, a18, a19, a20, a21, a22, a23, a24) (nI c) (nI j) v :=
  And.intro (pk_in c 8 hc) (br_c (fun _ => And.intro (pk_in j 8 hj) (br_c (fun _ => H _ _) (fun _ => And.intro (pk_in j 8 hj) (And.intro (pk_in j 8 hj) (nm_e (H _ _)))))) (fun _ => And.intro (pk_in c 8 hc) (And.intro (pk_in c 8 hc) (nm_e (H _ _)))))
theorem tl_claim_2 {post : Int32 → St2 → Prop} {f0 f1 : Int32} {a1 a2 a3 a4 a5 a6 a7 a8 a9 a10 a11 a12 a13 a14 a15 a16 a17 a18 a19 a20 a21 a22 a23 a24 : Nat → Int32} {c : Nat} {v : Int32} (H : ∀ q b24, post q (f0, f1, a1, a2, a3, a4, a5, a6, a7, a8, a9, a10, a11, a12, a13, a14, a15, a16, a17, a18, a19, a20, a21, a22, a23, b24)) : wpX_claim_2 post (f0, f1, a1, a2, a3, a4, a5, a6, a7, a8, a9, a10, a11, a12, a13, a14, a15, a16, a17, a18, a19, a20, a21, a22, a23, a24) (nI c) v :=
  pk_loop (σ := Unit) (fun n i _ => wX_claim_2_2 post (nI c) v f0 f1 a1 a2 a3 a4 a5 a6 a7 a8 a9 a10 a11 a12 a13 a14 a15 a16 a17 a18 a19 a20 a21 a22 a23 a24 n (nI i)) (fun _ _ => True) 8 0 () (by omega) trivial
    (fun n _ _ => pk_le 8 8 (fun _ => H _ _) (fun z => absurd z (by omega)))
    (fun n i _ hi _ hw => pk_le 8 i (fun z => absurd z (by omega)) (fun _ => Exists.elim (pk_andE (nI c + nI i) (m := 7) 3 rfl) (fun j h =>
      nm_r h.2 (And.intro (pk_in j 8 h.1) (br_c (fun _ => And.intro (pk_in j 8 h.1) (nm_e (br_c (fun _ => H _ _) (fun _ => H _ _)))) (fun _ => nm_r (nI_1 i) (hw () trivial)))))))
theorem tl_perform_2 {post : Int32 → St2 → Prop} {f0 f1 : Int32} {a1 a2 a3 a4 a5 a6 a7 a8 a9 a10 a11 a12 a13 a14 a15 a16 a17 a18 a19 a20 a21 a22 a23 a24 : Nat → Int32} {c k : Nat} (hc : a5 0 = nI c) (hc8 : c < 8) (hk : a4 0 = nI k) (hk5 : k ≤ 5) (H : ∀ q b24, post q (f0, f1, a1, a2, a3, a4, a5, a6, a7, a8, a9, a10, a11, a12, a13, a14, a15, a16, a17, a18, a19, a20, a21, a22, a23, b24)) : wpX_perform_2 post (f0, f1, a1, a2, a3, a4, a5, a6, a7, a8, a9, a10, a11, a12, a13, a14, a15, a16, a17, a18, a19, a20, a21, a22, a23, a24) 0 := by
  obtain ⟨j, hj, ej⟩ := pk_andE (nI c + 1) (m := 7) 3 rfl
  have hj8 : j < 8 := hj
  have g : vp_in 0 48 := pk_in 0 48 (by omega)
  refine And.intro g (nm_r (e' := nI c) (by rw [sb_cl0]; exact hc) (And.intro g (nm_e (nm_r (e' := nI j) ej (And.intro g (nm_r (e' := nI k) (by rw [sb_cl0]; exact hk) (br_f (nI_pos (by omega)) ?_)))))))
  have h1 : vp_in (nI c) 8 := pk_in c 8 hc8
  have h2 : vp_in (nI j) 8 := pk_in j 8 hj8
  refine pk_lt 4 k (fun _ => And.intro h1 (nm_e (And.intro h2 (And.intro h1 (nm_e (And.intro h2 (nm_e (H _ _)))))))) (fun z => ?_)
  refine pk_eq k 0 (fun _ => And.intro h1 (nm_e (H _ _))) (fun z0 => ?_)
  refine pk_eq k 1 (fun _ => And.intro h1 (And.intro h1 (nm_e (H _ _)))) (fun z1 => ?_)
  refine pk_eq k 2 (fun _ => tl_take_2 hc8 hj8 H) (fun z2 => ?_)
  refine pk_eq k 3 (fun _ => And.intro h1 (br_c (fun _ => And.intro h1 (And.intro h1 (nm_e (And.intro h2 (And.intro h2 (nm_e (H _ _))))))) (fun _ => H _ _))) (fun z3 => ?_)
  exact pk_eq k 4 (fun _ => tl_claim_2 H) (fun _ => trivial)
end
section
theorem tl_first {post : Int32 → Prop} {f0 f1 : Int32} {a1 a2 a3 a4 a5 a6 a7 a8 a9 a10 a11 a12 a13 a14 a15 a16 a17 a18 a19 a20 a21 a22 a23 a24 : Nat → Int32} {r c : Nat} (hr : r < 4) (hc : c < 8) (H : ∀ j, j < 8 → post (nI j)) : wpX_firstChanged post (f0, f1, a1, a2, a3, a4, a5, a6, a7, a8, a9, a10, a11, a12, a13, a14, a15, a16, a17, a18, a19, a20, a21, a22, a23, a24) (nI r) (nI c) :=
  pk_loop (σ := Unit) (fun n i _ => wX_firstChanged_2 post (nI r) (nI c) f0 f1 a1 a2 a3 a4 a5 a6 a7 a8 a9 a10 a11 a12 a13 a14 a15 a16 a17 a18 a19 a20 a21 a22 a23 a24 n (nI i)) (fun _ _ => True) 8 0 () (by omega) trivial
    (fun n _ _ => pk_le 8 8 (fun _ => H c hc) (fun z => absurd z (by omega)))
    (fun n i _ hi _ hw => pk_le 8 i (fun z => absurd z (by omega)) (fun _ => And.intro (pk_in i 8 hi) (And.intro (pk_in (r * 8 + i) 32 (by omega) (tl_x8 r i)) (br_c (fun _ => nm_r (nI_1 i) (hw () trivial)) (fun _ => H i hi)))))
theorem tl_ao155 {post : St2 → Prop} {f0 f1 : Int32} {a1 a2 a3 a4 a5 a6 a7 a8 a9 a10 a11 a12 a13 a14 a15 a16 a17 a18 a19 a20 a21 a22 a23 a24 : Nat → Int32} {r : Nat} (hr : r < 4) (H : ∀ b15, post (f0, f1, a1, a2, a3, a4, a5, a6, a7, a8, a9, a10, a11, a12, a13, a14, b15, a16, a17, a18, a19, a20, a21, a22, a23, a24)) : ∃ n, wX_applyOne_155 post (nI r) f0 f1 n 0 a1 a2 a3 a4 a5 a6 a7 a8 a9 a10 a11 a12 a13 a14 a15 a16 a17 a18 a19 a20 a21 a22 a23 a24 :=
  pk_loop (fun n i s => wX_applyOne_155 post (nI r) f0 f1 n (nI i) a1 a2 a3 a4 a5 a6 a7 a8 a9 a10 a11 a12 a13 a14 s a16 a17 a18 a19 a20 a21 a22 a23 a24) (fun _ _ => True) 8 0 a15 (by omega) trivial
    (fun n s _ => pk_le 8 8 (fun _ => H s) (fun z => absurd z (by omega)))
    (fun n i s hi _ hw => pk_le 8 i (fun z => absurd z (by omega)) (fun _ => And.intro (pk_in i 8 hi) (And.intro (pk_in (r * 8 + i) 32 (by omega) (tl_x8 r i)) (nm_e (nm_r (nI_1 i) (hw _ trivial))))))
theorem tl_ao100 {post : St2 → Prop} {f0 f1 : Int32} {a1 a2 a3 a4 a5 a6 a7 a8 a9 a10 a11 a12 a13 a14 a15 a16 a17 a18 a19 a20 a21 a22 a23 a24 : Nat → Int32} {r p c j : Nat} (hr : r < 4) (hp : p < 192) (hc : c < 8) (hj : j < 8) (H : ∀ b15 b20 b21 b22 b23, post (f0, f1, a1, a2, a3, a4, a5, a6, a7, a8, a9, a10, a11, a12, a13, a14, b15, a16, a17, a18, a19, b20, b21, b22, b23, a24)) : wX_applyOne_100 post (nI r) (nI p) (nI c) (nI j) f0 f1 a1 a2 a3 a4 a5 a6 a7 a8 a9 a10 a11 a12 a13 a14 a15 a16 a17 a18 a19 a20 a21 a22 a23 a24 :=
  And.intro (pk_in p 192 hp) (nm_e (And.intro (pk_in (r * 8 + c) 32 (by omega) (tl_x8 r c)) (And.intro (pk_in p 192 hp) (nm_e (And.intro (pk_in p 192 hp) (nm_e (And.intro (pk_in (r * 8 + j) 32 (by omega) (tl_x8 r j)) (And.intro (pk_in p 192 hp) (nm_e (tl_ao155 hr (fun b15 => H b15 _ _ _ _)))))))))))
theorem tl_one {post : St2 → Prop} {f0 f1 : Int32} {a1 a2 a3 a4 a5 a6 a7 a8 a9 a10 a11 a12 a13 a14 a15 a16 a17 a18 a19 a20 a21 a22 a23 a24 : Nat → Int32} {r c k : Nat} (hr : r < 4) (h18 : a18 (r * 48) = 0) (hc : a5 0 = nI c) (hc8 : c < 8) (hk : a4 0 = nI k) (hk5 : k ≤ 5)
    (H : ∀ b15 b19 b20 b21 b22 b23 b24, post (f0, f1, a1, a2, a3, a4, a5, a6, a7, a8, a9, a10, a11, a12, a13, a14, b15, a16, a17, a18, b19, b20, b21, b22, b23, b24)) : wpX_applyOne post (f0, f1, a1, a2, a3, a4, a5, a6, a7, a8, a9, a10, a11, a12, a13, a14, a15, a16, a17, a18, a19, a20, a21, a22, a23, a24) (nI r) 0 := by
  refine nm_r (e' := nI (r * 48)) (tl_x480 r) (And.intro (pk_in (r * 48) 192 (by omega)) (nm_r (e' := 0) (by rw [nI_clamp (by omega)]; exact h18) ?_))
  refine pk_loop (fun n i s => wX_applyOne_18 post (nI r) (nI (r * 48)) 0 f0 f1 n (nI i) a1 a2 a3 a4 a5 a6 a7 a8 a9 a10 a11 a12 a13 a14 a15 a16 a17 a18 a19 a20 a21 a22 a23 s) (fun _ _ => True) 8 0 a24 (by omega) trivial (fun n s _ => ?_) (fun n i s hi _ hw => ?_)
  · refine pk_le 8 8 (fun _ => ?_) (fun z => absurd z (by omega))
    refine tl_perform hc hc8 hk hk5 (fun q b24 => ?_)
    obtain ⟨j, hj, ej⟩ := pk_andE (nI c + 1) (m := 7) 3 rfl
    have hj8 : j < 8 := hj
    refine And.intro (pk_in (r * 48) 192 (by omega)) (nm_e (And.intro (pk_in 0 48 (by omega)) (nm_r (e' := nI c) (by rw [sb_cl0]; exact hc) (nm_r (e' := nI j) ej (And.intro (pk_in 0 48 (by omega)) (br_c (fun _ => ?_) (fun _ => ?_)))))))
    · exact tl_first hr hc8 (fun i hi => tl_ao100 hr (by omega) hi hj8 (fun b15 b20 b21 b22 b23 => H _ _ _ _ _ _ _))
    · exact tl_ao100 hr (by omega) hc8 hj8 (fun b15 b20 b21 b22 b23 => H _ _ _ _ _ _ _)
  · exact pk_le 8 i (fun z => absurd z (by omega)) (fun _ => And.intro (pk_in (r * 8 + i) 32 (by omega) (tl_x8 r i)) (And.intro (pk_in i 8 hi) (nm_e (nm_r (nI_1 i) (hw _ trivial)))))
/-- nothing waits -/
theorem tl_all0 {post : St2 → Prop} {f0 f1 : Int32} {a1 a2 a3 a4 a5 a6 a7 a8 a9 a10 a11 a12 a13 a14 a15 a16 a17 a18 a19 a20 a21 a22 a23 a24 : Nat → Int32} {r : Nat} (hr : r < 4) (h16 : a16 r = 0) (h17 : a17 r = 0) (H : post (f0, f1, a1, a2, a3, a4, a5, a6, a7, a8, a9, a10, a11, a12, a13, a14, a15, a16, upd a17 r 0, a18, a19, a20, a21, a22, a23, a24)) : wpX_applyAll post (f0, f1, a1, a2, a3, a4, a5, a6, a7, a8, a9, a10, a11, a12, a13, a14, a15, a16, a17, a18, a19, a20, a21, a22, a23, a24) (nI r) := by
  refine And.intro (pk_in r 4 hr) (nm_r (e' := 0) (by rw [tl_c hr, h17]) ⟨0 + 1, ?_⟩)
  exact And.intro (pk_in r 4 hr) (br_t (by rw [tl_c hr, h16]; decide) (And.intro (pk_in r 4 hr) (And.intro (pk_in r 4 hr) (nm_r (tl_uc (tl_c hr) (by rw [tl_c hr, h16])) H))))
/-- one waits -/
theorem tl_all1 {post : St2 → Prop} {f0 f1 : Int32} {a1 a2 a3 a4 a5 a6 a7 a8 a9 a10 a11 a12 a13 a14 a15 a16 a17 a18 a19 a20 a21 a22 a23 a24 : Nat → Int32} {r c k : Nat} (hr : r < 4) (h16 : a16 r = 1) (h17 : a17 r = 0) (h18 : a18 (r * 48) = 0) (hc : a5 0 = nI c) (hc8 : c < 8) (hk : a4 0 = nI k) (hk5 : k ≤ 5)
    (H : ∀ b15 b19 b20 b21 b22 b23 b24, post (f0, f1, a1, a2, a3, a4, a5, a6, a7, a8, a9, a10, a11, a12, a13, a14, b15, a16, upd a17 r 1, a18, b19, b20, b21, b22, b23, b24)) : wpX_applyAll post (f0, f1, a1, a2, a3, a4, a5, a6, a7, a8, a9, a10, a11, a12, a13, a14, a15, a16, a17, a18, a19, a20, a21, a22, a23, a24) (nI r) := by
  refine And.intro (pk_in r 4 hr) (nm_r (e' := 0) (by rw [tl_c hr, h17]) ⟨0 + 1 + 1, ?_⟩)
  refine And.intro (pk_in r 4 hr) (br_f (by rw [tl_c hr, h16]; decide) ?_)
  refine tl_one hr h18 hc hc8 hk hk5 (fun b15 b19 b20 b21 b22 b23 b24 => ?_)
  refine nm_r (e' := 1) rfl ?_
  exact And.intro (pk_in r 4 hr) (br_t (by rw [tl_c hr, h16]; decide) (And.intro (pk_in r 4 hr) (And.intro (pk_in r 4 hr) (nm_r (tl_uc (tl_c hr) (by rw [tl_c hr, h16])) (H _ _ _ _ _ _ _)))))
end
section
/-- what stands behind 'write': e writes (0 or 1), the one by replica r, kind k, cell c -/
def tl_W (r k c : Nat) (a1 a2 a4 a5 : Nat → Int32) : Prop := a1 0 = nI r ∧ a2 0 = 0 ∧ a4 0 = nI k ∧ a5 0 = nI c ∧ k ≤ 5 ∧ c < 8
def tl_P (r k c e : Nat) (a1 a2 a4 a5 a8 a10 a12 a16 a17 a18 : Nat → Int32) : Prop :=
  e ≤ 1 ∧ r < 4 ∧ (e = 1 → tl_W r k c a1 a2 a4 a5) ∧ (∀ j, a8 j = if j = r * 4 + r then nI e else 0) ∧ (∀ j, a10 j = 0) ∧ (∀ j, a12 j = 0) ∧
  (∀ j, a16 j = if j = r then nI e else 0) ∧ (∀ j, a17 j = if j = r then nI e else 0) ∧ (∀ j, a18 j = 0)
theorem tl_P0 (r k c : Nat) (hr : r < 4) : tl_P r k c 0 (fun _ => 0) (fun _ => 0) (fun _ => 0) (fun _ => 0) (fun _ => 0) (fun _ => 0) (fun _ => 0) (fun _ => 0) (fun _ => 0) (fun _ => 0) := by
  refine ⟨by omega, hr, fun z => absurd z (by omega), fun j => ?_, fun _ => rfl, fun _ => rfl, fun j => ?_, fun j => ?_, fun _ => rfl⟩
  · split <;> rfl
  · split <;> rfl
  · split <;> rfl
theorem tl_w1 {post : Int32 → St2 → Prop} {f0 f1 : Int32} {a1 a2 a3 a4 a5 a6 a7 a8 a9 a10 a11 a12 a13 a14 a15 a16 a17 a18 a19 a20 a21 a22 a23 a24 : Nat → Int32} {x y z v : Int32} (h : x < 0 ∨ ¬ x < f0) (H : post (-1) (f0, f1, a1, a2, a3, a4, a5, a6, a7, a8, a9, a10, a11, a12, a13, a14, a15, a16, a17, a18, a19, a20, a21, a22, a23, a24)) : wpX_write post (f0, f1, a1, a2, a3, a4, a5, a6, a7, a8, a9, a10, a11, a12, a13, a14, a15, a16, a17, a18, a19, a20, a21, a22, a23, a24) x y z v := by
  unfold wpX_write
  exact tl_bad1 h (br_f (by decide) H)
theorem tl_w2 {post : Int32 → St2 → Prop} {f1 : Int32} {a1 a2 a3 a4 a5 a6 a7 a8 a9 a10 a11 a12 a13 a14 a15 a16 a17 a18 a19 a20 a21 a22 a23 a24 : Nat → Int32} {m r : Nat} {y z v : Int32} (hm : m ≤ 4) (hr : r < m) (h : y < 0 ∨ ¬ y ≤ 5) (H : post (-2) (nI m, f1, a1, a2, a3, a4, a5, a6, a7, a8, a9, a10, a11, a12, a13, a14, a15, a16, a17, a18, a19, a20, a21, a22, a23, a24)) : wpX_write post (nI m, f1, a1, a2, a3, a4, a5, a6, a7, a8, a9, a10, a11, a12, a13, a14, a15, a16, a17, a18, a19, a20, a21, a22, a23, a24) (nI r) y z v := by
  unfold wpX_write
  exact tl_bad0 hm hr (br_t rfl (br_c (fun _ => H) (fun g => br_f (h.resolve_left g) H)))
theorem tl_w3 {post : Int32 → St2 → Prop} {f1 : Int32} {a1 a2 a3 a4 a5 a6 a7 a8 a9 a10 a11 a12 a13 a14 a15 a16 a17 a18 a19 a20 a21 a22 a23 a24 : Nat → Int32} {m r : Nat} {y z v : Int32} (hm : m ≤ 4) (hr : r < m) (hy : ¬ y < 0) (hy' : y ≤ 5) (h : z < 0 ∨ ¬ z ≤ 7) (H : post (-3) (nI m, f1, a1, a2, a3, a4, a5, a6, a7, a8, a9, a10, a11, a12, a13, a14, a15, a16, a17, a18, a19, a20, a21, a22, a23, a24)) : wpX_write post (nI m, f1, a1, a2, a3, a4, a5, a6, a7, a8, a9, a10, a11, a12, a13, a14, a15, a16, a17, a18, a19, a20, a21, a22, a23, a24) (nI r) y z v := by
  unfold wpX_write
  exact tl_bad0 hm hr (br_t rfl (br_f hy (br_t hy' (br_c (fun _ => H) (fun g => br_f (h.resolve_left g) H)))))
/-- the write on the new object -/
theorem tl_w0 {post : Int32 → St2 → Prop} {m r k c : Nat} {v : Int32} (hm : m ≤ 4) (hr : r < m) (hk : k ≤ 5) (hc : c < 8)
    (H : ∀ b1 b2 b3 b4 b5 b6 b7 b8 b15 b16 b17 b18 b19 b20 b21 b22 b23 b24, tl_P r k c 1 b1 b2 b4 b5 b8 (fun _ => 0) (fun _ => 0) b16 b17 b18 → post 0 (nI m, 1, b1, b2, b3, b4, b5, b6, b7, b8, (fun _ => 0), (fun _ => 0), (fun _ => 0), (fun _ => 0), (fun _ => 0), (fun _ => 0), b15, b16, b17, b18, b19, b20, b21, b22, b23, b24)) :
    wpX_write post (nI m, 0, (fun _ => 0), (fun _ => 0), (fun _ => 0), (fun _ => 0), (fun _ => 0), (fun _ => 0), (fun _ => 0), (fun _ => 0), (fun _ => 0), (fun _ => 0), (fun _ => 0), (fun _ => 0), (fun _ => 0), (fun _ => 0), (fun _ => 0), (fun _ => 0), (fun _ => 0), (fun _ => 0), (fun _ => 0), (fun _ => 0), (fun _ => 0), (fun _ => 0), (fun _ => 0), (fun _ => 0)) (nI r) (nI k) (nI c) v := by
  have r4 : r < 4 := by omega
  unfold wpX_write
  refine tl_bad0 hm hr (br_t rfl (br_f (nI_pos (by omega)) (br_t (nI_le (b := 5) hk (by omega)) (br_f (nI_pos (by omega)) (br_t (nI_le (b := 7) (by omega) (by omega)) (br_t (by decide) ?_))))))
  have i4 : vp_in (nI r) 4 := pk_in r 4 r4
  have g : vp_in 0 48 := pk_in 0 48 (by omega)
  have i16 : vp_in (nI r * 4 + nI r) 16 := pk_in (r * 4 + r) 16 (by omega) (tl_x4 r r)
  refine And.intro i4 (And.intro i4 (nm_e (And.intro g (nm_e (And.intro i16 (And.intro g (nm_e (And.intro i4 (And.intro g (nm_e (And.intro g (nm_e (And.intro g (nm_e (And.intro g (nm_e (nm_r (e' := 1) rfl ?_)))))))))))))))))
  refine tl_insert0 r4 rfl rfl ?_
  refine And.intro i16 (And.intro i16 (nm_r (e' := upd (fun _ => 0) (r * 4 + r) 1) (tl_uc (tl_c4 r4 r4) rfl) ?_))
  refine tl_all1 (c := c) (k := k) r4 pk_us rfl ?_ ?_ hc ?_ hk (fun b15 b19 b20 b21 b22 b23 b24 => ?_)
  · exact pk_us
  · exact pk_us
  · exact pk_us
  · refine H _ _ _ _ _ _ _ _ _ _ _ _ _ _ _ _ _ _ ⟨by omega, r4, fun _ => ⟨pk_us, pk_us, pk_us, pk_us, hk, hc⟩, tl_if (fun _ => rfl), fun _ => rfl, fun _ => rfl, tl_if (fun _ => rfl), tl_if (fun _ => rfl), fun j => ?_⟩
    rw [tl_if (fun _ => rfl)]
    split <;> rfl
theorem tl_acc (r i e : Nat) : nI (if r < i then e else 0) + (if r * 4 + i = r * 4 + r then nI e else 0) = nI (if r < i + 1 then e else 0) := by
  by_cases h : i = r
  · rw [if_neg (by omega), if_pos (by omega), if_pos (by omega), nI_add, Nat.zero_add]
  · rw [if_neg (c := r * 4 + i = r * 4 + r) (by omega), ← nI_0, nI_add, Nat.add_zero]
    by_cases g : r < i
    · rw [if_pos g, if_pos (by omega)]
    · rw [if_neg g, if_neg (by omega)]
theorem tl_known1 {post : Int32 → Prop} {f0 f1 : Int32} {a1 a2 a3 a4 a5 a6 a7 a8 a9 a10 a11 a12 a13 a14 a15 a16 a17 a18 a19 a20 a21 a22 a23 a24 : Nat → Int32} {x : Int32} (h : x < 0 ∨ ¬ x < f0) (H : post (-1)) : wpX_known post (f0, f1, a1, a2, a3, a4, a5, a6, a7, a8, a9, a10, a11, a12, a13, a14, a15, a16, a17, a18, a19, a20, a21, a22, a23, a24) x := by
  unfold wpX_known
  exact tl_bad1 h (br_f (by decide) H)
theorem tl_known {post : Int32 → Prop} {f1 : Int32} {a1 a2 a3 a4 a5 a6 a7 a8 a9 a10 a11 a12 a13 a14 a15 a16 a17 a18 a19 a20 a21 a22 a23 a24 : Nat → Int32} {m r e : Nat} (hm : m ≤ 4) (hr : r < m) (h8 : ∀ j, a8 j = if j = r * 4 + r then nI e else 0) (H : post (nI e)) : wpX_known post (nI m, f1, a1, a2, a3, a4, a5, a6, a7, a8, a9, a10, a11, a12, a13, a14, a15, a16, a17, a18, a19, a20, a21, a22, a23, a24) (nI r) := by
  unfold wpX_known
  refine tl_bad0 hm hr (br_t rfl ?_)
  refine pk_loop (fun n i s => wX_known_14 post (nI r) (nI m) f1 a1 a2 a3 a4 a5 a6 a7 a8 a9 a10 a11 a12 a13 a14 a15 a16 a17 a18 a19 a20 a21 a22 a23 a24 n s (nI i)) (fun i s => s = nI (if r < i then e else 0)) 4 0 0 (by omega) rfl (fun n s hs => ?_) (fun n i s hi hs hw => ?_)
  · refine pk_le 4 4 (fun _ => ?_) (fun z => absurd z (by omega))
    rw [hs, if_pos (by omega)]
    exact H
  · refine pk_le 4 i (fun z => absurd z (by omega)) (fun _ => And.intro (pk_in (r * 4 + i) 16 (by omega) (tl_x4 r i)) (nm_e (nm_r (nI_1 i) (hw _ ?_))))
    rw [tl_c4 (by omega) hi, h8, hs]
    exact tl_acc r i e
end
section
theorem tl_acc2 (r i e : Nat) : (if r < i then e else 0) + (if i = r then e else 0) = if r < i + 1 then e else 0 := by
  by_cases h : i = r
  · rw [if_neg (by omega), if_pos h, if_pos (by omega), Nat.zero_add]
  · rw [if_neg (c := i = r) h, Nat.add_zero]
    by_cases g : r < i
    · rw [if_pos g, if_pos (by omega)]
    · rw [if_neg g, if_neg (by omega)]
theorem tl_b31 {post : Int32 → St2 → Prop} {f0 f1 : Int32} {a1 a2 a3 a4 a5 a6 a7 a8 a9 a10 a11 a12 a13 a14 a15 a16 a17 a18 a19 a20 a21 a22 a23 a24 : Nat → Int32} {r t e : Nat} (hr : r < 4) (ht : t < 4) (hrt : r ≠ t) (he : e ≤ 1) (h8 : ∀ j, a8 j = if j = r * 4 + r then nI e else 0) (h10 : ∀ j, a10 j = 0)
    (H : ∃ n, wX_bring_126 post (nI r) (nI t) (nI e) n 0 f0 f1 a1 a2 a3 a4 a5 a6 a7 a8 a9 a10 a11 a12 a13 a14 a15 a16 a17 a18 a19 a20 a21 a22 a23 a24) : ∃ n, wX_bring_31 post (nI r) (nI t) f0 f1 a1 a2 a3 a4 a5 a6 a7 a8 a9 a10 a11 a12 a13 a14 a15 a16 a17 a18 a19 a20 a21 a22 a23 a24 n 0 0 := by
  refine pk_loop (fun n i s => wX_bring_31 post (nI r) (nI t) f0 f1 a1 a2 a3 a4 a5 a6 a7 a8 a9 a10 a11 a12 a13 a14 a15 a16 a17 a18 a19 a20 a21 a22 a23 a24 n s (nI i)) (fun i s => s = nI (if r < i then e else 0)) 4 0 0 (by omega) rfl (fun n s hs => ?_) (fun n i s hi hs hw => ?_)
  · have hs' : s = nI e := by rw [hs, if_pos hr]
    subst hs'
    exact pk_le 4 4 (fun _ => And.intro (pk_in r 4 hr) (And.intro (pk_in t 4 ht) (br_t (by rw [h10, h10]; decide) H))) (fun z => absurd z (by omega))
  · have e1 : a8 (nI r * 4 + nI i).toNatClampNeg - a8 (nI t * 4 + nI i).toNatClampNeg = nI (if i = r then e else 0) := by
      rw [tl_c4 hr hi, tl_c4 ht hi, h8, h8, if_neg (c := t * 4 + i = r * 4 + r) (by omega), Int32.sub_zero]
      by_cases h : i = r
      · rw [if_pos h, if_pos (by omega)]
      · rw [if_neg h, if_neg (by omega), nI_0]
    have hd : (if i = r then e else 0) ≤ 1 := by split <;> omega
    have ac := tl_acc2 r i e
    refine pk_le 4 i (fun z => absurd z (by omega)) (fun _ => And.intro (pk_in (r * 4 + i) 16 (by omega) (tl_x4 r i)) (And.intro (pk_in (t * 4 + i) 16 (by omega) (tl_x4 t i)) (nm_r e1 ?_)))
    generalize (if i = r then e else 0) = d at hd ac ⊢
    refine pk_le d 0 (fun z => nm_r (nI_1 i) (hw s ?_)) (fun z => nm_e (nm_r (nI_1 i) (hw _ ?_)))
    · rw [hs, ← ac, show d = 0 by omega, Nat.add_zero]
    · rw [hs, ← ac, nI_add]
theorem tl_b193 {post : Int32 → St2 → Prop} {f0 f1 : Int32} {a1 a2 a3 a4 a5 a6 a7 a8 a9 a10 a11 a12 a13 a14 a15 a16 a17 a18 a19 a20 a21 a22 a23 a24 : Nat → Int32} {r t : Nat} {x : Int32} (hr : r < 4) (ht : t < 4)
    (H : ∀ b7 b8, wX_bring_274 post (nI t) x f0 f1 a1 a2 a3 a4 a5 a6 b7 b8 a9 a10 a11 a12 a13 a14 a15 a16 a17 a18 a19 a20 a21 a22 a23 a24) : ∃ n, wX_bring_193 post (nI r) (nI t) x f0 f1 n 0 a1 a2 a3 a4 a5 a6 a7 a8 a9 a10 a11 a12 a13 a14 a15 a16 a17 a18 a19 a20 a21 a22 a23 a24 :=
  pk_loop (fun n i s => wX_bring_193 post (nI r) (nI t) x f0 f1 n (nI i) a1 a2 a3 a4 a5 a6 a7 s a9 a10 a11 a12 a13 a14 a15 a16 a17 a18 a19 a20 a21 a22 a23 a24) (fun _ _ => True) 4 0 a8 (by omega) trivial
    (fun n s _ => pk_le 4 4 (fun _ => And.intro (pk_in r 4 hr) (And.intro (pk_in t 4 ht) (br_c (fun _ => H a7 s) (fun _ => And.intro (pk_in r 4 hr) (And.intro (pk_in t 4 ht) (nm_e (H _ s))))))) (fun z => absurd z (by omega)))
    (fun n i s hi _ hw => pk_le 4 i (fun z => absurd z (by omega)) (fun _ => And.intro (pk_in (r * 4 + i) 16 (by omega) (tl_x4 r i)) (nm_e (And.intro (pk_in (t * 4 + i) 16 (by omega) (tl_x4 t i)) (br_c (fun _ => nm_r (nI_1 i) (hw _ trivial)) (fun _ => And.intro (pk_in (t * 4 + i) 16 (by omega) (tl_x4 t i)) (nm_e (nm_r (nI_1 i) (hw _ trivial)))))))))
/-- a meeting of two replicas, the state behind it in words -/
def tl_M (t e : Nat) (a16 a17 b16 b17 b18 : Nat → Int32) : Prop :=
  b16 t = nI e ∧ (∀ j, j ≠ t → b16 j = a16 j) ∧ b17 t = nI e ∧ (∀ j, j ≠ t → b17 j = a17 j) ∧ (∀ j, b18 j = 0)
theorem tl_b126z {post : Int32 → St2 → Prop} {f0 f1 : Int32} {a1 a2 a3 a4 a5 a6 a7 a8 a9 a10 a11 a12 a13 a14 a15 a16 a17 a18 a19 a20 a21 a22 a23 a24 : Nat → Int32} {r t : Nat} (hr : r < 4) (ht : t < 4) (h16 : ∀ j, a16 j = 0) (h17 : ∀ j, a17 j = 0) (h18 : ∀ j, a18 j = 0)
    (H : ∀ b7 b8 b15 b16 b17 b18 b19 b20 b21 b22 b23 b24, tl_M t 0 a16 a17 b16 b17 b18 → post (nI 0) (f0, f1, a1, a2, a3, a4, a5, a6, b7, b8, a9, a10, a11, a12, a13, a14, b15, b16, b17, b18, b19, b20, b21, b22, b23, b24)) : ∃ n, wX_bring_126 post (nI r) (nI t) (nI 0) n 0 f0 f1 a1 a2 a3 a4 a5 a6 a7 a8 a9 a10 a11 a12 a13 a14 a15 a16 a17 a18 a19 a20 a21 a22 a23 a24 := by
  refine ⟨0 + 1, And.intro (pk_in r 4 hr) (br_t (by rw [h16]; decide) (tl_b193 hr ht (fun b7 b8 => ?_)))⟩
  unfold wX_bring_274
  exact tl_all0 ht (h16 t) (h17 t) (H _ _ _ _ _ _ _ _ _ _ _ _ ⟨h16 t, fun _ _ => rfl, pk_us, fun j hj => pk_un hj, h18⟩)
theorem tl_b126o {post : Int32 → St2 → Prop} {f0 f1 : Int32} {a1 a2 a3 a4 a5 a6 a7 a8 a9 a10 a11 a12 a13 a14 a15 a16 a17 a18 a19 a20 a21 a22 a23 a24 : Nat → Int32} {r t k c : Nat} (hr : r < 4) (ht : t < 4) (hrt : r ≠ t) (w : tl_W r k c a1 a2 a4 a5)
    (h8 : a8 (t * 4 + r) = 0) (h16 : a16 r = 1) (h16' : a16 t = 0) (h17 : a17 t = 0) (h18 : ∀ j, a18 j = 0)
    (H : ∀ b7 b8 b15 b16 b17 b18 b19 b20 b21 b22 b23 b24, tl_M t 1 a16 a17 b16 b17 b18 → post (nI 1) (f0, f1, a1, a2, a3, a4, a5, a6, b7, b8, a9, a10, a11, a12, a13, a14, b15, b16, b17, b18, b19, b20, b21, b22, b23, b24)) : ∃ n, wX_bring_126 post (nI r) (nI t) (nI 1) n 0 f0 f1 a1 a2 a3 a4 a5 a6 a7 a8 a9 a10 a11 a12 a13 a14 a15 a16 a17 a18 a19 a20 a21 a22 a23 a24 := by
  obtain ⟨w1, w2, w4, w5, hk, hc⟩ := w
  have g : vp_in 0 48 := pk_in 0 48 (by omega)
  have e1 : nI t * 4 + a1 (0 : Int32).toNatClampNeg = nI (t * 4 + r) := by rw [sb_cl0, w1, tl_x4]
  have e2 : (nI t * 4 + a1 (0 : Int32).toNatClampNeg).toNatClampNeg = t * 4 + r := by rw [e1, nI_clamp (by omega)]
  refine ⟨0 + 1 + 1, And.intro (pk_in r 4 hr) (br_f (by rw [tl_c hr, h16]; decide) (And.intro (pk_in (r * 48) 192 (by omega) (tl_x480 r)) (nm_r (e' := 0) (h18 _) (And.intro g (And.intro g (And.intro (pk_in (t * 4 + r) 16 (by omega) e1) (br_f ?_ ?_)))))))⟩
  · rw [e2, h8, sb_cl0, w2]; decide
  · refine tl_insert0 ht h16' h17 (nm_r (e' := 1) rfl ?_)
    refine And.intro (pk_in r 4 hr) (br_t (by rw [tl_c hr, pk_un hrt, h16]; decide) (tl_b193 hr ht (fun b7 b8 => ?_)))
    unfold wX_bring_274
    refine tl_all1 ht pk_us h17 pk_us w5 hc w4 hk (fun b15 b19 b20 b21 b22 b23 b24 => H _ _ _ _ _ _ _ _ _ _ _ _ ⟨pk_us, fun j hj => pk_un hj, pk_us, fun j hj => pk_un hj, fun j => ?_⟩)
    rw [tl_if h18]
    split <;> rfl
theorem tl_bring {post : Int32 → St2 → Prop} {f1 : Int32} {a1 a2 a3 a4 a5 a6 a7 a8 a9 a10 a11 a12 a13 a14 a15 a16 a17 a18 a19 a20 a21 a22 a23 a24 : Nat → Int32} {m r t k c e : Nat} (hm : m ≤ 4) (hr : r < m) (ht : t < m) (hrt : r ≠ t) (p : tl_P r k c e a1 a2 a4 a5 a8 a10 a12 a16 a17 a18)
    (H : ∀ b7 b8 b15 b16 b17 b18 b19 b20 b21 b22 b23 b24, tl_M t e a16 a17 b16 b17 b18 → post (nI e) (nI m, f1, a1, a2, a3, a4, a5, a6, b7, b8, a9, a10, a11, a12, a13, a14, b15, b16, b17, b18, b19, b20, b21, b22, b23, b24)) : wpX_bring post (nI m, f1, a1, a2, a3, a4, a5, a6, a7, a8, a9, a10, a11, a12, a13, a14, a15, a16, a17, a18, a19, a20, a21, a22, a23, a24) (nI r) (nI t) := by
  obtain ⟨he, r4, w, p8, p10, p12, p16, p17, p18⟩ := p
  have t4 : t < 4 := by omega
  unfold wpX_bring
  refine tl_bad0 hm hr (br_t rfl (tl_bad0 hm ht (br_t rfl (br_f (fun z => hrt ((nI_eq (by omega) (by omega)).mp z)) (tl_b31 r4 t4 hrt he p8 p10 ?_)))))
  rcases Nat.lt_or_ge e 1 with z | z
  · obtain rfl : e = 0 := by omega
    exact tl_b126z r4 t4 (fun j => by rw [p16]; split <;> rfl) (fun j => by rw [p17]; split <;> rfl) p18 H
  · obtain rfl : e = 1 := by omega
    exact tl_b126o r4 t4 hrt (w rfl) (by rw [p8, if_neg (by omega)]) (by rw [p16, if_pos rfl]; rfl) (by rw [p16, if_neg (by omega)]) (by rw [p17, if_neg (by omega)]) p18 H
theorem tl_bring5 {post : Int32 → St2 → Prop} {f1 : Int32} {a1 a2 a3 a4 a5 a6 a7 a8 a9 a10 a11 a12 a13 a14 a15 a16 a17 a18 a19 a20 a21 a22 a23 a24 : Nat → Int32} {m r : Nat} (hm : m ≤ 4) (hr : r < m) (H : post (-5) (nI m, f1, a1, a2, a3, a4, a5, a6, a7, a8, a9, a10, a11, a12, a13, a14, a15, a16, a17, a18, a19, a20, a21, a22, a23, a24)) : wpX_bring post (nI m, f1, a1, a2, a3, a4, a5, a6, a7, a8, a9, a10, a11, a12, a13, a14, a15, a16, a17, a18, a19, a20, a21, a22, a23, a24) (nI r) (nI r) := by
  unfold wpX_bring
  exact tl_bad0 hm hr (br_t rfl (tl_bad0 hm hr (br_t rfl (br_t rfl H))))
theorem tl_bring1 {post : Int32 → St2 → Prop} {f0 f1 : Int32} {a1 a2 a3 a4 a5 a6 a7 a8 a9 a10 a11 a12 a13 a14 a15 a16 a17 a18 a19 a20 a21 a22 a23 a24 : Nat → Int32} {x y : Int32} (h : x < 0 ∨ ¬ x < f0) (H : post (-1) (f0, f1, a1, a2, a3, a4, a5, a6, a7, a8, a9, a10, a11, a12, a13, a14, a15, a16, a17, a18, a19, a20, a21, a22, a23, a24)) : wpX_bring post (f0, f1, a1, a2, a3, a4, a5, a6, a7, a8, a9, a10, a11, a12, a13, a14, a15, a16, a17, a18, a19, a20, a21, a22, a23, a24) x y := by
  unfold wpX_bring
  exact tl_bad1 h (br_f (by decide) H)
theorem tl_bring2 {post : Int32 → St2 → Prop} {f1 : Int32} {a1 a2 a3 a4 a5 a6 a7 a8 a9 a10 a11 a12 a13 a14 a15 a16 a17 a18 a19 a20 a21 a22 a23 a24 : Nat → Int32} {m r : Nat} {y : Int32} (hm : m ≤ 4) (hr : r < m) (h : y < 0 ∨ ¬ y < nI m) (H : post (-1) (nI m, f1, a1, a2, a3, a4, a5, a6, a7, a8, a9, a10, a11, a12, a13, a14, a15, a16, a17, a18, a19, a20, a21, a22, a23, a24)) : wpX_bring post (nI m, f1, a1, a2, a3, a4, a5, a6, a7, a8, a9, a10, a11, a12, a13, a14, a15, a16, a17, a18, a19, a20, a21, a22, a23, a24) (nI r) y := by
  unfold wpX_bring
  exact tl_bad0 hm hr (br_t rfl (tl_bad1 h (br_f (by decide) H)))
end
section
/-- what commit, committed and trim rest on: e writes wait at replica 0, all applied -/
def tl_Q (e : Nat) (a1 a4 a5 a10 a12 a16 a17 a18 : Nat → Int32) : Prop :=
  (e = 1 → ∃ r k c : Nat, a1 0 = nI r ∧ a4 0 = nI k ∧ a5 0 = nI c ∧ r < 4 ∧ k ≤ 5 ∧ c < 8) ∧ (∀ j, a10 j = 0) ∧ (∀ j, a12 j = 0) ∧ a16 0 = nI e ∧ a17 0 = nI e ∧ a18 0 = 0
theorem tl_rem {post : St2 → Prop} {f0 f1 : Int32} {a1 a2 a3 a4 a5 a6 a7 a8 a9 a10 a11 a12 a13 a14 a15 a16 a17 a18 a19 a20 a21 a22 a23 a24 : Nat → Int32} (h16 : a16 0 = 1) (h17 : a17 0 = 1) (h18 : a18 0 = 0)
    (H : post (f0, f1, a1, a2, a3, a4, a5, a6, a7, a8, a9, a10, a11, a12, a13, a14, a15, upd a16 0 0, upd a17 0 0, a18, a19, a20, a21, a22, a23, a24)) : wpX_removeTentative post (f0, f1, a1, a2, a3, a4, a5, a6, a7, a8, a9, a10, a11, a12, a13, a14, a15, a16, a17, a18, a19, a20, a21, a22, a23, a24) 0 0 := by
  have g : vp_in 0 4 := pk_in 0 4 (by omega)
  refine And.intro g (nm_r (e' := 1) (by rw [sb_cl0, h16]) ⟨0 + 1, br_f (by decide) (And.intro (pk_in 0 192 (by omega) rfl) (br_t ?_ ?_))⟩)
  · exact h18
  · unfold wX_removeTentative_38
    refine br_t (by decide) (nm_r (e' := 0) rfl ⟨0 + 1, br_t (by decide) (And.intro g (nm_r (e' := upd a16 0 0) rfl (And.intro g (br_f ?_ (And.intro g (And.intro g (nm_r (e' := upd a17 0 0) ?_ H)))))))⟩)
    · rw [sb_cl0, h17]; decide
    · rw [sb_cl0, h17]; rfl
theorem tl_f97 {post : St2 → Prop} {f0 f1 : Int32} {a1 a2 a3 a4 a5 a6 a7 a8 a9 a10 a11 a12 a13 a14 a15 a16 a17 a18 a19 a20 a21 a22 a23 a24 : Nat → Int32} {r : Nat} (hr : r < 4) (h1 : a1 0 = nI r) (h10 : a10 0 = 0)
    (H : ∀ b9 b13 b14, post (f0, f1, a1, a2, a3, a4, a5, a6, a7, a8, b9, upd a10 0 1, a11, a12, b13, b14, a15, a16, a17, a18, a19, a20, a21, a22, a23, a24)) : ∃ n, wX_fix_97 post 0 0 1 f0 f1 n 0 a1 a2 a3 a4 a5 a6 a7 a8 a9 a10 a11 a12 a13 a14 a15 a16 a17 a18 a19 a20 a21 a22 a23 a24 := by
  have g : vp_in 0 4 := pk_in 0 4 (by omega)
  have e1 : (0 : Int32) * 4 + a1 (0 : Int32).toNatClampNeg = nI (0 * 4 + r) := by rw [sb_cl0, h1]; exact tl_x4 0 r
  have v1 : vp_in ((0 : Int32) * 4 + a1 (0 : Int32).toNatClampNeg) 16 := pk_in (0 * 4 + r) 16 (by omega) e1
  refine pk_loop (fun n i s => wX_fix_97 post 0 0 1 f0 f1 n (nI i) a1 a2 a3 a4 a5 a6 a7 a8 a9 a10 a11 a12 a13 s a15 a16 a17 a18 a19 a20 a21 a22 a23 a24) (fun _ _ => True) 8 0 a14 (by omega) trivial (fun n s _ => ?_) (fun n i s hi _ hw => ?_)
  · refine pk_le 8 8 (fun _ => ?_) (fun z => absurd z (by omega))
    refine And.intro g (And.intro (pk_in 0 192 (by omega) (by rw [sb_cl0, h10]; rfl)) (nm_e (And.intro g (And.intro g (nm_r (e' := upd a10 0 1) (by rw [sb_cl0, h10]; rfl) (And.intro (pk_in 0 48 (by omega)) (And.intro v1 (And.intro v1 (nm_e (H _ _ _))))))))))
  · exact pk_le 8 i (fun z => absurd z (by omega)) (fun _ => And.intro (pk_in i 8 hi) (And.intro (pk_in (0 * 8 + i) 32 (by omega) (tl_x8 0 i)) (nm_e (br_f (by decide) (nm_r (nI_1 i) (hw _ trivial))))))
theorem tl_f56 {post : St2 → Prop} {f0 f1 : Int32} {a1 a2 a3 a4 a5 a6 a7 a8 a9 a10 a11 a12 a13 a14 a15 a16 a17 a18 a19 a20 a21 a22 a23 a24 : Nat → Int32} {r k c : Nat} (hr : r < 4) (h1 : a1 0 = nI r) (h10 : a10 0 = 0) (hc : a5 0 = nI c) (hc8 : c < 8) (hk : a4 0 = nI k) (hk5 : k ≤ 5)
    (H : ∀ b9 b13 b14 b24, post (f0, f1, a1, a2, a3, a4, a5, a6, a7, a8, b9, upd a10 0 1, a11, a12, b13, b14, a15, a16, a17, a18, a19, a20, a21, a22, a23, b24)) : ∃ n, wX_fix_56 post 0 0 1 f0 f1 n 0 a1 a2 a3 a4 a5 a6 a7 a8 a9 a10 a11 a12 a13 a14 a15 a16 a17 a18 a19 a20 a21 a22 a23 a24 :=
  pk_loop (fun n i s => wX_fix_56 post 0 0 1 f0 f1 n (nI i) a1 a2 a3 a4 a5 a6 a7 a8 a9 a10 a11 a12 a13 a14 a15 a16 a17 a18 a19 a20 a21 a22 a23 s) (fun _ _ => True) 8 0 a24 (by omega) trivial
    (fun n s _ => pk_le 8 8 (fun _ => tl_perform_2 hc hc8 hk hk5 (fun q b24 => tl_f97 hr h1 h10 (fun b9 b13 b14 => H _ _ _ _))) (fun z => absurd z (by omega)))
    (fun n i s hi _ hw => pk_le 8 i (fun z => absurd z (by omega)) (fun _ => And.intro (pk_in (0 * 8 + i) 32 (by omega) (tl_x8 0 i)) (And.intro (pk_in i 8 hi) (nm_e (nm_r (nI_1 i) (hw _ trivial))))))
theorem tl_fix {post : St2 → Prop} {f0 f1 : Int32} {a1 a2 a3 a4 a5 a6 a7 a8 a9 a10 a11 a12 a13 a14 a15 a16 a17 a18 a19 a20 a21 a22 a23 a24 : Nat → Int32} {w : Int32} (q : tl_Q 1 a1 a4 a5 a10 a12 a16 a17 a18) (hw : w = 0)
    (H : ∀ b9 b13 b14 b24, post (f0, f1, a1, a2, a3, a4, a5, a6, a7, a8, b9, upd a10 0 1, a11, a12, b13, b14, a15, upd a16 0 0, upd a17 0 0, a18, a19, a20, a21, a22, a23, b24)) : wpX_fix post (f0, f1, a1, a2, a3, a4, a5, a6, a7, a8, a9, a10, a11, a12, a13, a14, a15, a16, a17, a18, a19, a20, a21, a22, a23, a24) 0 w := by
  subst hw
  obtain ⟨q1, q10, q12, q16, q17, q18⟩ := q
  obtain ⟨r, k, c, h1, h4, h5, hr, hk, hc⟩ := q1 rfl
  have g : vp_in 0 4 := pk_in 0 4 (by omega)
  refine And.intro g (br_f (by rw [sb_cl0, q16]; decide) (And.intro (pk_in 0 192 (by omega) rfl) (br_t q18 (And.intro g (br_f (by rw [sb_cl0, q17]; decide) ?_)))))
  unfold wX_fix_36
  refine br_f (by decide) ?_
  unfold wX_fix_47
  exact tl_rem q16 q17 q18 (tl_f56 hr h1 (q10 0) h5 hc h4 hk H)
/-- nothing to commit, or nothing asked for -/
theorem tl_commit0 {post : Int32 → St2 → Prop} {f0 f1 : Int32} {a1 a2 a3 a4 a5 a6 a7 a8 a9 a10 a11 a12 a13 a14 a15 a16 a17 a18 a19 a20 a21 a22 a23 a24 : Nat → Int32} {n : Int32} (h : n ≤ 0 ∨ a16 0 = 0) (H : post 0 (f0, f1, a1, a2, a3, a4, a5, a6, a7, a8, a9, a10, a11, a12, a13, a14, a15, a16, a17, a18, a19, a20, a21, a22, a23, a24)) : wpX_commit post (f0, f1, a1, a2, a3, a4, a5, a6, a7, a8, a9, a10, a11, a12, a13, a14, a15, a16, a17, a18, a19, a20, a21, a22, a23, a24) n := by
  refine ⟨0 + 1, br_c (fun _ => H) (fun z => br_t ?_ H)⟩
  rw [h.resolve_left z]; decide
/-- one committed -/
theorem tl_commit1 {post : Int32 → St2 → Prop} {f0 f1 : Int32} {a1 a2 a3 a4 a5 a6 a7 a8 a9 a10 a11 a12 a13 a14 a15 a16 a17 a18 a19 a20 a21 a22 a23 a24 : Nat → Int32} {n : Int32} (q : tl_Q 1 a1 a4 a5 a10 a12 a16 a17 a18) (h : ¬ n ≤ 0)
    (H : ∀ b9 b13 b14 b16 b17 b24, post 1 (f0, f1, a1, a2, a3, a4, a5, a6, a7, a8, b9, upd a10 0 1, a11, a12, b13, b14, a15, b16, b17, a18, a19, a20, a21, a22, a23, b24)) : wpX_commit post (f0, f1, a1, a2, a3, a4, a5, a6, a7, a8, a9, a10, a11, a12, a13, a14, a15, a16, a17, a18, a19, a20, a21, a22, a23, a24) n := by
  have q16 : a16 0 = nI 1 := q.2.2.2.1
  have q18 : a18 0 = 0 := q.2.2.2.2.2
  refine ⟨0 + 1 + 1, br_f h (br_f (by rw [q16]; decide) (tl_fix q q18 (fun b9 b13 b14 b24 => nm_r (e' := 1) rfl ?_)))⟩
  exact br_c (fun _ => H _ _ _ _ _ _) (fun _ => br_t (by rw [pk_us]; decide) (H _ _ _ _ _ _))
theorem tl_committed {post : Int32 → Prop} {f1 : Int32} {a1 a2 a3 a4 a5 a6 a7 a8 a9 a10 a11 a12 a13 a14 a15 a16 a17 a18 a19 a20 a21 a22 a23 a24 : Nat → Int32} {m : Nat} (hm : m ≤ 4) (h0 : 0 < m) (H : post (a10 0)) : wpX_committed post (nI m, f1, a1, a2, a3, a4, a5, a6, a7, a8, a9, a10, a11, a12, a13, a14, a15, a16, a17, a18, a19, a20, a21, a22, a23, a24) 0 := by
  unfold wpX_committed
  exact tl_bad0 (j := 0) hm h0 (br_t rfl (And.intro (pk_in 0 4 (by omega)) H))
theorem tl_trim1 {post : Int32 → St2 → Prop} {f0 f1 : Int32} {a1 a2 a3 a4 a5 a6 a7 a8 a9 a10 a11 a12 a13 a14 a15 a16 a17 a18 a19 a20 a21 a22 a23 a24 : Nat → Int32} {x y : Int32} (h : x < 0 ∨ ¬ x < f0) (H : post (-1) (f0, f1, a1, a2, a3, a4, a5, a6, a7, a8, a9, a10, a11, a12, a13, a14, a15, a16, a17, a18, a19, a20, a21, a22, a23, a24)) : wpX_trim post (f0, f1, a1, a2, a3, a4, a5, a6, a7, a8, a9, a10, a11, a12, a13, a14, a15, a16, a17, a18, a19, a20, a21, a22, a23, a24) x y := by
  unfold wpX_trim
  exact tl_bad1 h (br_f (by decide) H)
theorem tl_t54 {post : Int32 → St2 → Prop} {f0 f1 : Int32} {a1 a2 a3 a4 a5 a6 a7 a8 a9 a10 a11 a12 a13 a14 a15 a16 a17 a18 a19 a20 a21 a22 a23 a24 : Nat → Int32} {r : Nat} {y v : Int32} (hr : r < 4) (h12 : a12 r = v) (H : ∀ b11, post v (f0, f1, a1, a2, a3, a4, a5, a6, a7, a8, a9, a10, b11, a12, a13, a14, a15, a16, a17, a18, a19, a20, a21, a22, a23, a24)) : wX_trim_54 post (nI r) y f0 f1 a1 a2 a3 a4 a5 a6 a7 a8 a9 a10 a11 a12 a13 a14 a15 a16 a17 a18 a19 a20 a21 a22 a23 a24 := by
  subst h12
  refine And.intro (pk_in r 4 hr) (br_c (fun _ => And.intro (pk_in r 4 hr) ?_) (fun _ => And.intro (pk_in r 4 hr) (nm_e (And.intro (pk_in r 4 hr) ?_))))
  · rw [tl_c hr]; exact H _
  · rw [tl_c hr]; exact H _
theorem tl_t37z {post : Int32 → St2 → Prop} {f0 f1 : Int32} {a1 a2 a3 a4 a5 a6 a7 a8 a9 a10 a11 a12 a13 a14 a15 a16 a17 a18 a19 a20 a21 a22 a23 a24 : Nat → Int32} {r : Nat} {y : Int32} (hr : r < 4) (hy : y ≤ 0) (h12 : a12 r = 0) (H : ∀ b11, post 0 (f0, f1, a1, a2, a3, a4, a5, a6, a7, a8, a9, a10, b11, a12, a13, a14, a15, a16, a17, a18, a19, a20, a21, a22, a23, a24)) : wX_trim_37 post (nI r) y f0 f1 a1 a2 a3 a4 a5 a6 a7 a8 a9 a10 a11 a12 a13 a14 a15 a16 a17 a18 a19 a20 a21 a22 a23 a24 := by
  refine And.intro (pk_in r 4 hr) (br_t (by rw [tl_c hr, h12]; exact hy) (tl_t54 hr h12 H))
/-- nothing committed there -/
theorem tl_trim0 {post : Int32 → St2 → Prop} {f1 : Int32} {a1 a2 a3 a4 a5 a6 a7 a8 a9 a10 a11 a12 a13 a14 a15 a16 a17 a18 a19 a20 a21 a22 a23 a24 : Nat → Int32} {m r : Nat} {y : Int32} (hm : m ≤ 4) (hr : r < m) (h10 : a10 r = 0) (h12 : a12 r = 0) (H : ∀ b11, post 0 (nI m, f1, a1, a2, a3, a4, a5, a6, a7, a8, a9, a10, b11, a12, a13, a14, a15, a16, a17, a18, a19, a20, a21, a22, a23, a24)) : wpX_trim post (nI m, f1, a1, a2, a3, a4, a5, a6, a7, a8, a9, a10, a11, a12, a13, a14, a15, a16, a17, a18, a19, a20, a21, a22, a23, a24) (nI r) y := by
  have r4 : r < 4 := by omega
  unfold wpX_trim
  refine tl_bad0 hm hr (br_t rfl (br_c (fun _ => ?_) (fun _ => ?_)))
  · refine And.intro (pk_in r 4 r4) (br_c (fun z => ?_) (fun _ => And.intro (pk_in r 4 r4) (nm_r (e' := 0) (by rw [tl_c r4, h10]) (tl_t37z r4 (by decide) h12 H))))
    rw [tl_c r4, h10] at z
    exact tl_t37z r4 z h12 H
  · exact And.intro (pk_in r 4 r4) (br_t (by rw [tl_c r4, h10]; decide) (tl_t37z r4 (by decide) h12 H))
theorem tl_t37o {post : Int32 → St2 → Prop} {f0 f1 : Int32} {a1 a2 a3 a4 a5 a6 a7 a8 a9 a10 a11 a12 a13 a14 a15 a16 a17 a18 a19 a20 a21 a22 a23 a24 : Nat → Int32} (h12 : a12 0 = 0) (H : ∀ b11 b12, post 1 (f0, f1, a1, a2, a3, a4, a5, a6, a7, a8, a9, a10, b11, b12, a13, a14, a15, a16, a17, a18, a19, a20, a21, a22, a23, a24)) : wX_trim_37 post 0 1 f0 f1 a1 a2 a3 a4 a5 a6 a7 a8 a9 a10 a11 a12 a13 a14 a15 a16 a17 a18 a19 a20 a21 a22 a23 a24 := by
  refine And.intro (pk_in 0 4 (by omega)) (br_f (by rw [sb_cl0, h12]; decide) (And.intro (pk_in 0 4 (by omega)) (nm_r (e' := upd a12 0 1) rfl (tl_t54 (r := 0) (by omega) pk_us (fun b11 => H _ _)))))
/-- one committed there -/
theorem tl_trimO {post : Int32 → St2 → Prop} {f1 : Int32} {a1 a2 a3 a4 a5 a6 a7 a8 a9 a10 a11 a12 a13 a14 a15 a16 a17 a18 a19 a20 a21 a22 a23 a24 : Nat → Int32} {m : Nat} {y : Int32} (hm : m ≤ 4) (h0 : 0 < m) (hy : ¬ y ≤ 0) (h10 : a10 0 = 1) (h12 : a12 0 = 0) (H : ∀ b11 b12, post 1 (nI m, f1, a1, a2, a3, a4, a5, a6, a7, a8, a9, a10, b11, b12, a13, a14, a15, a16, a17, a18, a19, a20, a21, a22, a23, a24)) : wpX_trim post (nI m, f1, a1, a2, a3, a4, a5, a6, a7, a8, a9, a10, a11, a12, a13, a14, a15, a16, a17, a18, a19, a20, a21, a22, a23, a24) 0 y := by
  have y0 : 0 ≤ y := by
    rw [Int32.le_iff_toInt_le] at hy ⊢
    have : (0 : Int32).toInt = 0 := rfl
    omega
  have g : vp_in 0 4 := pk_in 0 4 (by omega)
  unfold wpX_trim
  refine tl_bad0 (j := 0) hm h0 (br_t rfl (br_t y0 (And.intro g (br_c (fun z => ?_) (fun _ => And.intro g (nm_r (e' := 1) (by rw [sb_cl0, h10]) (tl_t37o h12 H)))))))
  rw [sb_cl0, h10] at z
  have y1 : y = 1 := by
    apply Int32.toInt_inj.mp
    rw [Int32.le_iff_toInt_le] at hy z
    have e0 : (0 : Int32).toInt = 0 := rfl
    have e1 : (1 : Int32).toInt = 1 := rfl
    omega
  subst y1
  exact tl_t37o h12 H
end
section
theorem tl_292z {post : Int32 → St0 → Prop} (hp : post 1 ()) {f1 : Int32} {a1 a2 a3 a4 a5 a6 a7 a8 a9 a10 a11 a12 a13 a14 a15 a16 a17 a18 a19 a20 a21 a22 a23 a24 : Nat → Int32} {mc ms kc ks m r : Nat} {x5 : Int32} (hm : m ≤ 4) (hr : r < m) (h10 : a10 r = 0) (h12 : a12 r = 0) : wL_lawOf_292 post mc ms (nI r) x5 0 kc ks (nI m) f1 a1 a2 a3 a4 a5 a6 a7 a8 a9 a10 a11 a12 a13 a14 a15 a16 a17 a18 a19 a20 a21 a22 a23 a24 := by
  unfold wL_lawOf_292
  exact tl_trim0 hm hr h10 h12 (fun b11 => br_t rfl hp)
theorem tl_292b {post : Int32 → St0 → Prop} (hp : post 1 ()) {f0 f1 : Int32} {a1 a2 a3 a4 a5 a6 a7 a8 a9 a10 a11 a12 a13 a14 a15 a16 a17 a18 a19 a20 a21 a22 a23 a24 : Nat → Int32} {mc ms kc ks : Nat} {x1 x5 : Int32} (h : x1 < 0 ∨ ¬ x1 < f0) : wL_lawOf_292 post mc ms x1 x5 (-1) kc ks f0 f1 a1 a2 a3 a4 a5 a6 a7 a8 a9 a10 a11 a12 a13 a14 a15 a16 a17 a18 a19 a20 a21 a22 a23 a24 := by
  unfold wL_lawOf_292
  exact tl_trim1 h (br_t rfl hp)
theorem tl_292o {post : Int32 → St0 → Prop} (hp : post 1 ()) {f1 : Int32} {a1 a2 a3 a4 a5 a6 a7 a8 a9 a10 a11 a12 a13 a14 a15 a16 a17 a18 a19 a20 a21 a22 a23 a24 : Nat → Int32} {mc ms kc ks m : Nat} {x5 : Int32} (hm : m ≤ 4) (h0 : 0 < m) (hx : ¬ x5 ≤ 0) (h10 : a10 0 = 1) (h12 : a12 0 = 0) : wL_lawOf_292 post mc ms 0 x5 1 kc ks (nI m) f1 a1 a2 a3 a4 a5 a6 a7 a8 a9 a10 a11 a12 a13 a14 a15 a16 a17 a18 a19 a20 a21 a22 a23 a24 := by
  unfold wL_lawOf_292
  exact tl_trimO hm h0 hx h10 h12 (fun b11 b12 => br_t rfl hp)
theorem tl_241z {post : Int32 → St0 → Prop} (hp : post 1 ()) {f1 : Int32} {a1 a2 a3 a4 a5 a6 a7 a8 a9 a10 a11 a12 a13 a14 a15 a16 a17 a18 a19 a20 a21 a22 a23 a24 : Nat → Int32} {mc ms kc ks m r : Nat} {x5 : Int32} (hm : m ≤ 4) (hr : r < m) (h10 : ∀ j, a10 j = 0) (h12 : ∀ j, a12 j = 0) (h : x5 ≤ 0 ∨ a16 0 = 0) : wL_lawOf_241 post mc ms (nI r) x5 0 0 kc ks (nI m) f1 a1 a2 a3 a4 a5 a6 a7 a8 a9 a10 a11 a12 a13 a14 a15 a16 a17 a18 a19 a20 a21 a22 a23 a24 := by
  have T : wL_lawOf_292 post mc ms (nI r) x5 0 kc ks (nI m) f1 a1 a2 a3 a4 a5 a6 a7 a8 a9 a10 a11 a12 a13 a14 a15 a16 a17 a18 a19 a20 a21 a22 a23 a24 := tl_292z hp hm hr (h10 r) (h12 r)
  unfold wL_lawOf_241
  exact tl_commit0 h (br_t rfl (tl_committed hm (by omega) (br_t (h10 0) (br_t rfl (br_c (fun _ => br_c (fun _ => T) (fun _ => T)) (fun _ => T))))))
theorem tl_241b {post : Int32 → St0 → Prop} (hp : post 1 ()) {f1 : Int32} {a1 a2 a3 a4 a5 a6 a7 a8 a9 a10 a11 a12 a13 a14 a15 a16 a17 a18 a19 a20 a21 a22 a23 a24 : Nat → Int32} {mc ms kc ks m : Nat} {x1 x5 x8 : Int32} (hm : m ≤ 4) (h0 : 0 < m) (hx : x1 < 0 ∨ ¬ x1 < nI m) (h8 : ¬ x8 = 0) (h10 : a10 0 = 0) (h : a16 0 = 0) : wL_lawOf_241 post mc ms x1 x5 x8 0 kc ks (nI m) f1 a1 a2 a3 a4 a5 a6 a7 a8 a9 a10 a11 a12 a13 a14 a15 a16 a17 a18 a19 a20 a21 a22 a23 a24 := by
  unfold wL_lawOf_241
  exact tl_commit0 (Or.inr h) (br_t rfl (tl_committed hm h0 (br_t h10 (br_f h8 (tl_292b hp hx)))))
theorem tl_241o {post : Int32 → St0 → Prop} (hp : post 1 ()) {f1 : Int32} {a1 a2 a3 a4 a5 a6 a7 a8 a9 a10 a11 a12 a13 a14 a15 a16 a17 a18 a19 a20 a21 a22 a23 a24 : Nat → Int32} {mc ms kc ks m r : Nat} {x5 : Int32} (hm : m ≤ 4) (hr : r < m) (q : tl_Q 1 a1 a4 a5 a10 a12 a16 a17 a18) (hx : ¬ x5 ≤ 0) : wL_lawOf_241 post mc ms (nI r) x5 0 1 kc ks (nI m) f1 a1 a2 a3 a4 a5 a6 a7 a8 a9 a10 a11 a12 a13 a14 a15 a16 a17 a18 a19 a20 a21 a22 a23 a24 := by
  have q10 : ∀ j, a10 j = 0 := q.2.1
  have q12 : ∀ j, a12 j = 0 := q.2.2.1
  unfold wL_lawOf_241
  refine tl_commit1 q hx (fun b9 b13 b14 b16 b17 b24 => br_t rfl (tl_committed hm (by omega) (br_t pk_us (br_t rfl (br_c (fun z => br_f hx ?_) (fun z => ?_))))))
  · rw [z]
    exact tl_292o hp hm (by omega) hx pk_us (q12 0)
  · have hr0 : r ≠ 0 := fun e => z (by rw [e]; rfl)
    unfold wL_lawOf_291
    exact tl_292z hp hm hr (by rw [pk_un hr0]; exact q10 r) (q12 r)
theorem tl_224 {post : Int32 → St0 → Prop} (hp : post 1 ()) {f1 : Int32} {a1 a2 a3 a4 a5 a6 a7 a8 a9 a10 a11 a12 a13 a14 a15 a16 a17 a18 a19 a20 a21 a22 a23 a24 : Nat → Int32} {mc ms kc ks m r e : Nat} {x5 : Int32} (hm : m ≤ 4) (hr : r < m) (he : e ≤ 1) (q : tl_Q e a1 a4 a5 a10 a12 a16 a17 a18) : wL_lawOf_224 post mc ms (nI r) x5 0 (nI e) kc ks (nI m) f1 a1 a2 a3 a4 a5 a6 a7 a8 a9 a10 a11 a12 a13 a14 a15 a16 a17 a18 a19 a20 a21 a22 a23 a24 := by
  have q10 : ∀ j, a10 j = 0 := q.2.1
  have q12 : ∀ j, a12 j = 0 := q.2.2.1
  have q16 : a16 0 = nI e := q.2.2.2.1
  unfold wL_lawOf_224
  refine br_c (fun z => ?_) (fun z => pk_eq e 0 (fun e0 => ?_) (fun e1 => ?_))
  · unfold wL_lawOf_240
    exact tl_241z hp hm hr q10 q12 (Or.inl z)
  · unfold wL_lawOf_240
    exact tl_241z hp hm hr q10 q12 (Or.inr (by rw [q16, e0]; rfl))
  · obtain rfl : e = 1 := by omega
    exact tl_241o hp hm hr q z
theorem tl_224b {post : Int32 → St0 → Prop} (hp : post 1 ()) {f1 : Int32} {a1 a2 a3 a4 a5 a6 a7 a8 a9 a10 a11 a12 a13 a14 a15 a16 a17 a18 a19 a20 a21 a22 a23 a24 : Nat → Int32} {mc ms kc ks m : Nat} {x1 x5 x8 : Int32} (hm : m ≤ 4) (h0 : 0 < m) (hx : x1 < 0 ∨ ¬ x1 < nI m) (h8 : ¬ x8 = 0) (h10 : a10 0 = 0) (h : a16 0 = 0) : wL_lawOf_224 post mc ms x1 x5 x8 0 kc ks (nI m) f1 a1 a2 a3 a4 a5 a6 a7 a8 a9 a10 a11 a12 a13 a14 a15 a16 a17 a18 a19 a20 a21 a22 a23 a24 := by
  unfold wL_lawOf_224 wL_lawOf_240
  exact br_c (fun _ => tl_241b hp hm h0 hx h8 h10 h) (fun _ => br_t rfl (tl_241b hp hm h0 hx h8 h10 h))
/-- behind 'bring', a good replica -/
theorem tl_aft {post : Int32 → St0 → Prop} (hp : post 1 ()) {f1 : Int32} {a1 a2 a3 a4 a5 a6 a7 a8 a9 a10 a11 a12 a13 a14 a15 a16 a17 a18 a19 a20 a21 a22 a23 a24 : Nat → Int32} {mc ms kc ks m r : Nat} {x3 x5 x9 : Int32} (hm : m ≤ 4) (hr : r < m)
    (hA : x9 = 0 → (r = 0 ∨ x3 = 0) → tl_Q 1 a1 a4 a5 a10 a12 a16 a17 a18) (hB : (x9 = 0 → ¬ (r = 0 ∨ x3 = 0)) → tl_Q 0 a1 a4 a5 a10 a12 a16 a17 a18) :
    ((x9 = 0 → ((nI r = 0 → wL_lawOf_219 post mc ms (nI r) x5 0 kc ks (nI m) f1 a1 a2 a3 a4 a5 a6 a7 a8 a9 a10 a11 a12 a13 a14 a15 a16 a17 a18 a19 a20 a21 a22 a23 a24) ∧ (¬ nI r = 0 → ((x3 = 0 → wL_lawOf_219 post mc ms (nI r) x5 0 kc ks (nI m) f1 a1 a2 a3 a4 a5 a6 a7 a8 a9 a10 a11 a12 a13 a14 a15 a16 a17 a18 a19 a20 a21 a22 a23 a24) ∧ (¬ x3 = 0 → wL_lawOf_223 post mc ms (nI r) x5 0 kc ks (nI m) f1 a1 a2 a3 a4 a5 a6 a7 a8 a9 a10 a11 a12 a13 a14 a15 a16 a17 a18 a19 a20 a21 a22 a23 a24))))) ∧ (¬ x9 = 0 → wL_lawOf_223 post mc ms (nI r) x5 0 kc ks (nI m) f1 a1 a2 a3 a4 a5 a6 a7 a8 a9 a10 a11 a12 a13 a14 a15 a16 a17 a18 a19 a20 a21 a22 a23 a24)) := by
  have g1 : tl_Q 1 a1 a4 a5 a10 a12 a16 a17 a18 → wL_lawOf_219 post mc ms (nI r) x5 0 kc ks (nI m) f1 a1 a2 a3 a4 a5 a6 a7 a8 a9 a10 a11 a12 a13 a14 a15 a16 a17 a18 a19 a20 a21 a22 a23 a24 := fun q => by
    unfold wL_lawOf_219
    exact tl_224 (e := 1) hp hm hr (by omega) q
  have g0 : tl_Q 0 a1 a4 a5 a10 a12 a16 a17 a18 → wL_lawOf_223 post mc ms (nI r) x5 0 kc ks (nI m) f1 a1 a2 a3 a4 a5 a6 a7 a8 a9 a10 a11 a12 a13 a14 a15 a16 a17 a18 a19 a20 a21 a22 a23 a24 := fun q => by
    unfold wL_lawOf_223
    exact tl_224 (e := 0) hp hm hr (by omega) q
  refine br_c (fun z9 => br_c (fun z => g1 (hA z9 (Or.inl ?_))) (fun z => br_c (fun z3 => g1 (hA z9 (Or.inr z3))) (fun z3 => g0 (hB (fun _ h => ?_))))) (fun z9 => g0 (hB (fun h => absurd h z9)))
  · exact (nI_eq (b := 0) (by omega) (by omega)).mp z
  · rcases h with h | h
    · exact z (by rw [h]; rfl)
    · exact z3 h
theorem tl_PQ0 {r k c e : Nat} {a1 a2 a4 a5 a8 a10 a12 a16 a17 a18 : Nat → Int32} (p : tl_P r k c e a1 a2 a4 a5 a8 a10 a12 a16 a17 a18) (h : e = 0 ∨ r ≠ 0) : tl_Q 0 a1 a4 a5 a10 a12 a16 a17 a18 := by
  obtain ⟨he, r4, w, p8, p10, p12, p16, p17, p18⟩ := p
  have z : (if 0 = r then nI e else 0) = nI 0 := by
    rcases h with h | h
    · rw [h]; split <;> rfl
    · rw [if_neg (by omega)]; rfl
  exact ⟨fun z => absurd z (by omega), p10, p12, by rw [p16, z], by rw [p17, z], p18 0⟩
theorem tl_PQ1 {r k c e : Nat} {a1 a2 a4 a5 a8 a10 a12 a16 a17 a18 : Nat → Int32} (p : tl_P r k c e a1 a2 a4 a5 a8 a10 a12 a16 a17 a18) (he : e = 1) (h : r = 0) : tl_Q 1 a1 a4 a5 a10 a12 a16 a17 a18 := by
  subst he
  obtain ⟨he, r4, w, p8, p10, p12, p16, p17, p18⟩ := p
  obtain ⟨w1, w2, w4, w5, hk, hc⟩ := w rfl
  exact ⟨fun _ => ⟨r, k, c, w1, w4, w5, r4, hk, hc⟩, p10, p12, by rw [p16, if_pos h.symm], by rw [p17, if_pos h.symm], p18 0⟩
theorem tl_MQ0 {r k c e t : Nat} {a1 a2 a4 a5 a8 a10 a12 a16 a17 a18 b16 b17 b18 : Nat → Int32} (p : tl_P r k c e a1 a2 a4 a5 a8 a10 a12 a16 a17 a18) (q : tl_M t e a16 a17 b16 b17 b18) (h : e = 0 ∨ (r ≠ 0 ∧ t ≠ 0)) : tl_Q 0 a1 a4 a5 a10 a12 b16 b17 b18 := by
  obtain ⟨q1, q2, q3, q4, q5⟩ := q
  have z := tl_PQ0 p (h.imp id And.left)
  obtain ⟨z1, z10, z12, z16, z17, z18⟩ := z
  refine ⟨fun z => absurd z (by omega), z10, z12, ?_, ?_, q5 0⟩
  · by_cases g : 0 = t
    · subst g
      rw [q1, show e = 0 by omega]
    · rw [q2 0 g, z16]
  · by_cases g : 0 = t
    · subst g
      rw [q3, show e = 0 by omega]
    · rw [q4 0 g, z17]
theorem tl_MQ1 {r k c e t : Nat} {a1 a2 a4 a5 a8 a10 a12 a16 a17 a18 b16 b17 b18 : Nat → Int32} (p : tl_P r k c e a1 a2 a4 a5 a8 a10 a12 a16 a17 a18) (q : tl_M t e a16 a17 b16 b17 b18) (he : e = 1) (h : r = 0 ∨ t = 0) : tl_Q 1 a1 a4 a5 a10 a12 b16 b17 b18 := by
  subst he
  obtain ⟨q1, q2, q3, q4, q5⟩ := q
  obtain ⟨he, r4, w, p8, p10, p12, p16, p17, p18⟩ := p
  obtain ⟨w1, w2, w4, w5, hk, hc⟩ := w rfl
  refine ⟨fun _ => ⟨r, k, c, w1, w4, w5, r4, hk, hc⟩, p10, p12, ?_, ?_, q5 0⟩
  · by_cases g : 0 = t
    · rw [g, q1]
    · rw [q2 0 g, p16, if_pos (by omega)]
  · by_cases g : 0 = t
    · rw [g, q3]
    · rw [q4 0 g, p17, if_pos (by omega)]
/-- behind 'known', a good replica -/
theorem tl_134 {post : Int32 → St0 → Prop} (hp : post 1 ()) {f1 : Int32} {a1 a2 a3 a4 a5 a6 a7 a8 a9 a10 a11 a12 a13 a14 a15 a16 a17 a18 a19 a20 a21 a22 a23 a24 : Nat → Int32} {mc ms kc ks m r k c e : Nat} {x3 x5 x9 : Int32} (hm : m ≤ 4) (hr : r < m) (p : tl_P r k c e a1 a2 a4 a5 a8 a10 a12 a16 a17 a18) (h9 : x9 = 0 ↔ e = 1) :
    wL_lawOf_134 post mc ms (nI r) x3 x5 (nI m) 0 x9 (nI e) (nI e) kc ks (nI m) f1 a1 a2 a3 a4 a5 a6 a7 a8 a9 a10 a11 a12 a13 a14 a15 a16 a17 a18 a19 a20 a21 a22 a23 a24 := by
  have he : e ≤ 1 := p.1
  have no : (x3 < 0 ∨ ¬ x3 < nI m) → wL_lawOf_149 post mc ms (nI r) x3 x5 0 x9 kc ks (nI m) f1 a1 a2 a3 a4 a5 a6 a7 a8 a9 a10 a11 a12 a13 a14 a15 a16 a17 a18 a19 a20 a21 a22 a23 a24 := fun h => by
    have n0 : ¬ x3 = 0 := fun z => by
      subst z
      rcases h with h | h
      · exact absurd h (by decide)
      · exact h (nI_lt (a := 0) (b := m) (by omega) (by omega))
    unfold wL_lawOf_149 wL_lawOf_154
    refine br_t rfl (br_f (by decide) ?_)
    unfold wL_lawOf_166 wL_lawOf_190
    exact tl_bring2 hm hr h (br_t rfl (tl_aft hp hm hr (fun z g => tl_PQ1 p (h9.mp z) (g.resolve_right n0)) (fun g => tl_PQ0 p (by
      by_cases z : x9 = 0
      · exact Or.inr (fun r0 => g z (Or.inl r0))
      · exact Or.inl (by
          have : ¬ e = 1 := fun z' => z (h9.mpr z')
          omega)))))
  unfold wL_lawOf_134
  refine br_t rfl (br_c (fun z => no (Or.inl z)) (fun z => br_c (fun z' => ?_) (fun z' => no (Or.inr z'))))
  obtain ⟨t, t31, rfl⟩ := nI_of z
  have ht : t < m := (nI_ltI t31 (by omega)).mp z'
  have t0 : nI t = 0 ↔ t = 0 := nI_eq (b := 0) t31 (by omega)
  unfold wL_lawOf_154
  refine br_t rfl (br_t rfl (pk_eq r t (fun g => ?_) (fun g => ?_)))
  · subst g
    unfold wL_lawOf_190
    exact tl_bring5 hm hr (br_t rfl (tl_aft hp hm hr (fun z g => tl_PQ1 p (h9.mp z) (g.elim id t0.mp)) (fun g => tl_PQ0 p (by
      by_cases z : x9 = 0
      · exact Or.inr (fun r0 => g z (Or.inl r0))
      · exact Or.inl (by
          have : ¬ e = 1 := fun z' => z (h9.mpr z')
          omega)))))
  · have B : wL_lawOf_190 post mc ms (nI r) (nI t) x5 0 x9 (nI e) kc ks (nI m) f1 a1 a2 a3 a4 a5 a6 a7 a8 a9 a10 a11 a12 a13 a14 a15 a16 a17 a18 a19 a20 a21 a22 a23 a24 := by
      unfold wL_lawOf_190
      refine tl_bring hm hr ht g p (fun b7 b8 b15 b16 b17 b18 b19 b20 b21 b22 b23 b24 q => br_t rfl (tl_aft hp hm hr (fun z g => tl_MQ1 p q (h9.mp z) (g.imp id t0.mp)) (fun g => tl_MQ0 p q ?_)))
      by_cases z : x9 = 0
      · exact Or.inr ⟨fun r0 => g z (Or.inl r0), fun r0 => g z (Or.inr (t0.mpr r0))⟩
      · exact Or.inl (by
          have : ¬ e = 1 := fun z' => z (h9.mpr z')
          omega)
    refine br_c (fun z => ?_) (fun z => ?_)
    · rw [h9.mp z] at B
      exact B
    · have e0 : e = 0 := by
        have : ¬ e = 1 := fun z' => z (h9.mpr z')
        omega
      rw [e0] at B
      exact B
end
section
theorem tl_92b {post : Int32 → St0 → Prop} (hp : post 1 ()) {mc ms kc ks m : Nat} {x1 x2 x3 x4 x5 : Int32} (hm : m ≤ 4) (h0 : 0 < m) (h : x1 < 0 ∨ ¬ x1 < nI m) : wL_lawOf_92 post mc ms x1 x2 x3 x4 x5 (nI m) 1 (-1) kc ks (nI m) 0 (fun _ => 0) (fun _ => 0) (fun _ => 0) (fun _ => 0) (fun _ => 0) (fun _ => 0) (fun _ => 0) (fun _ => 0) (fun _ => 0) (fun _ => 0) (fun _ => 0) (fun _ => 0) (fun _ => 0) (fun _ => 0) (fun _ => 0) (fun _ => 0) (fun _ => 0) (fun _ => 0) (fun _ => 0) (fun _ => 0) (fun _ => 0) (fun _ => 0) (fun _ => 0) (fun _ => 0) := by
  have T : wL_lawOf_166 post mc ms x1 x3 x5 1 (-1) kc ks (nI m) 0 (fun _ => 0) (fun _ => 0) (fun _ => 0) (fun _ => 0) (fun _ => 0) (fun _ => 0) (fun _ => 0) (fun _ => 0) (fun _ => 0) (fun _ => 0) (fun _ => 0) (fun _ => 0) (fun _ => 0) (fun _ => 0) (fun _ => 0) (fun _ => 0) (fun _ => 0) (fun _ => 0) (fun _ => 0) (fun _ => 0) (fun _ => 0) (fun _ => 0) (fun _ => 0) (fun _ => 0) := by
    unfold wL_lawOf_166 wL_lawOf_190
    refine tl_bring1 h (br_t rfl (br_f (by decide) ?_))
    unfold wL_lawOf_223
    exact tl_224b hp hm h0 h (by decide) rfl rfl
  unfold wL_lawOf_92
  refine tl_w1 h (br_t rfl (tl_known1 h (br_f (by decide) ?_)))
  unfold wL_lawOf_134 wL_lawOf_149 wL_lawOf_154
  exact br_t rfl (br_c (fun _ => br_f (by decide) T) (fun _ => br_c (fun _ => br_f (by decide) T) (fun _ => br_f (by decide) T)))
theorem tl_92n {post : Int32 → St0 → Prop} (hp : post 1 ()) {mc ms kc ks m r : Nat} {x3 x5 x9 : Int32} (hm : m ≤ 4) (hr : r < m) (h9 : ¬ x9 = 0) :
    wpX_known (fun r_164 => (((0 : Int32) = 0 → ((x9 = 0 → (wL_lawOf_134 post mc ms (nI r) x3 x5 (nI m) 0 x9 1 r_164 kc ks (nI m) 0 (fun _ => 0) (fun _ => 0) (fun _ => 0) (fun _ => 0) (fun _ => 0) (fun _ => 0) (fun _ => 0) (fun _ => 0) (fun _ => 0) (fun _ => 0) (fun _ => 0) (fun _ => 0) (fun _ => 0) (fun _ => 0) (fun _ => 0) (fun _ => 0) (fun _ => 0) (fun _ => 0) (fun _ => 0) (fun _ => 0) (fun _ => 0) (fun _ => 0) (fun _ => 0) (fun _ => 0))) ∧ (¬ x9 = 0 → (wL_lawOf_134 post mc ms (nI r) x3 x5 (nI m) 0 x9 0 r_164 kc ks (nI m) 0 (fun _ => 0) (fun _ => 0) (fun _ => 0) (fun _ => 0) (fun _ => 0) (fun _ => 0) (fun _ => 0) (fun _ => 0) (fun _ => 0) (fun _ => 0) (fun _ => 0) (fun _ => 0) (fun _ => 0) (fun _ => 0) (fun _ => 0) (fun _ => 0) (fun _ => 0) (fun _ => 0) (fun _ => 0) (fun _ => 0) (fun _ => 0) (fun _ => 0) (fun _ => 0) (fun _ => 0))))) ∧ (¬ (0 : Int32) = 0 → (wL_lawOf_134 post mc ms (nI r) x3 x5 (nI m) 0 x9 (-1) r_164 kc ks (nI m) 0 (fun _ => 0) (fun _ => 0) (fun _ => 0) (fun _ => 0) (fun _ => 0) (fun _ => 0) (fun _ => 0) (fun _ => 0) (fun _ => 0) (fun _ => 0) (fun _ => 0) (fun _ => 0) (fun _ => 0) (fun _ => 0) (fun _ => 0) (fun _ => 0) (fun _ => 0) (fun _ => 0) (fun _ => 0) (fun _ => 0) (fun _ => 0) (fun _ => 0) (fun _ => 0) (fun _ => 0))))) (nI m, 0, (fun _ => 0), (fun _ => 0), (fun _ => 0), (fun _ => 0), (fun _ => 0), (fun _ => 0), (fun _ => 0), (fun _ => 0), (fun _ => 0), (fun _ => 0), (fun _ => 0), (fun _ => 0), (fun _ => 0), (fun _ => 0), (fun _ => 0), (fun _ => 0), (fun _ => 0), (fun _ => 0), (fun _ => 0), (fun _ => 0), (fun _ => 0), (fun _ => 0), (fun _ => 0), (fun _ => 0)) (nI r) := by
  have p := tl_P0 r 0 0 (by omega)
  refine tl_known (e := 0) hm hr p.2.2.2.1 (br_t rfl (br_f h9 ?_))
  exact tl_134 (e := 0) hp hm hr p ⟨fun z => absurd z h9, fun z => absurd z (by omega)⟩
theorem tl_92 {post : Int32 → St0 → Prop} (hp : post 1 ()) {mc ms kc ks m r k c : Nat} {x4 x5 : Int32} (hm : m ≤ 4) (hr : r < m) (hk : k ≤ 5) (hc : c < 8) : wL_lawOf_92 post mc ms (nI r) (nI k) (nI c) x4 x5 (nI m) 0 0 kc ks (nI m) 0 (fun _ => 0) (fun _ => 0) (fun _ => 0) (fun _ => 0) (fun _ => 0) (fun _ => 0) (fun _ => 0) (fun _ => 0) (fun _ => 0) (fun _ => 0) (fun _ => 0) (fun _ => 0) (fun _ => 0) (fun _ => 0) (fun _ => 0) (fun _ => 0) (fun _ => 0) (fun _ => 0) (fun _ => 0) (fun _ => 0) (fun _ => 0) (fun _ => 0) (fun _ => 0) (fun _ => 0) := by
  unfold wL_lawOf_92
  refine tl_w0 hm hr hk hc (fun b1 b2 b3 b4 b5 b6 b7 b8 b15 b16 b17 b18 b19 b20 b21 b22 b23 b24 p => br_t rfl (tl_known (e := 1) hm hr p.2.2.2.1 (br_t rfl (br_t rfl ?_))))
  exact tl_134 (e := 1) hp hm hr p ⟨fun _ => rfl, fun _ => rfl⟩
theorem tl_46 {post : Int32 → St0 → Prop} (hp : post 1 ()) {mc ms kc ks m r : Nat} {x2 x3 x4 x5 : Int32} (hm : m ≤ 4) (hr : r < m) : wL_lawOf_46 post mc ms (nI r) x2 x3 x4 x5 (nI m) 0 kc ks (nI m) 0 (fun _ => 0) (fun _ => 0) (fun _ => 0) (fun _ => 0) (fun _ => 0) (fun _ => 0) (fun _ => 0) (fun _ => 0) (fun _ => 0) (fun _ => 0) (fun _ => 0) (fun _ => 0) (fun _ => 0) (fun _ => 0) (fun _ => 0) (fun _ => 0) (fun _ => 0) (fun _ => 0) (fun _ => 0) (fun _ => 0) (fun _ => 0) (fun _ => 0) (fun _ => 0) (fun _ => 0) := by
  have K : (x2 < 0 ∨ ¬ x2 ≤ 5) → wL_lawOf_71 post mc ms (nI r) x2 x3 x4 x5 (nI m) 0 kc ks (nI m) 0 (fun _ => 0) (fun _ => 0) (fun _ => 0) (fun _ => 0) (fun _ => 0) (fun _ => 0) (fun _ => 0) (fun _ => 0) (fun _ => 0) (fun _ => 0) (fun _ => 0) (fun _ => 0) (fun _ => 0) (fun _ => 0) (fun _ => 0) (fun _ => 0) (fun _ => 0) (fun _ => 0) (fun _ => 0) (fun _ => 0) (fun _ => 0) (fun _ => 0) (fun _ => 0) (fun _ => 0) := fun h => by
    unfold wL_lawOf_71 wL_lawOf_92
    exact tl_w2 hm hr h (br_t rfl (tl_92n hp hm hr (by decide)))
  have C : ¬ x2 < 0 → x2 ≤ 5 → (x3 < 0 ∨ ¬ x3 ≤ 7) → wL_lawOf_88 post mc ms (nI r) x2 x3 x4 x5 (nI m) 0 kc ks (nI m) 0 (fun _ => 0) (fun _ => 0) (fun _ => 0) (fun _ => 0) (fun _ => 0) (fun _ => 0) (fun _ => 0) (fun _ => 0) (fun _ => 0) (fun _ => 0) (fun _ => 0) (fun _ => 0) (fun _ => 0) (fun _ => 0) (fun _ => 0) (fun _ => 0) (fun _ => 0) (fun _ => 0) (fun _ => 0) (fun _ => 0) (fun _ => 0) (fun _ => 0) (fun _ => 0) (fun _ => 0) := fun h1 h2 h => by
    unfold wL_lawOf_88 wL_lawOf_92
    exact tl_w3 hm hr h1 h2 h (br_t rfl (tl_92n hp hm hr (by decide)))
  unfold wL_lawOf_46
  refine br_t rfl (br_c (fun z => K (Or.inl z)) (fun z => br_c (fun z5 => br_c (fun y => C z z5 (Or.inl y)) (fun y => br_c (fun y7 => ?_) (fun y7 => C z z5 (Or.inr y7)))) (fun z5 => K (Or.inr z5))))
  obtain ⟨k, hk, rfl⟩ := nI_of2 (M := 5) (n := 5) rfl z z5
  obtain ⟨c, hc, rfl⟩ := nI_of2 (M := 7) (n := 7) rfl y y7
  exact tl_92 hp hm hr hk (by omega)
theorem tl_29 {post : Int32 → St0 → Prop} (hp : post 1 ()) {mc ms kc ks m : Nat} {x1 x2 x3 x4 x5 : Int32} (hm : m ≤ 4) (h0 : 0 < m) : wL_lawOf_29 post mc ms x1 x2 x3 x4 x5 (nI m) kc ks (nI m) 0 (fun _ => 0) (fun _ => 0) (fun _ => 0) (fun _ => 0) (fun _ => 0) (fun _ => 0) (fun _ => 0) (fun _ => 0) (fun _ => 0) (fun _ => 0) (fun _ => 0) (fun _ => 0) (fun _ => 0) (fun _ => 0) (fun _ => 0) (fun _ => 0) (fun _ => 0) (fun _ => 0) (fun _ => 0) (fun _ => 0) (fun _ => 0) (fun _ => 0) (fun _ => 0) (fun _ => 0) := by
  have B : (x1 < 0 ∨ ¬ x1 < nI m) → wL_lawOf_41 post mc ms x1 x2 x3 x4 x5 (nI m) kc ks (nI m) 0 (fun _ => 0) (fun _ => 0) (fun _ => 0) (fun _ => 0) (fun _ => 0) (fun _ => 0) (fun _ => 0) (fun _ => 0) (fun _ => 0) (fun _ => 0) (fun _ => 0) (fun _ => 0) (fun _ => 0) (fun _ => 0) (fun _ => 0) (fun _ => 0) (fun _ => 0) (fun _ => 0) (fun _ => 0) (fun _ => 0) (fun _ => 0) (fun _ => 0) (fun _ => 0) (fun _ => 0) := fun h => by
    unfold wL_lawOf_41 wL_lawOf_46
    exact br_f (by decide) (tl_92b hp hm h0 h)
  unfold wL_lawOf_29
  refine br_c (fun z => B (Or.inl z)) (fun z => br_c (fun z' => ?_) (fun z' => B (Or.inr z')))
  obtain ⟨r, r31, rfl⟩ := nI_of z
  exact tl_46 hp hm ((nI_ltI r31 (by omega)).mp z')
theorem tl_init {post : St2 → Prop} {p0 : Int32} (H2 : ¬ 2 ≤ p0 → post (2, 0, (fun _ => 0), (fun _ => 0), (fun _ => 0), (fun _ => 0), (fun _ => 0), (fun _ => 0), (fun _ => 0), (fun _ => 0), (fun _ => 0), (fun _ => 0), (fun _ => 0), (fun _ => 0), (fun _ => 0), (fun _ => 0), (fun _ => 0), (fun _ => 0), (fun _ => 0), (fun _ => 0), (fun _ => 0), (fun _ => 0), (fun _ => 0), (fun _ => 0), (fun _ => 0), (fun _ => 0))) (H : 2 ≤ p0 → p0 ≤ 4 → post (p0, 0, (fun _ => 0), (fun _ => 0), (fun _ => 0), (fun _ => 0), (fun _ => 0), (fun _ => 0), (fun _ => 0), (fun _ => 0), (fun _ => 0), (fun _ => 0), (fun _ => 0), (fun _ => 0), (fun _ => 0), (fun _ => 0), (fun _ => 0), (fun _ => 0), (fun _ => 0), (fun _ => 0), (fun _ => 0), (fun _ => 0), (fun _ => 0), (fun _ => 0), (fun _ => 0), (fun _ => 0))) (H4 : 2 ≤ p0 → ¬ p0 ≤ 4 → post (4, 0, (fun _ => 0), (fun _ => 0), (fun _ => 0), (fun _ => 0), (fun _ => 0), (fun _ => 0), (fun _ => 0), (fun _ => 0), (fun _ => 0), (fun _ => 0), (fun _ => 0), (fun _ => 0), (fun _ => 0), (fun _ => 0), (fun _ => 0), (fun _ => 0), (fun _ => 0), (fun _ => 0), (fun _ => 0), (fun _ => 0), (fun _ => 0), (fun _ => 0), (fun _ => 0), (fun _ => 0))) : wpX_init post 24 1760 (0, 0) p0 := by
  unfold wpX_init
  refine ⟨by decide, by decide, by decide, by decide, by decide, by decide, by decide, by decide, by decide, by decide, by decide, by decide, by decide, by decide, by decide, by decide, by decide, by decide, by decide, by decide, by decide, by decide, by decide, by decide, by decide, by decide, by decide, by decide, by decide, by decide, by decide, by decide, by decide, by decide, by decide, by decide, by decide, by decide, by decide, by decide, by decide, by decide, by decide, by decide, by decide, by decide, by decide, by decide, br_c (fun z => ?_) (fun z => ?_)⟩
  · unfold wX_init_206
    exact br_c (H z) (H4 z)
  · unfold wX_init_206
    exact br_t (by decide) (H2 z)
theorem tl_lawOf {post : Int32 → St0 → Prop} (hp : post 1 ()) (p0 p1 p2 p3 p4 p5 : Int32) : wpL_lawOf post 25 1786 () p0 p1 p2 p3 p4 p5 := by
  unfold wpL_lawOf
  refine ⟨by decide, by decide, 24, 1760, by decide, by decide, ?_⟩
  refine tl_init (fun z => br_f z ?_) (fun z z' => br_t z (br_t z' ?_)) (fun z z' => br_t z (br_f z' ?_))
  · exact tl_29 (m := 2) hp (by omega) (by omega)
  · have n0 : ¬ p0 < 0 := by
      rw [Int32.lt_iff_toInt_lt]
      rw [Int32.le_iff_toInt_le] at z
      have e0 : (0 : Int32).toInt = 0 := rfl
      have e2 : (2 : Int32).toInt = 2 := rfl
      omega
    obtain ⟨m, hm, rfl⟩ := nI_of2 (M := 4) (n := 4) rfl n0 z'
    have m2 : 2 ≤ m := (nI_leI (a := 2) (by omega) (by omega)).mp z
    exact tl_29 hp hm (by omega)
  · exact tl_29 (m := 4) hp (by omega) (by omega)
theorem tl_cell {post : Int32 → Prop} {L : Nat} {xs : Nat → Int32} (hL : L ≤ 6) (i : Nat) (hi : i < 6) {x : Int32} (hx : x = nI i) (H : ∀ y, post y) : wpL_cellAt post L xs () x := by
  subst hx
  exact pk_le L i (fun _ => H _) (fun z => And.intro (pk_in i L z) (H _))
theorem i_vc (xs : Nat → Int32) (L : Nat) (hL : L ≤ 6) : wpL_law (fun r => r = 1) L xs := by
  unfold wpL_law
  refine tl_cell hL 0 (by omega) rfl (fun y0 => tl_cell hL 1 (by omega) rfl (fun y1 => tl_cell hL 2 (by omega) rfl (fun y2 => tl_cell hL 3 (by omega) rfl (fun y3 => tl_cell hL 4 (by omega) rfl (fun y4 => tl_cell hL 5 (by omega) rfl (fun y5 => ?_))))))
  exact ⟨25, 1786, by decide, by decide, tl_lawOf (post := fun r _ => r = 1) rfl y0 y1 y2 y3 y4 y5⟩
end
