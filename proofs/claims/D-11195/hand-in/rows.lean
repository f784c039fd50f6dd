section
/-! small rows: places of rows of six and of four, bytes -/
theorem cd_ix6 (x i : Nat) : nI x * 6 + nI i = nI (x * 6 + i) := by
  rw [show (6 : Int32) = nI 6 from rfl, pk_mul, nI_add]
theorem cd_ix4 (x i : Nat) : nI x * 4 + nI i = nI (x * 4 + i) := by
  rw [show (4 : Int32) = nI 4 from rfl, pk_mul, nI_add]
theorem cd_ix4s (x i : Nat) : (nI x + 1) * 4 + nI i = nI ((x + 1) * 4 + i) := by
  rw [nI_1, cd_ix4]
theorem cd_byte : ∀ n, n < 128 → (nI n).toInt8.toInt32 = nI n := by decide +kernel
theorem cd_nar {n : Nat} (h : n < 128) : vp_nar .byte (nI n) = nI n := by
  rw [vp_nar_byte, cd_byte n h]
/-- what lies in a row of four -/
theorem cd_at {f : Nat → Int32} {r k : Nat} {v : Int32} (h : f (r * 4 + k) = v) (hb : r * 4 + k < 2 ^ 31 := by omega) : f (nI r * 4 + nI k).toNatClampNeg = v := by
  rw [cd_ix4, nI_clamp hb, h]
theorem cd_a0 {f : Nat → Int32} {k : Nat} {v : Int32} (h : f k = v) (hb : k < 2 ^ 31 := by omega) : f (nI k).toNatClampNeg = v := by
  rw [nI_clamp hb, h]
/-- the widths are small and above 0 -/
def cd_W (a1 : Nat → Int32) : Prop := ∀ k, k < 4 → ∃ w, 1 ≤ w ∧ w ≤ 127 ∧ a1 k = nI w
end
section
section
variable {ro : Int32} {rm : Int32} {dv : Int64} {pd : Int64} {bs : Int32} {a1 : Nat → Int32} {a2 : Nat → Int32} {a3 : Nat → Int32} {a4 : Nat → Int32} {a5 : Nat → Int64} {a6 : Nat → Int64} {a7 : Nat → Int64} {a8 : Nat → Int64} {a9 : Nat → Int64} {a10 : Nat → Int32} {a11 : Nat → Int32} {a12 : Nat → Int32} {a13 : Nat → Int32} {a14 : Nat → Int32}
theorem cd_swapRows {post : St2 → Prop} {x y : Nat} (hx : x < 4) (hy : y < 4) (H : ∀ (a5' : Nat → Int64), post (ro, rm, dv, pd, bs, a1, a2, a3, a4, a5', a6, a7, a8, a9, a10, a11, a12, a13, a14)) :
    wpX_swapRows post (ro, rm, dv, pd, bs, a1, a2, a3, a4, a5, a6, a7, a8, a9, a10, a11, a12, a13, a14) (nI x) (nI y) :=
  pk_loop (fun n i s => wX_swapRows_2 post (nI x) (nI y) ro rm dv pd bs n (nI i) a1 a2 a3 a4 s a6 a7 a8 a9 a10 a11 a12 a13 a14) (fun _ _ => True) 6 0 a5 (by omega) trivial
    (fun n s _ => pk_le 6 6 (fun _ => H s) (fun z => absurd z (by omega)))
    (fun n i s hi _ hw => pk_le 6 i (fun z => absurd z (by omega)) (fun _ => ⟨pk_in (x * 6 + i) 24 (by omega) (cd_ix6 x i), nm_e ⟨pk_in (y * 6 + i) 24 (by omega) (cd_ix6 y i), pk_in (x * 6 + i) 24 (by omega) (cd_ix6 x i), nm_e ⟨pk_in (y * 6 + i) 24 (by omega) (cd_ix6 y i), nm_e (nm_r (nI_1 i) (hw _ trivial))⟩⟩⟩))
theorem cd_combine {post : St2 → Prop} {x y : Nat} {p q : Int64} (hx : x < 4) (hy : y < 4) (H : ∀ (a5' : Nat → Int64), post (ro, rm, dv, pd, bs, a1, a2, a3, a4, a5', a6, a7, a8, a9, a10, a11, a12, a13, a14)) :
    wpX_combine post (ro, rm, dv, pd, bs, a1, a2, a3, a4, a5, a6, a7, a8, a9, a10, a11, a12, a13, a14) (nI x) (nI y) p q :=
  ⟨pk_in (x * 6 + y) 24 (by omega) (cd_ix6 x y), nm_e (pk_loop (fun n i s => wX_combine_16 post (nI x) (nI y) p q (a5 ((nI x * 6) + nI y).toNatClampNeg) ro rm dv pd bs n (nI i) a1 a2 a3 a4 s a6 a7 a8 a9 a10 a11 a12 a13 a14) (fun _ _ => True) 6 0 a5 (by omega) trivial
    (fun n s _ => pk_le 6 6 (fun _ => H s) (fun z => absurd z (by omega)))
    (fun n i s hi _ hw => pk_le 6 i (fun z => absurd z (by omega)) (fun _ => ⟨pk_in (x * 6 + i) 24 (by omega) (cd_ix6 x i), pk_in (y * 6 + i) 24 (by omega) (cd_ix6 y i), nm_e (br_c (fun _ => ⟨pk_in (x * 6 + i) 24 (by omega) (cd_ix6 x i), nm_e (nm_r (nI_1 i) (hw _ trivial))⟩) (fun g => ⟨g, pk_in (x * 6 + i) 24 (by omega) (cd_ix6 x i), nm_e (nm_r (nI_1 i) (hw _ trivial))⟩))⟩)))⟩
theorem cd_r127 {post : Int32 → St2 → Prop} {x1 : Int64} (H : ∀ (a5' : Nat → Int64), post 1 (ro, rm, dv, pd, bs, a1, a2, a3, a4, a5', a6, a7, a8, a9, a10, a11, a12, a13, a14)) :
    ∃ n, wX_reduce_127 post x1 ro rm dv pd bs n 0 a1 a2 a3 a4 a5 a6 a7 a8 a9 a10 a11 a12 a13 a14 :=
  pk_loop (fun n i s => wX_reduce_127 post x1 ro rm dv pd bs n (nI i) a1 a2 a3 a4 s a6 a7 a8 a9 a10 a11 a12 a13 a14) (fun _ _ => True) 24 0 a5 (by omega) trivial
    (fun n s _ => pk_le 24 24 (fun _ => H s) (fun z => absurd z (by omega)))
    (fun n i s hi _ hw => pk_le 24 i (fun z => absurd z (by omega)) (fun _ => br_c (fun _ => H s) (fun _ => ⟨pk_in i 24 hi, pk_in i 24 hi, nm_e (nm_r (nI_1 i) (hw _ trivial))⟩)))
theorem cd_r72 {post : Int32 → St2 → Prop} {J4 : Int64 → Int32 → Int32 → Int32 → Int64 → Int64 → Int32 → (Nat → Int32) → (Nat → Int32) → (Nat → Int32) → (Nat → Int32) → (Nat → Int64) → (Nat → Int64) → (Nat → Int64) → (Nat → Int64) → (Nat → Int64) → (Nat → Int32) → (Nat → Int32) → (Nat → Int32) → (Nat → Int32) → (Nat → Int32) → Prop} {x1 x5 : Int64} {c : Nat} (hc : c < 4)
    (H : ∀ (a5' : Nat → Int64), J4 x5 (nI (c + 1)) ro rm dv pd bs a1 a2 a3 a4 a5' a6 a7 a8 a9 a10 a11 a12 a13 a14) :
    ∃ n, wX_reduce_72 post J4 x1 (nI c) x5 n 0 ro rm dv pd bs a1 a2 a3 a4 a5 a6 a7 a8 a9 a10 a11 a12 a13 a14 :=
  pk_loop (fun n i s => wX_reduce_72 post J4 x1 (nI c) x5 n (nI i) ro rm dv pd bs a1 a2 a3 a4 s a6 a7 a8 a9 a10 a11 a12 a13 a14) (fun _ _ => True) 4 0 a5 (by omega) trivial
    (fun n s _ => pk_le 4 4 (fun _ => nm_r (nI_1 c) (H s)) (fun z => absurd z (by omega)))
    (fun n i s hi _ hw => pk_le 4 i (fun z => absurd z (by omega)) (fun _ => pk_eq i c (fun _ => nm_r (nI_1 i) (hw _ trivial)) (fun _ => cd_combine hi hc (fun s' => nm_r (nI_1 i) (hw s' trivial)))))
theorem cd_r41 {post : Int32 → St2 → Prop} {J4 : Int64 → Int32 → Int32 → Int32 → Int64 → Int64 → Int32 → (Nat → Int32) → (Nat → Int32) → (Nat → Int32) → (Nat → Int32) → (Nat → Int64) → (Nat → Int64) → (Nat → Int64) → (Nat → Int64) → (Nat → Int64) → (Nat → Int32) → (Nat → Int32) → (Nat → Int32) → (Nat → Int32) → (Nat → Int32) → Prop} {x1 : Int64} {c k : Nat} (hc : c < 4) (hk : k ≤ 4)
    (H0 : ∀ (a5' : Nat → Int64), post 0 (ro, rm, dv, pd, bs, a1, a2, a3, a4, a5', a6, a7, a8, a9, a10, a11, a12, a13, a14)) (H : ∀ (x5 : Int64) (a5' : Nat → Int64), J4 x5 (nI (c + 1)) ro rm dv pd bs a1 a2 a3 a4 a5' a6 a7 a8 a9 a10 a11 a12 a13 a14) :
    wX_reduce_41 post J4 x1 (nI c) (nI k) ro rm dv pd bs a1 a2 a3 a4 a5 a6 a7 a8 a9 a10 a11 a12 a13 a14 :=
  pk_eq k 4 (fun _ => H0 a5) (fun z => cd_swapRows (by omega) hc (fun s => ⟨pk_in (c * 6 + c) 24 (by omega) (cd_ix6 c c), nm_e (cd_r72 hc (H _))⟩))
theorem cd_r12 {post : Int32 → St2 → Prop} {J4 : Int64 → Int32 → Int32 → Int32 → Int64 → Int64 → Int32 → (Nat → Int32) → (Nat → Int32) → (Nat → Int32) → (Nat → Int32) → (Nat → Int64) → (Nat → Int64) → (Nat → Int64) → (Nat → Int64) → (Nat → Int64) → (Nat → Int32) → (Nat → Int32) → (Nat → Int32) → (Nat → Int32) → (Nat → Int32) → Prop} {x1 : Int64} {c : Nat} (hc : c < 4)
    (H0 : ∀ (a5' : Nat → Int64), post 0 (ro, rm, dv, pd, bs, a1, a2, a3, a4, a5', a6, a7, a8, a9, a10, a11, a12, a13, a14)) (H : ∀ (x5 : Int64) (a5' : Nat → Int64), J4 x5 (nI (c + 1)) ro rm dv pd bs a1 a2 a3 a4 a5' a6 a7 a8 a9 a10 a11 a12 a13 a14) :
    ∃ n, wX_reduce_12 post J4 x1 (nI c) ro rm dv pd bs a1 a2 a3 a4 a5 a6 a7 a8 a9 a10 a11 a12 a13 a14 n (nI c) :=
  pk_loop (σ := Unit) (fun n i _ => wX_reduce_12 post J4 x1 (nI c) ro rm dv pd bs a1 a2 a3 a4 a5 a6 a7 a8 a9 a10 a11 a12 a13 a14 n (nI i)) (fun _ _ => True) 4 c () (by omega) trivial
    (fun n _ _ => pk_le 4 4 (fun _ => cd_r41 hc (Nat.le_refl 4) H0 H) (fun z => absurd z (by omega)))
    (fun n i _ hi _ hw => pk_le 4 i (fun z => absurd z (by omega)) (fun _ => ⟨pk_in (i * 6 + c) 24 (by omega) (cd_ix6 i c), br_c (fun _ => nm_r (nI_1 i) (hw () trivial)) (fun _ => cd_r41 hc (by omega) H0 H)⟩))
theorem cd_reduce {post : Int32 → St2 → Prop} (H : ∀ (r : Int32) (dv' : Int64) (a5' : Nat → Int64), post r (ro, rm, dv', pd, bs, a1, a2, a3, a4, a5', a6, a7, a8, a9, a10, a11, a12, a13, a14)) :
    wpX_reduce post (ro, rm, dv, pd, bs, a1, a2, a3, a4, a5, a6, a7, a8, a9, a10, a11, a12, a13, a14) :=
  pk_loop (fun n i (s : Int64 × (Nat → Int64)) => wX_reduce_4 post n s.1 (nI i) ro rm dv pd bs a1 a2 a3 a4 s.2 a6 a7 a8 a9 a10 a11 a12 a13 a14) (fun _ _ => True) 4 0 (1, a5) (by omega) trivial
    (fun n s _ => pk_le 4 4 (fun _ => br_c (fun _ => cd_r127 (fun _ => H _ _ _)) (fun _ => nm_e (cd_r127 (fun _ => H _ _ _)))) (fun z => absurd z (by omega)))
    (fun n i s hi _ hw => pk_le 4 i (fun z => absurd z (by omega)) (fun _ => cd_r12 hi (fun _ => H _ _ _) (fun x5 a5' => hw (x5, a5') trivial)))
/-! prices out of the patterns in use -/
theorem cd_pb91 {post : Int32 → St2 → Prop} (H : ∀ (a6' : Nat → Int64), post 1 (ro, rm, dv, pd, bs, a1, a2, a3, a4, a5, a6', a7, a8, a9, a10, a11, a12, a13, a14)) :
    ∃ n, wX_priceBasis_91 post ro rm dv pd bs n 0 a1 a2 a3 a4 a5 a6 a7 a8 a9 a10 a11 a12 a13 a14 :=
  pk_loop (fun n i s => wX_priceBasis_91 post ro rm dv pd bs n (nI i) a1 a2 a3 a4 a5 s a7 a8 a9 a10 a11 a12 a13 a14) (fun _ _ => True) 4 0 a6 (by omega) trivial
    (fun n s _ => pk_le 4 4 (fun _ => H s) (fun z => absurd z (by omega)))
    (fun n i s hi _ hw => pk_le 4 i (fun z => absurd z (by omega)) (fun _ => ⟨pk_in (i * 6 + 4) 24 (by omega) (cd_ix6 i 4), pk_in i 4 hi, nm_e (nm_r (nI_1 i) (hw _ trivial))⟩))
theorem cd_pb9 {post : Int32 → St2 → Prop} {J2 : Int32 → (Nat → Int32) → (Nat → Int32) → (Nat → Int32) → (Nat → Int32) → (Nat → Int64) → (Nat → Int64) → (Nat → Int64) → (Nat → Int64) → (Nat → Int64) → (Nat → Int32) → (Nat → Int32) → (Nat → Int32) → (Nat → Int32) → (Nat → Int32) → Prop} {b : Nat} (hb : b < 4)
    (H : ∀ (a5' : Nat → Int64), J2 (nI (b + 1)) a1 a2 a3 a4 a5' a6 a7 a8 a9 a10 a11 a12 a13 a14) :
    ∃ n, wX_priceBasis_9 post J2 (nI b) ro rm dv pd bs n 0 a1 a2 a3 a4 a5 a6 a7 a8 a9 a10 a11 a12 a13 a14 :=
  pk_loop (fun n i s => wX_priceBasis_9 post J2 (nI b) ro rm dv pd bs n (nI i) a1 a2 a3 a4 s a6 a7 a8 a9 a10 a11 a12 a13 a14) (fun _ _ => True) 4 0 a5 (by omega) trivial
    (fun n s _ => pk_le 4 4 (fun _ => ⟨pk_in (b * 6 + 4) 24 (by omega) (cd_ix6 b 4), nm_e ⟨pk_in (b * 6 + 5) 24 (by omega) (cd_ix6 b 5), nm_e (nm_r (nI_1 b) (H _))⟩⟩) (fun z => absurd z (by omega)))
    (fun n i s hi _ hw => pk_le 4 i (fun z => absurd z (by omega)) (fun _ => ⟨pk_in (b * 4 + i) 16 (by omega) (cd_ix4 b i), pk_in (b * 6 + i) 24 (by omega) (cd_ix6 b i), nm_e (nm_r (nI_1 i) (hw _ trivial))⟩))
theorem cd_priceBasis {post : Int32 → St2 → Prop} (H : ∀ (r : Int32) (dv' : Int64) (pd' : Int64) (a5' : Nat → Int64) (a6' : Nat → Int64), post r (ro, rm, dv', pd', bs, a1, a2, a3, a4, a5', a6', a7, a8, a9, a10, a11, a12, a13, a14)) :
    wpX_priceBasis post (ro, rm, dv, pd, bs, a1, a2, a3, a4, a5, a6, a7, a8, a9, a10, a11, a12, a13, a14) :=
  pk_loop (fun n i s => wX_priceBasis_2 post ro rm dv pd bs n (nI i) a1 a2 a3 a4 s a6 a7 a8 a9 a10 a11 a12 a13 a14) (fun _ _ => True) 4 0 a5 (by omega) trivial
    (fun n s _ => pk_le 4 4 (fun _ => cd_reduce (fun r dv' a5' => br_c (fun _ => H _ _ _ _ _) (fun _ => cd_pb91 (fun a6' => H _ _ _ _ _)))) (fun z => absurd z (by omega)))
    (fun n i s hi _ hw => pk_le 4 i (fun z => absurd z (by omega)) (fun _ => cd_pb9 hi (fun a5' => hw a5' trivial)))
theorem cd_sound {post : Int32 → Prop} (H : ∀ r : Int32, post r) : wpX_sound post (ro, rm, dv, pd, bs, a1, a2, a3, a4, a5, a6, a7, a8, a9, a10, a11, a12, a13, a14) :=
  pk_loop (σ := Unit) (fun n i _ => wX_sound_2 post ro rm dv pd bs a1 a2 a3 a4 a5 a6 a7 a8 a9 a10 a11 a12 a13 a14 n (nI i)) (fun _ _ => True) 4 0 () (by omega) trivial
    (fun n _ _ => pk_le 4 4 (fun _ => br_c (fun _ => H _) (fun _ => H _)) (fun z => absurd z (by omega)))
    (fun n i _ hi _ hw => pk_le 4 i (fun z => absurd z (by omega)) (fun _ => ⟨pk_in i 4 hi, br_c (fun _ => nm_r (nI_1 i) (hw () trivial)) (fun _ => H _)⟩))
end
end
section
/-- what lies in lastPiece below n: none, or a kind that is no wider than its place -/
def cd_LP (a1 a10 : Nat → Int32) (n : Nat) : Prop := ∀ j, j < n → a10 j = -1 ∨ ∃ k w, k < 4 ∧ a10 j = nI k ∧ a1 k = nI w ∧ 1 ≤ w ∧ w ≤ j
theorem cd_LP_put {a1 a10 : Nat → Int32} {n i x k w : Nat} {v : Int32} (h : cd_LP a1 a10 n) (e : x = i) (hv : v = nI k) (hk : k < 4) (hw : a1 k = nI w) (h1 : 1 ≤ w) (h2 : w ≤ i) : cd_LP a1 (upd a10 x v) n := by
  intro j hj
  rw [e]
  by_cases g : j = i
  · rw [g, pk_us]
    exact Or.inr ⟨k, w, hk, hv, hw, h1, h2⟩
  · rw [pk_un g]
    exact h j hj
theorem cd_LP_neg {a1 a10 : Nat → Int32} {i x : Nat} (h : cd_LP a1 a10 i) (e : x = i) : cd_LP a1 (upd a10 x (-1)) (i + 1) := by
  intro j hj
  rw [e]
  by_cases g : j = i
  · rw [g, pk_us]
    exact Or.inl rfl
  · rw [pk_un g]
    exact h j (by omega)
/-- the pattern that leaves: none yet, or one of the four -/
def cd_O (x : Int32) : Prop := x = -1 ∨ ∃ o, o < 4 ∧ x = nI o
theorem cd_O_in {x : Int32} (h : cd_O x) (g : ¬ x < 0) : vp_in x 4 := by
  rcases h with h | ⟨o, ho, h⟩
  · exact absurd (show x < 0 from by rw [h]; decide) g
  · exact pk_in o 4 ho h
section
variable {ro : Int32} {rm : Int32} {dv : Int64} {pd : Int64} {bs : Int32} {a1 : Nat → Int32} {a2 : Nat → Int32} {a3 : Nat → Int32} {a4 : Nat → Int32} {a5 : Nat → Int64} {a6 : Nat → Int64} {a7 : Nat → Int64} {a8 : Nat → Int64} {a9 : Nat → Int64} {a10 : Nat → Int32} {a11 : Nat → Int32} {a12 : Nat → Int32} {a13 : Nat → Int32} {a14 : Nat → Int32}
theorem cd_mv165 {post : Int64 → St2 → Prop} {R v : Nat} (hR : R ≤ 40) (hv : v ≤ R) (hl : cd_LP a1 a10 (R + 1)) (H : ∀ (r : Int64) (a11' : Nat → Int32), post r (ro, (nI R), dv, pd, bs, a1, a2, a3, a4, a5, a6, a7, a8, a9, a10, a11', a12, a13, a14)) :
    ∃ n, wX_mostValuable_165 post ro (nI R) dv pd bs n (nI v) 0 a1 a2 a3 a4 a5 a6 a7 a8 a9 a10 a11 a12 a13 a14 :=
  pk_loop (fun n i (s : Nat × (Nat → Int32)) => wX_mostValuable_165 post ro (nI R) dv pd bs n (nI s.1) (nI i) a1 a2 a3 a4 a5 a6 a7 a8 a9 a10 s.2 a12 a13 a14) (fun _ s => s.1 ≤ R) 40 0 (v, a11) (by omega) hv
    (fun n s _ => pk_le 40 40 (fun _ => ⟨pk_in R 41 (by omega), H _ _⟩) (fun z => absurd z (by omega)))
    (fun n i s hi hs hw => pk_le 40 i (fun z => absurd z (by omega)) (fun _ => pk_le s.1 0 (fun _ => ⟨pk_in R 41 (by omega), H _ _⟩) (fun g => ⟨pk_in s.1 41 (by omega), by
      rcases hl s.1 (by omega) with h | ⟨k, w, hk, h, h1, h2, h3⟩
      · refine nm_r (cd_a0 h) (br_t (by decide) (nm_r (sb_m1 g) (nm_r (nI_1 i) (hw (s.1 - 1, s.2) ?_))))
        show s.1 - 1 ≤ R
        omega
      · refine nm_r (cd_a0 h) (br_f (nI_pos (by omega)) ⟨pk_in k 4 hk, pk_in k 4 hk, nm_e ⟨pk_in k 4 hk, nm_r (e' := nI (s.1 - w)) ?_ (nm_r (nI_1 i) (hw (s.1 - w, _) ?_))⟩⟩)
        · rw [cd_a0 h1, pk_sub h3]
        · show s.1 - w ≤ R
          omega⟩)))
theorem cd_mv140 {post : Int64 → St2 → Prop} {R : Nat} (hR : R ≤ 40) (hl : cd_LP a1 a10 (R + 1)) (H : ∀ (r : Int64) (a11' : Nat → Int32), post r (ro, (nI R), dv, pd, bs, a1, a2, a3, a4, a5, a6, a7, a8, a9, a10, a11', a12, a13, a14)) :
    ∃ n, wX_mostValuable_140 post ro (nI R) dv pd bs n 0 a1 a2 a3 a4 a5 a6 a7 a8 a9 a10 a11 a12 a13 a14 :=
  pk_loop (fun n i s => wX_mostValuable_140 post ro (nI R) dv pd bs n (nI i) a1 a2 a3 a4 a5 a6 a7 a8 a9 a10 s a12 a13 a14) (fun _ _ => True) 4 0 a11 (by omega) trivial
    (fun n s _ => pk_le 4 4 (fun _ => cd_mv165 hR (Nat.le_refl R) hl H) (fun z => absurd z (by omega)))
    (fun n i s hi _ hw => pk_le 4 i (fun z => absurd z (by omega)) (fun _ => ⟨pk_in i 4 hi, nm_e (nm_r (nI_1 i) (hw _ trivial))⟩))
theorem cd_mv47 {post : Int64 → St2 → Prop} {J16 : Int32 → (Nat → Int32) → (Nat → Int32) → (Nat → Int32) → (Nat → Int32) → (Nat → Int64) → (Nat → Int64) → (Nat → Int64) → (Nat → Int64) → (Nat → Int64) → (Nat → Int32) → (Nat → Int32) → (Nat → Int32) → (Nat → Int32) → (Nat → Int32) → Prop} {i : Nat} (hi : i ≤ 40) (hW : cd_W a1) (hl : cd_LP a1 a10 (i + 1))
    (H : ∀ (a9' : Nat → Int64) (a10' : Nat → Int32), cd_LP a1 a10' (i + 1) → J16 (nI (i + 1)) a1 a2 a3 a4 a5 a6 a7 a8 a9' a10' a11 a12 a13 a14) :
    ∃ n, wX_mostValuable_47 post J16 (nI i) ro rm dv pd bs n 0 a1 a2 a3 a4 a5 a6 a7 a8 a9 a10 a11 a12 a13 a14 :=
  pk_loop (fun n k (s : (Nat → Int64) × (Nat → Int32)) => wX_mostValuable_47 post J16 (nI i) ro rm dv pd bs n (nI k) a1 a2 a3 a4 a5 a6 a7 a8 s.1 s.2 a11 a12 a13 a14) (fun _ s => cd_LP a1 s.2 (i + 1)) 4 0 (a9, a10) (by omega) hl
    (fun n s hs => pk_le 4 4 (fun _ => nm_r (nI_1 i) (H _ _ hs)) (fun z => absurd z (by omega)))
    (fun n k s hk hs hw => pk_le 4 k (fun z => absurd z (by omega)) (fun _ => ⟨pk_in k 4 hk, by
      obtain ⟨w, h1, h2, h3⟩ := hW k hk
      refine pk_lt i w (fun _ => nm_r (nI_1 k) (hw s hs)) (fun g => ?_) rfl (cd_a0 h3)
      have e : nI i - a1 (nI k).toNatClampNeg = nI (i - w) := by rw [cd_a0 h3, pk_sub g]
      refine ⟨pk_in k 4 hk, pk_in (i - w) 41 (by omega) e, pk_in k 4 hk, pk_in i 41 (by omega), br_c (fun _ => nm_r (nI_1 k) (hw s hs)) (fun _ => ⟨pk_in k 4 hk, pk_in (i - w) 41 (by omega) e, pk_in k 4 hk, pk_in i 41 (by omega), nm_e ⟨pk_in i 41 (by omega), nm_e (nm_r (nI_1 k) (hw (_, _) ?_))⟩⟩)⟩
      exact cd_LP_put hs (nI_clamp (by omega)) (cd_byte k (by omega)) hk h3 h1 g⟩))
theorem cd_mostValuable {post : Int64 → St2 → Prop} {R : Nat} (hR : R ≤ 40) (hW : cd_W a1) (H : ∀ (r : Int64) (a9' : Nat → Int64) (a10' : Nat → Int32) (a11' : Nat → Int32), post r (ro, (nI R), dv, pd, bs, a1, a2, a3, a4, a5, a6, a7, a8, a9', a10', a11', a12, a13, a14)) :
    wpX_mostValuable post (ro, (nI R), dv, pd, bs, a1, a2, a3, a4, a5, a6, a7, a8, a9, a10, a11, a12, a13, a14) :=
  nm_e (nm_e (pk_loop (fun n i (s : (Nat → Int64) × (Nat → Int32)) => wX_mostValuable_16 post ro (nI R) dv pd bs n (nI i) a1 a2 a3 a4 a5 a6 a7 a8 s.1 s.2 a11 a12 a13 a14) (fun i s => 1 ≤ i ∧ cd_LP a1 s.2 i) (R + 1) 1 (vp_updL a9 0 0, upd a10 0 (-1)) (by omega)
    ⟨Nat.le_refl 1, cd_LP_neg (i := 0) (fun j hj => absurd hj (by omega)) rfl⟩
    (fun n s hs => pk_lt R (R + 1) (fun _ => cd_mv140 hR hs.2 (fun r a11' => H _ _ _ _)) (fun z => absurd z (by omega)))
    (fun n i s hi hs hw => pk_lt R i (fun z => absurd z (by omega)) (fun _ => ⟨pk_in (i - 1) 41 (by omega) (pk_sub hs.1), pk_in i 41 (by omega), nm_e ⟨pk_in i 41 (by omega), nm_e (cd_mv47 (by omega) hW (cd_LP_neg hs.2 (nI_clamp (by omega))) (fun a9' a10' h => hw (a9', a10') ⟨by omega, h⟩))⟩⟩))))
/-! the pattern that enters takes a place -/
theorem cd_pv197 {post : Int32 → St2 → Prop} {o : Nat} (ho : o < 4) (H : ∀ (a4' : Nat → Int32), post 1 (ro, rm, dv, pd, bs, a1, a2, a3, a4', a5, a6, a7, a8, a9, a10, a11, a12, a13, a14)) :
    ∃ n, wX_pivot_197 post (nI o) ro rm dv pd bs n 0 a1 a2 a3 a4 a5 a6 a7 a8 a9 a10 a11 a12 a13 a14 :=
  pk_loop (fun n i s => wX_pivot_197 post (nI o) ro rm dv pd bs n (nI i) a1 a2 a3 s a5 a6 a7 a8 a9 a10 a11 a12 a13 a14) (fun _ _ => True) 4 0 a4 (by omega) trivial
    (fun n s _ => pk_le 4 4 (fun _ => H s) (fun z => absurd z (by omega)))
    (fun n i s hi _ hw => pk_le 4 i (fun z => absurd z (by omega)) (fun _ => ⟨pk_in i 4 hi, pk_in (o * 4 + i) 16 (by omega) (cd_ix4 o i), nm_e (nm_r (nI_1 i) (hw _ trivial))⟩))
theorem cd_pv97 {post : Int32 → St2 → Prop} (H : ∀ (r : Int32) (a4' : Nat → Int32) (a7' : Nat → Int64) (a8' : Nat → Int64), post r (ro, rm, dv, pd, bs, a1, a2, a3, a4', a5, a6, a7', a8', a9, a10, a11, a12, a13, a14)) :
    ∃ n, wX_pivot_97 post ro rm dv pd bs n (-1) 0 a1 a2 a3 a4 a5 a6 a7 a8 a9 a10 a11 a12 a13 a14 :=
  pk_loop (fun n i (s : Int32 × (Nat → Int64) × (Nat → Int64)) => wX_pivot_97 post ro rm dv pd bs n s.1 (nI i) a1 a2 a3 a4 a5 a6 s.2.1 s.2.2 a9 a10 a11 a12 a13 a14) (fun _ s => cd_O s.1) 4 0 (-1, a7, a8) (by omega) (Or.inl rfl)
    (fun n s hs => pk_le 4 4 (fun _ => by
      rcases hs with h | ⟨o, ho, h⟩
      · exact br_f (by rw [h]; decide) (H _ _ _ _)
      · refine br_t (by rw [h]; exact nI_pos' (by omega)) ?_
        rw [h]
        exact cd_pv197 ho (fun a4' => H _ _ _ _)) (fun z => absurd z (by omega)))
    (fun n i s hi hs hw => pk_le 4 i (fun z => absurd z (by omega)) (fun _ => ⟨pk_in (i * 6 + 4) 24 (by omega) (cd_ix6 i 4), pk_in i 4 hi, nm_e ⟨pk_in (i * 6 + 5) 24 (by omega) (cd_ix6 i 5), pk_in i 4 hi, nm_e ⟨pk_in i 4 hi,
      br_c (fun _ => nm_r (nI_1 i) (hw (s.1, vp_updL s.2.1 (nI i).toNatClampNeg (a5 (nI i * 6 + 4).toNatClampNeg), vp_updL s.2.2 (nI i).toNatClampNeg (a5 (nI i * 6 + 5).toNatClampNeg)) hs)) (fun _ => br_c (fun _ => nm_r (nI_1 i) (hw (nI i, _, _) (Or.inr ⟨i, hi, rfl⟩)))
        (fun g => ⟨pk_in i 4 hi, cd_O_in hs g, cd_O_in hs g, pk_in i 4 hi, br_c (fun _ => nm_r (nI_1 i) (hw (s.1, vp_updL s.2.1 (nI i).toNatClampNeg (a5 (nI i * 6 + 4).toNatClampNeg), vp_updL s.2.2 (nI i).toNatClampNeg (a5 (nI i * 6 + 5).toNatClampNeg)) hs)) (fun _ => nm_r (nI_1 i) (hw (nI i, _, _) (Or.inr ⟨i, hi, rfl⟩)))⟩))⟩⟩⟩))
theorem cd_pv9 {post : Int32 → St2 → Prop} {J2 : Int32 → (Nat → Int32) → (Nat → Int32) → (Nat → Int32) → (Nat → Int32) → (Nat → Int64) → (Nat → Int64) → (Nat → Int64) → (Nat → Int64) → (Nat → Int64) → (Nat → Int32) → (Nat → Int32) → (Nat → Int32) → (Nat → Int32) → (Nat → Int32) → Prop} {k : Nat} (hk : k < 4)
    (H : ∀ (a5' : Nat → Int64), J2 (nI (k + 1)) a1 a2 a3 a4 a5' a6 a7 a8 a9 a10 a11 a12 a13 a14) :
    ∃ n, wX_pivot_9 post J2 (nI k) ro rm dv pd bs n 0 a1 a2 a3 a4 a5 a6 a7 a8 a9 a10 a11 a12 a13 a14 :=
  pk_loop (fun n i s => wX_pivot_9 post J2 (nI k) ro rm dv pd bs n (nI i) a1 a2 a3 a4 s a6 a7 a8 a9 a10 a11 a12 a13 a14) (fun _ _ => True) 4 0 a5 (by omega) trivial
    (fun n s _ => pk_le 4 4 (fun _ => ⟨pk_in k 4 hk, pk_in (k * 6 + 4) 24 (by omega) (cd_ix6 k 4), nm_e ⟨pk_in k 4 hk, pk_in (k * 6 + 5) 24 (by omega) (cd_ix6 k 5), nm_e (nm_r (nI_1 k) (H _))⟩⟩) (fun z => absurd z (by omega)))
    (fun n i s hi _ hw => pk_le 4 i (fun z => absurd z (by omega)) (fun _ => ⟨pk_in (i * 4 + k) 16 (by omega) (cd_ix4 i k), pk_in (k * 6 + i) 24 (by omega) (cd_ix6 k i), nm_e (nm_r (nI_1 i) (hw _ trivial))⟩))
theorem cd_pivot {post : Int32 → St2 → Prop} (H : ∀ (r : Int32) (dv' : Int64) (a4' : Nat → Int32) (a5' : Nat → Int64) (a7' : Nat → Int64) (a8' : Nat → Int64), post r (ro, rm, dv', pd, bs, a1, a2, a3, a4', a5', a6, a7', a8', a9, a10, a11, a12, a13, a14)) :
    wpX_pivot post (ro, rm, dv, pd, bs, a1, a2, a3, a4, a5, a6, a7, a8, a9, a10, a11, a12, a13, a14) :=
  pk_loop (fun n i s => wX_pivot_2 post ro rm dv pd bs n (nI i) a1 a2 a3 a4 s a6 a7 a8 a9 a10 a11 a12 a13 a14) (fun _ _ => True) 4 0 a5 (by omega) trivial
    (fun n s _ => pk_le 4 4 (fun _ => cd_reduce (fun r dv' a5' => br_c (fun _ => H _ _ _ _ _ _) (fun _ => cd_pv97 (fun r a4' a7' a8' => H _ _ _ _ _ _)))) (fun z => absurd z (by omega)))
    (fun n i s hi _ hw => pk_le 4 i (fun z => absurd z (by omega)) (fun _ => cd_pv9 hi (fun a5' => hw a5' trivial)))
/-! prices: they end, and leave alone what the search reads -/
theorem cd_fp159 {post : St2 → Prop} (H : ∀ (a6' : Nat → Int64), post (ro, rm, dv, pd, bs, a1, a2, a3, a4, a5, a6', a7, a8, a9, a10, a11, a12, a13, a14)) :
    ∃ n, wX_findPrices_159 post ro rm dv pd bs n 0 a1 a2 a3 a4 a5 a6 a7 a8 a9 a10 a11 a12 a13 a14 :=
  pk_loop (fun n i s => wX_findPrices_159 post ro rm dv pd bs n (nI i) a1 a2 a3 a4 a5 s a7 a8 a9 a10 a11 a12 a13 a14) (fun _ _ => True) 4 0 a6 (by omega) trivial
    (fun n s _ => pk_le 4 4 (fun _ => H s) (fun z => absurd z (by omega)))
    (fun n i s hi _ hw => pk_le 4 i (fun z => absurd z (by omega)) (fun _ => ⟨pk_in i 4 hi, br_c (fun _ => ⟨pk_in i 4 hi, nm_e (nm_r (nI_1 i) (hw _ trivial))⟩) (fun _ => ⟨pk_in i 4 hi, pk_in i 4 hi, nm_e (nm_r (nI_1 i) (hw _ trivial))⟩)⟩))
theorem cd_fp96 {post : St2 → Prop} {R : Nat} (hR : R ≤ 40) (hW : cd_W a1) (H : ∀ (dv' : Int64) (pd' : Int64) (a4' : Nat → Int32) (a5' : Nat → Int64) (a6' : Nat → Int64) (a7' : Nat → Int64) (a8' : Nat → Int64) (a9' : Nat → Int64) (a10' : Nat → Int32) (a11' : Nat → Int32), post (ro, (nI R), dv', pd', bs, a1, a2, a3, a4', a5', a6', a7', a8', a9', a10', a11', a12, a13, a14)) :
    ∃ n, wX_findPrices_96 post n 0 ro (nI R) dv pd bs a1 a2 a3 a4 a5 a6 a7 a8 a9 a10 a11 a12 a13 a14 :=
  pk_loop (fun n i (s : Int64 × Int64 × (Nat → Int32) × (Nat → Int64) × (Nat → Int64) × (Nat → Int64) × (Nat → Int64) × (Nat → Int64) × (Nat → Int32) × (Nat → Int32)) => wX_findPrices_96 post n (nI i) ro (nI R) s.1 s.2.1 bs a1 a2 a3 s.2.2.1 s.2.2.2.1 s.2.2.2.2.1 s.2.2.2.2.2.1 s.2.2.2.2.2.2.1 s.2.2.2.2.2.2.2.1 s.2.2.2.2.2.2.2.2.1 s.2.2.2.2.2.2.2.2.2 a12 a13 a14) (fun _ _ => True) 40 0 (dv, pd, a4, a5, a6, a7, a8, a9, a10, a11) (by omega) trivial
    (fun n s _ => pk_le 40 40 (fun _ => cd_fp159 (fun _ => H _ _ _ _ _ _ _ _ _ _)) (fun z => absurd z (by omega)))
    (fun n i s hi _ hw => pk_le 40 i (fun z => absurd z (by omega)) (fun _ => cd_priceBasis (fun r1 dv1 pd1 b5 b6 => br_c (fun _ => cd_fp159 (fun _ => H _ _ _ _ _ _ _ _ _ _)) (fun _ => cd_sound (fun r2 => br_c (fun _ => cd_fp159 (fun _ => H _ _ _ _ _ _ _ _ _ _)) (fun _ =>
      cd_mostValuable hR hW (fun r3 b9 b10 b11 => br_c (fun _ => cd_pivot (fun r4 dv2 b4 c5 b7 b8 => br_c (fun _ => cd_fp159 (fun _ => H _ _ _ _ _ _ _ _ _ _)) (fun _ => nm_r (nI_1 i) (hw (dv2, pd1, b4, c5, b6, b7, b8, b9, b10, b11) trivial)))) (fun _ => H _ _ _ _ _ _ _ _ _ _))))))))
theorem cd_fp9 {post : St2 → Prop} {J2 : Int32 → (Nat → Int32) → (Nat → Int32) → (Nat → Int32) → (Nat → Int32) → (Nat → Int64) → (Nat → Int64) → (Nat → Int64) → (Nat → Int64) → (Nat → Int64) → (Nat → Int32) → (Nat → Int32) → (Nat → Int32) → (Nat → Int32) → (Nat → Int32) → Prop} {b : Nat} (hb : b < 4) (hW : cd_W a1)
    (H : ∀ (a4' : Nat → Int32), J2 (nI (b + 1)) a1 a2 a3 a4' a5 a6 a7 a8 a9 a10 a11 a12 a13 a14) :
    ∃ n, wX_findPrices_9 post J2 (nI b) ro rm dv pd bs n 0 a1 a2 a3 a4 a5 a6 a7 a8 a9 a10 a11 a12 a13 a14 :=
  pk_loop (fun n i s => wX_findPrices_9 post J2 (nI b) ro rm dv pd bs n (nI i) a1 a2 a3 s a5 a6 a7 a8 a9 a10 a11 a12 a13 a14) (fun _ _ => True) 4 0 a4 (by omega) trivial
    (fun n s _ => pk_le 4 4 (fun _ => ⟨pk_in b 4 hb, br_c (fun _ => nm_r (nI_1 b) (H _)) (fun _ => ⟨pk_in (b * 4 + b) 16 (by omega) (cd_ix4 b b), nm_e (nm_r (nI_1 b) (H _))⟩)⟩) (fun z => absurd z (by omega)))
    (fun n i s hi _ hw => pk_le 4 i (fun z => absurd z (by omega)) (fun _ => br_c
      (fun _ => ⟨pk_in i 4 hi, br_c (fun _ => ⟨pk_in (b * 4 + i) 16 (by omega) (cd_ix4 b i), nm_e (nm_r (nI_1 i) (hw _ trivial))⟩) (fun _ => ⟨pk_in i 4 hi, (by
        obtain ⟨w, h1, h2, h3⟩ := hW i hi
        rw [cd_a0 h3]
        exact nI_ne0 h1 (by omega)), pk_in (b * 4 + i) 16 (by omega) (cd_ix4 b i), nm_e (nm_r (nI_1 i) (hw _ trivial))⟩)⟩)
      (fun _ => ⟨pk_in (b * 4 + i) 16 (by omega) (cd_ix4 b i), nm_e (nm_r (nI_1 i) (hw _ trivial))⟩)))
theorem cd_findPrices {post : St2 → Prop} {R : Nat} (hR : R ≤ 40) (hW : cd_W a1) (H : ∀ (dv' : Int64) (pd' : Int64) (a4' : Nat → Int32) (a5' : Nat → Int64) (a6' : Nat → Int64) (a7' : Nat → Int64) (a8' : Nat → Int64) (a9' : Nat → Int64) (a10' : Nat → Int32) (a11' : Nat → Int32), post (ro, (nI R), dv', pd', bs, a1, a2, a3, a4', a5', a6', a7', a8', a9', a10', a11', a12, a13, a14)) :
    wpX_findPrices post (ro, (nI R), dv, pd, bs, a1, a2, a3, a4, a5, a6, a7, a8, a9, a10, a11, a12, a13, a14) :=
  pk_loop (fun n i s => wX_findPrices_2 post ro (nI R) dv pd bs n (nI i) a1 a2 a3 s a5 a6 a7 a8 a9 a10 a11 a12 a13 a14) (fun _ _ => True) 4 0 a4 (by omega) trivial
    (fun n s _ => pk_le 4 4 (fun _ => cd_fp96 hR hW H) (fun z => absurd z (by omega)))
    (fun n i s hi _ hw => pk_le 4 i (fun z => absurd z (by omega)) (fun _ => cd_fp9 hi hW (fun a4' => hw a4' trivial)))
end
end
section
/-! a row of four: p of kind 0, q of kind 3, none of the others -/
def cd_v (p q : Nat) : Nat → Nat := fun k => if k = 0 then p else if k = 3 then q else 0
def cd_lv (f : Nat → Int32) (r p q : Nat) : Prop := ∀ k, k < 4 → f (r * 4 + k) = nI (cd_v p q k)
theorem cd_v_le {p q : Nat} (hp : p ≤ 1) (hq : q ≤ 1) (k : Nat) : cd_v p q k ≤ 1 := by
  unfold cd_v
  split
  · exact hp
  · split
    · exact hq
    · omega
theorem cd_v_pos {p q k : Nat} (h : 0 < cd_v p q k) : 1 ≤ p + q := by
  unfold cd_v at h
  split at h
  · omega
  · split at h
    · omega
    · omega
theorem cd_v_mono {p q c d : Nat} (hc : c ≤ p) (hd : d ≤ q) (k : Nat) : cd_v c d k ≤ cd_v p q k := by
  unfold cd_v
  split
  · exact hc
  · split
    · exact hd
    · omega
theorem cd_v_sub (p q c d k : Nat) : cd_v p q k - cd_v c d k = cd_v (p - c) (q - d) k := by
  unfold cd_v
  split
  · rfl
  · split
    · rfl
    · rfl
theorem cd_v_0 (k : Nat) : cd_v 0 0 k = 0 := by
  unfold cd_v
  split
  · rfl
  · split
    · rfl
    · rfl
/-- the first i places from base on are filled with g, those below base are as in f -/
def cd_row (s f : Nat → Int32) (base i : Nat) (g : Nat → Int32) : Prop := (∀ k, k < i → s (base + k) = g k) ∧ (∀ j, j < base → s j = f j)
theorem cd_row_0 {f : Nat → Int32} {base : Nat} {g : Nat → Int32} : cd_row f f base 0 g := ⟨fun k hk => absurd hk (by omega), fun _ _ => rfl⟩
theorem cd_row_put {s f : Nat → Int32} {base i x : Nat} {g : Nat → Int32} {v : Int32} (h : cd_row s f base i g) (e : x = base + i) (hv : v = g i) : cd_row (upd s x v) f base (i + 1) g := by
  refine ⟨fun k hk => ?_, fun j hj => ?_⟩
  · rw [e]
    by_cases z : k = i
    · rw [z, pk_us, hv]
    · rw [pk_un (by omega)]
      exact h.1 k (by omega)
  · rw [e, pk_un (by omega)]
    exact h.2 j hj
theorem cd_lv_put0 {f : Nat → Int32} {r c d n : Nat} (h : cd_lv f r c d) : cd_lv (upd f (r * 4 + 0) (nI n)) r n d := by
  intro k hk
  by_cases z : k = 0
  · rw [z, pk_us]
    rfl
  · rw [pk_un (by omega), h k hk]
    unfold cd_v
    rw [if_neg z, if_neg z]
theorem cd_lv_put3 {f : Nat → Int32} {r c d n : Nat} (h : cd_lv f r c d) : cd_lv (upd f (r * 4 + 3) (nI n)) r c n := by
  intro k hk
  by_cases z : k = 3
  · rw [z, pk_us]
    rfl
  · rw [pk_un (by omega), h k hk]
    unfold cd_v
    rw [if_neg z, if_neg z]
theorem cd_lv_of {f : Nat → Int32} {r c d : Nat} (h0 : f (r * 4 + 0) = nI c) (h1 : f (r * 4 + 1) = nI 0) (h2 : f (r * 4 + 2) = nI 0) (h3 : f (r * 4 + 3) = nI d) : cd_lv f r c d := by
  intro k hk
  exact co_4 (P := fun k => f (r * 4 + k) = nI (cd_v c d k)) h0 h1 h2 h3 hk
theorem cd_lv_keep {f g : Nat → Int32} {r n p q : Nat} (h : cd_lv f r p q) (hk : ∀ j, j < n → g j = f j) (hn : r * 4 + 4 ≤ n) : cd_lv g r p q := by
  intro k hk'
  rw [hk _ (by omega)]
  exact h k hk'
/-- the widths: a of kind 0, b of kind 3, one of the others -/
def cd_wd (a1 : Nat → Int32) (a b : Nat) : Prop := a1 0 = nI a ∧ a1 1 = nI 1 ∧ a1 2 = nI 1 ∧ a1 3 = nI b
theorem cd_wd_W {a1 : Nat → Int32} {a b : Nat} (h : cd_wd a1 a b) (ha : 1 ≤ a) (ha2 : a ≤ 40) (hb : 1 ≤ b) (hb2 : b ≤ 40) : cd_W a1 := by
  intro k hk
  exact co_4 (P := fun k => ∃ w, 1 ≤ w ∧ w ≤ 127 ∧ a1 k = nI w) ⟨a, ha, by omega, h.1⟩ ⟨1, by omega, by omega, h.2.1⟩ ⟨1, by omega, by omega, h.2.2.1⟩ ⟨b, hb, by omega, h.2.2.2⟩ hk
section
variable {ro : Int32} {rm : Int32} {dv : Int64} {pd : Int64} {bs : Int32} {a1 : Nat → Int32} {a2 : Nat → Int32} {a3 : Nat → Int32} {a4 : Nat → Int32} {a5 : Nat → Int64} {a6 : Nat → Int64} {a7 : Nat → Int64} {a8 : Nat → Int64} {a9 : Nat → Int64} {a10 : Nat → Int32} {a11 : Nat → Int32} {a12 : Nat → Int32} {a13 : Nat → Int32} {a14 : Nat → Int32}
theorem cd_served {post : Int32 → Prop} {r p q : Nat} (hr : r ≤ 13) (hp : p ≤ 1) (hq : q ≤ 1) (h : cd_lv a12 r p q) (H0 : 1 ≤ p + q → post 0) (H1 : p = 0 → q = 0 → post 1) :
    wpX_served post (ro, rm, dv, pd, bs, a1, a2, a3, a4, a5, a6, a7, a8, a9, a10, a11, a12, a13, a14) (nI r) :=
  pk_loop (σ := Unit) (fun n i _ => wX_served_2 post (nI r) ro rm dv pd bs a1 a2 a3 a4 a5 a6 a7 a8 a9 a10 a11 a12 a13 a14 n (nI i)) (fun i _ => ∀ k, k < i → cd_v p q k = 0) 4 0 () (by omega) (fun k hk => absurd hk (by omega))
    (fun n _ hs => pk_le 4 4 (fun _ => H1 (hs 0 (by omega)) (hs 3 (by omega))) (fun z => absurd z (by omega)))
    (fun n i _ hi hs hw => pk_le 4 i (fun z => absurd z (by omega)) (fun _ => ⟨pk_in (r * 4 + i) 56 (by omega) (cd_ix4 r i),
      pk_le (cd_v p q i) 0 (fun z => nm_r (nI_1 i) (hw () (lt_s hs (show cd_v p q i = 0 by omega)))) (fun z => H0 (cd_v_pos z)) (cd_at (h i hi)) rfl (by have := cd_v_le hp hq i; omega)⟩))
theorem cd_boundAt {post : Int32 → Prop} {r : Nat} (hr : r ≤ 13) (H : ∀ x : Int32, post x) : wpX_boundAt post (ro, rm, dv, pd, bs, a1, a2, a3, a4, a5, a6, a7, a8, a9, a10, a11, a12, a13, a14) (nI r) :=
  pk_loop (fun n i (s : Int64) => wX_boundAt_5 post (nI r) ro rm dv pd bs a1 a2 a3 a4 a5 a6 a7 a8 a9 a10 a11 a12 a13 a14 n s (nI i)) (fun _ _ => True) 4 0 0 (by omega) trivial
    (fun n s _ => pk_le 4 4 (fun _ => br_c (fun _ => And.intro (by decide) (H _)) (fun g => And.intro (fun e => g (by rw [e]; decide)) (H _))) (fun z => absurd z (by omega)))
    (fun n i s hi _ hw => pk_le 4 i (fun z => absurd z (by omega)) (fun _ => ⟨pk_in i 4 hi, pk_in (r * 4 + i) 56 (by omega) (cd_ix4 r i), nm_e (nm_r (nI_1 i) (hw _ trivial))⟩))
theorem cd_takeOff {post : St2 → Prop} {r p q c d : Nat} (hr : r ≤ 12) (hp : p ≤ 1) (hq : q ≤ 1) (hc : c ≤ p) (hd : d ≤ q) (h : cd_lv a12 r p q) (h' : cd_lv a13 r c d)
    (H : ∀ (a12' : Nat → Int32), cd_lv a12' (r + 1) (p - c) (q - d) → (∀ j, j < (r + 1) * 4 → a12' j = a12 j) → post (ro, rm, dv, pd, bs, a1, a2, a3, a4, a5, a6, a7, a8, a9, a10, a11, a12', a13, a14)) :
    wpX_takeOff post (ro, rm, dv, pd, bs, a1, a2, a3, a4, a5, a6, a7, a8, a9, a10, a11, a12, a13, a14) (nI r) :=
  pk_loop (fun n i s => wX_takeOff_2 post (nI r) ro rm dv pd bs n (nI i) a1 a2 a3 a4 a5 a6 a7 a8 a9 a10 a11 s a13 a14) (fun i s => cd_row s a12 ((r + 1) * 4) i (fun k => nI (cd_v (p - c) (q - d) k))) 4 0 a12 (by omega) cd_row_0
    (fun n s hs => pk_le 4 4 (fun _ => H s hs.1 hs.2) (fun z => absurd z (by omega)))
    (fun n i s hi hs hw => pk_le 4 i (fun z => absurd z (by omega)) (fun _ => by
      have e1 : s (r * 4 + i) = nI (cd_v p q i) := by rw [hs.2 _ (by omega)]; exact h i hi
      have g1 := cd_v_mono hc hd i
      have g2 := cd_v_le hp hq i
      have g3 := cd_v_sub p q c d i
      have e : s (nI r * 4 + nI i).toNatClampNeg - a13 (nI r * 4 + nI i).toNatClampNeg = nI (cd_v (p - c) (q - d) i) := by
        rw [cd_at e1, cd_at (h' i hi), pk_sub g1, g3]
      have ix : ((nI r + 1) * 4 + nI i).toNatClampNeg = (r + 1) * 4 + i := by rw [cd_ix4s, nI_clamp (by omega)]
      refine ⟨pk_in (r * 4 + i) 56 (by omega) (cd_ix4 r i), pk_in (r * 4 + i) 56 (by omega) (cd_ix4 r i), nm_r e (pk_le (cd_v (p - c) (q - d) i) 0 (fun z => ⟨pk_in ((r + 1) * 4 + i) 56 (by omega) (cd_ix4s r i), nm_e (nm_r (nI_1 i) (hw _ (cd_row_put hs ix ?_)))⟩) (fun z => ⟨pk_in ((r + 1) * 4 + i) 56 (by omega) (cd_ix4s r i), nm_e (nm_r (nI_1 i) (hw _ (cd_row_put hs ix ?_)))⟩) rfl rfl (by omega))⟩
      · show (0 : Int32).toInt8.toInt32 = nI (cd_v (p - c) (q - d) i)
        rw [show cd_v (p - c) (q - d) i = 0 by omega]
        rfl
      · exact cd_byte _ (by omega)))
/-! one roll, widest pieces first -/
theorem cd_fw_skip {post : St2 → Prop} {J31 : Int32 → Int32 → (Nat → Int32) → (Nat → Int32) → (Nat → Int32) → (Nat → Int32) → (Nat → Int64) → (Nat → Int64) → (Nat → Int64) → (Nat → Int64) → (Nat → Int64) → (Nat → Int32) → (Nat → Int32) → (Nat → Int32) → (Nat → Int32) → (Nat → Int32) → Prop} {r F k v c w n : Nat} {x3 x4 : Int32} (hr : r ≤ 13) (hk : k < 4) (hF : F ≤ 40) (hv : v ≤ 1) (hc : c ≤ 1) (hw : w ≤ 127)
    (e12 : a12 (r * 4 + k) = nI v) (e13 : a13 (r * 4 + k) = nI c) (e1 : a1 k = nI w) (h : v ≤ c ∨ F < w)
    (H : wX_fillWidest_43 post J31 (nI r) (nI F) x3 ro rm dv pd bs a1 a2 a3 a4 a5 a6 a7 a8 a9 a10 a11 a12 a13 a14 n x4 (nI (k + 1))) :
    wX_fillWidest_43 post J31 (nI r) (nI F) x3 ro rm dv pd bs a1 a2 a3 a4 a5 a6 a7 a8 a9 a10 a11 a12 a13 a14 (n + 1) x4 (nI k) := by
  have sk : wX_fillWidest_89 post J31 (wX_fillWidest_43 post J31 (nI r) (nI F) x3 ro rm dv pd bs a1 a2 a3 a4 a5 a6 a7 a8 a9 a10 a11 a12 a13 a14 n) (nI r) (nI F) x3 x4 (nI k) ro rm dv pd bs a1 a2 a3 a4 a5 a6 a7 a8 a9 a10 a11 a12 a13 a14 := br_t rfl (nm_r (nI_1 k) H)
  exact pk_le 4 k (fun z => absurd z (by omega)) (fun _ => ⟨pk_in (r * 4 + k) 56 (by omega) (cd_ix4 r k), pk_in (r * 4 + k) 56 (by omega) (cd_ix4 r k), pk_le v c (fun _ => sk) (fun g => ⟨pk_in k 4 hk, pk_lt F w (fun _ => sk) (fun g2 => absurd h (by omega)) rfl (cd_a0 e1)⟩) (cd_at e12) (cd_at e13)⟩)
theorem cd_fw_fit {post : St2 → Prop} {J31 : Int32 → Int32 → (Nat → Int32) → (Nat → Int32) → (Nat → Int32) → (Nat → Int32) → (Nat → Int64) → (Nat → Int64) → (Nat → Int64) → (Nat → Int64) → (Nat → Int64) → (Nat → Int32) → (Nat → Int32) → (Nat → Int32) → (Nat → Int32) → (Nat → Int32) → Prop} {r F k v c w n : Nat} {x3 x4 : Int32} (hr : r ≤ 13) (hk : k < 4) (hF : F ≤ 40) (hv : v ≤ 1) (hc : c ≤ 1) (hw : w ≤ 127)
    (e12 : a12 (r * 4 + k) = nI v) (e13 : a13 (r * 4 + k) = nI c) (e1 : a1 k = nI w) (h : c < v) (h2 : w ≤ F)
    (H : wX_fillWidest_90 post J31 (wX_fillWidest_43 post J31 (nI r) (nI F) x3 ro rm dv pd bs a1 a2 a3 a4 a5 a6 a7 a8 a9 a10 a11 a12 a13 a14 n) (nI r) (nI F) x3 x4 (nI k) 1 ro rm dv pd bs a1 a2 a3 a4 a5 a6 a7 a8 a9 a10 a11 a12 a13 a14) :
    wX_fillWidest_43 post J31 (nI r) (nI F) x3 ro rm dv pd bs a1 a2 a3 a4 a5 a6 a7 a8 a9 a10 a11 a12 a13 a14 (n + 1) x4 (nI k) :=
  pk_le 4 k (fun z => absurd z (by omega)) (fun _ => ⟨pk_in (r * 4 + k) 56 (by omega) (cd_ix4 r k), pk_in (r * 4 + k) 56 (by omega) (cd_ix4 r k), pk_le v c (fun z => absurd z (by omega)) (fun g => ⟨pk_in k 4 hk, pk_lt F w (fun z => absurd z (by omega)) (fun _ => H) rfl (cd_a0 e1)⟩) (cd_at e12) (cd_at e13)⟩)
theorem cd_fw_end {post : St2 → Prop} {J31 : Int32 → Int32 → (Nat → Int32) → (Nat → Int32) → (Nat → Int32) → (Nat → Int32) → (Nat → Int64) → (Nat → Int64) → (Nat → Int64) → (Nat → Int64) → (Nat → Int64) → (Nat → Int32) → (Nat → Int32) → (Nat → Int32) → (Nat → Int32) → (Nat → Int32) → Prop} {r F i k c w n : Nat} (hr : r ≤ 13) (hk : k < 4) (hF : F ≤ 40) (hc : c ≤ 1) (hw : w ≤ F)
    (e13 : a13 (r * 4 + k) = nI c) (e1 : a1 k = nI w) (H : J31 (nI (F - w)) (nI (i + 1)) a1 a2 a3 a4 a5 a6 a7 a8 a9 a10 a11 a12 (upd a13 (r * 4 + k) (nI (c + 1))) a14) :
    wX_fillWidest_43 post J31 (nI r) (nI F) (nI i) ro rm dv pd bs a1 a2 a3 a4 a5 a6 a7 a8 a9 a10 a11 a12 a13 a14 (n + 1) (nI k) (nI 4) := by
  refine pk_le 4 4 (fun _ => br_f (nI_pos (by omega)) ⟨pk_in (r * 4 + k) 56 (by omega) (cd_ix4 r k), pk_in (r * 4 + k) 56 (by omega) (cd_ix4 r k), nm_r (e' := upd a13 (r * 4 + k) (nI (c + 1))) ?_ ⟨pk_in k 4 hk, nm_r (e' := nI (F - w)) ?_ (nm_r (nI_1 i) H)⟩⟩) (fun z => absurd z (by omega))
  · rw [cd_at e13, cd_ix4, nI_clamp (by omega), nI_1, cd_byte _ (by omega)]
  · rw [cd_a0 e1, pk_sub hw]
theorem cd_fw43 {post : St2 → Prop} {J31 : Int32 → Int32 → (Nat → Int32) → (Nat → Int32) → (Nat → Int32) → (Nat → Int32) → (Nat → Int64) → (Nat → Int64) → (Nat → Int64) → (Nat → Int64) → (Nat → Int64) → (Nat → Int32) → (Nat → Int32) → (Nat → Int32) → (Nat → Int32) → (Nat → Int32) → Prop} {r i F a b p q c d : Nat} (hr : r ≤ 13) (hF : F ≤ 40) (hp : p ≤ 1) (hq : q ≤ 1) (ha : a ≤ 127) (hb : b ≤ 127) (hw : cd_wd a1 a b) (h12 : cd_lv a12 r p q) (h13 : cd_lv a13 r c d) (hc : c ≤ p) (hd : d ≤ q)
    (Hn : (c < p → F < a) → (d < q → F < b) → J31 (nI F) (nI (i + 1)) a1 a2 a3 a4 a5 a6 a7 a8 a9 a10 a11 a12 a13 a14)
    (H0 : c < p → a ≤ F → J31 (nI (F - a)) (nI (i + 1)) a1 a2 a3 a4 a5 a6 a7 a8 a9 a10 a11 a12 (upd a13 (r * 4 + 0) (nI (c + 1))) a14)
    (H3 : d < q → b ≤ F → J31 (nI (F - b)) (nI (i + 1)) a1 a2 a3 a4 a5 a6 a7 a8 a9 a10 a11 a12 (upd a13 (r * 4 + 3) (nI (d + 1))) a14) :
    ∃ n, wX_fillWidest_43 post J31 (nI r) (nI F) (nI i) ro rm dv pd bs a1 a2 a3 a4 a5 a6 a7 a8 a9 a10 a11 a12 a13 a14 n (-1) 0 := by
  obtain ⟨w0, w1, w2, w3⟩ := hw
  have s1 : ∀ (x4 : Int32) (n : Nat), wX_fillWidest_43 post J31 (nI r) (nI F) (nI i) ro rm dv pd bs a1 a2 a3 a4 a5 a6 a7 a8 a9 a10 a11 a12 a13 a14 n x4 (nI 3) → wX_fillWidest_43 post J31 (nI r) (nI F) (nI i) ro rm dv pd bs a1 a2 a3 a4 a5 a6 a7 a8 a9 a10 a11 a12 a13 a14 (n + 2) x4 (nI 1) := fun x4 n h =>
    cd_fw_skip hr (k := 1) (v := 0) (c := 0) (w := 1) (by omega) hF (by omega) (by omega) (by omega) (h12 1 (by omega)) (h13 1 (by omega)) w1 (Or.inl (by omega))
      (cd_fw_skip hr (k := 2) (v := 0) (c := 0) (w := 1) (by omega) hF (by omega) (by omega) (by omega) (h12 2 (by omega)) (h13 2 (by omega)) w2 (Or.inl (by omega)) h)
  have en : ∀ n : Nat, J31 (nI F) (nI (i + 1)) a1 a2 a3 a4 a5 a6 a7 a8 a9 a10 a11 a12 a13 a14 → wX_fillWidest_43 post J31 (nI r) (nI F) (nI i) ro rm dv pd bs a1 a2 a3 a4 a5 a6 a7 a8 a9 a10 a11 a12 a13 a14 (n + 1) (-1) (nI 4) := fun n h =>
    pk_le 4 4 (fun _ => br_t (by decide) (nm_r (nI_1 i) h)) (fun z => absurd z (by omega))
  refine ⟨5, ?_⟩
  by_cases f0 : c < p ∧ a ≤ F
  · refine cd_fw_fit hr (k := 0) (v := p) (c := c) (by omega) hF hp (by omega) ha (h12 0 (by omega)) (h13 0 (by omega)) w0 f0.1 f0.2 (br_f (by decide) (br_t (by decide) (nm_r (nI_1 0) (s1 (nI 0) 2 ?_))))
    have E0 : ∀ n : Nat, wX_fillWidest_43 post J31 (nI r) (nI F) (nI i) ro rm dv pd bs a1 a2 a3 a4 a5 a6 a7 a8 a9 a10 a11 a12 a13 a14 (n + 1) (nI 0) (nI 4) := fun n => cd_fw_end hr (k := 0) (by omega) hF (show c ≤ 1 by omega) f0.2 (h13 0 (by omega)) w0 (H0 f0.1 f0.2)
    by_cases f3 : d < q ∧ b ≤ F
    · refine cd_fw_fit hr (k := 3) (v := q) (c := d) (by omega) hF hq (by omega) hb (h12 3 (by omega)) (h13 3 (by omega)) w3 f3.1 f3.2 (br_f (by decide) (br_f (by decide) ⟨pk_in 3 4 (by omega), pk_in 0 4 (by omega), pk_le b a (fun g => nm_r (nI_1 3) (E0 0)) (fun g => nm_r (nI_1 3) ?_) (cd_a0 (k := 3) w3) (cd_a0 (k := 0) w0)⟩))
      exact cd_fw_end hr (k := 3) (by omega) hF (show d ≤ 1 by omega) f3.2 (h13 3 (by omega)) w3 (H3 f3.1 f3.2)
    · exact cd_fw_skip hr (k := 3) (v := q) (c := d) (by omega) hF hq (by omega) hb (h12 3 (by omega)) (h13 3 (by omega)) w3 (show q ≤ d ∨ F < b by omega) (E0 0)
  · refine cd_fw_skip hr (k := 0) (v := p) (c := c) (by omega) hF hp (by omega) ha (h12 0 (by omega)) (h13 0 (by omega)) w0 (show p ≤ c ∨ F < a by omega) (s1 (-1) 2 ?_)
    by_cases f3 : d < q ∧ b ≤ F
    · refine cd_fw_fit hr (k := 3) (v := q) (c := d) (by omega) hF hq (by omega) hb (h12 3 (by omega)) (h13 3 (by omega)) w3 f3.1 f3.2 (br_f (by decide) (br_t (by decide) (nm_r (nI_1 3) ?_)))
      exact cd_fw_end hr (k := 3) (by omega) hF (show d ≤ 1 by omega) f3.2 (h13 3 (by omega)) w3 (H3 f3.1 f3.2)
    · exact cd_fw_skip hr (k := 3) (v := q) (c := d) (by omega) hF hq (by omega) hb (h12 3 (by omega)) (h13 3 (by omega)) w3 (show q ≤ d ∨ F < b by omega) (en 0 (Hn (fun g => by omega) (fun g => by omega)))
end
end
section
/-- nothing wanted still fits -/
def cd_stuck (F a b p q c d : Nat) : Prop := (c < p → F < a) ∧ (d < q → F < b)
/-- what a round of filling keeps: the cut, what is free, and that a round took a piece or none fits -/
def cd_FI (a13 : Nat → Int32) (r R a b p q i F c d : Nat) : Prop := cd_lv a13 r c d ∧ c ≤ p ∧ d ≤ q ∧ F + c * a + d * b = R ∧ (i ≤ c + d ∨ cd_stuck F a b p q c d)
theorem cd_FI_n {a13 : Nat → Int32} {r R a b p q i F c d : Nat} (h : cd_FI a13 r R a b p q i F c d) (g0 : c < p → F < a) (g3 : d < q → F < b) : cd_FI a13 r R a b p q (i + 1) F c d := by
  obtain ⟨h1, h2, h3, h4, h5⟩ := h
  exact ⟨h1, h2, h3, h4, Or.inr ⟨g0, g3⟩⟩
theorem cd_FI_0 {a13 : Nat → Int32} {r R a b p q i F c d : Nat} (h : cd_FI a13 r R a b p q i F c d) (g0 : c < p) (g1 : a ≤ F) : cd_FI (upd a13 (r * 4 + 0) (nI (c + 1))) r R a b p q (i + 1) (F - a) (c + 1) d := by
  obtain ⟨h1, h2, h3, h4, h5⟩ := h
  refine ⟨cd_lv_put0 h1, g0, h3, ?_, ?_⟩
  · rw [Nat.add_mul, Nat.one_mul]
    omega
  · rcases h5 with h5 | h5
    · exact Or.inl (by omega)
    · exact absurd (h5.1 g0) (by omega)
theorem cd_FI_3 {a13 : Nat → Int32} {r R a b p q i F c d : Nat} (h : cd_FI a13 r R a b p q i F c d) (g0 : d < q) (g1 : b ≤ F) : cd_FI (upd a13 (r * 4 + 3) (nI (d + 1))) r R a b p q (i + 1) (F - b) c (d + 1) := by
  obtain ⟨h1, h2, h3, h4, h5⟩ := h
  refine ⟨cd_lv_put3 h1, h2, g0, ?_, ?_⟩
  · rw [Nat.add_mul, Nat.one_mul]
    omega
  · rcases h5 with h5 | h5
    · exact Or.inl (by omega)
    · exact absurd (h5.2 g0) (by omega)
/-- a filled roll: all that is wanted, or one of two that don't fit together -/
def cd_G (R a b p q c d : Nat) : Prop := (c = p ∧ d = q ∧ (p = 1 → q = 1 → a + b ≤ R)) ∨ (p = 1 ∧ q = 1 ∧ c + d = 1 ∧ R < a + b)
theorem cd_FI_G {a13 : Nat → Int32} {r R a b p q F c d : Nat} (hp : p ≤ 1) (hq : q ≤ 1) (ha : p = 1 → a ≤ R) (hb : q = 1 → b ≤ R) (h : cd_FI a13 r R a b p q 12 F c d) : cd_G R a b p q c d := by
  obtain ⟨h1, h2, h3, h4, h5⟩ := h
  have s : cd_stuck F a b p q c d := by
    rcases h5 with h5 | h5
    · omega
    · exact h5
  obtain ⟨s1, s2⟩ := s
  unfold cd_G
  have hc : c = 0 ∨ c = 1 := by omega
  have hd : d = 0 ∨ d = 1 := by omega
  rcases hc with rfl | rfl <;> rcases hd with rfl | rfl <;> simp only [Nat.zero_mul, Nat.one_mul, Nat.add_zero] at h4 <;> omega
section
variable {ro : Int32} {rm : Int32} {dv : Int64} {pd : Int64} {bs : Int32} {a1 : Nat → Int32} {a2 : Nat → Int32} {a3 : Nat → Int32} {a4 : Nat → Int32} {a5 : Nat → Int64} {a6 : Nat → Int64} {a7 : Nat → Int64} {a8 : Nat → Int64} {a9 : Nat → Int64} {a10 : Nat → Int32} {a11 : Nat → Int32} {a12 : Nat → Int32} {a13 : Nat → Int32} {a14 : Nat → Int32}
theorem cd_fw31 {post : St2 → Prop} {r R a b p q : Nat} (hr : r ≤ 13) (hR : R ≤ 40) (hp : p ≤ 1) (hq : q ≤ 1) (ha : p = 1 → a ≤ R) (hb : q = 1 → b ≤ R) (ha2 : a ≤ 127) (hb2 : b ≤ 127) (hw : cd_wd a1 a b) (h12 : cd_lv a12 r p q) (h13 : cd_lv a13 r 0 0)
    (H : ∀ (a13' : Nat → Int32) (c d : Nat), cd_lv a13' r c d → c ≤ p → d ≤ q → cd_G R a b p q c d → post (ro, rm, dv, pd, bs, a1, a2, a3, a4, a5, a6, a7, a8, a9, a10, a11, a12, a13', a14)) :
    ∃ n, wX_fillWidest_31 post (nI r) ro rm dv pd bs n (nI R) 0 a1 a2 a3 a4 a5 a6 a7 a8 a9 a10 a11 a12 a13 a14 :=
  pk_loop (fun n i (s : Nat × Nat × Nat × (Nat → Int32)) => wX_fillWidest_31 post (nI r) ro rm dv pd bs n (nI s.1) (nI i) a1 a2 a3 a4 a5 a6 a7 a8 a9 a10 a11 a12 s.2.2.2 a14) (fun i s => cd_FI s.2.2.2 r R a b p q i s.1 s.2.1 s.2.2.1) 12 0 (R, 0, 0, a13) (by omega)
    ⟨h13, Nat.zero_le _, Nat.zero_le _, by show R + 0 * a + 0 * b = R; omega, Or.inl (by omega)⟩
    (fun n s hs => pk_le 12 12 (fun _ => H _ _ _ hs.1 hs.2.1 hs.2.2.1 (cd_FI_G hp hq ha hb hs)) (fun z => absurd z (by omega)))
    (fun n i s hi hs hk => pk_le 12 i (fun z => absurd z (by omega)) (fun _ => cd_fw43 hr (by have := hs.2.2.2.1; omega) hp hq ha2 hb2 hw h12 hs.1 hs.2.1 hs.2.2.1
      (fun g0 g3 => hk s (cd_FI_n hs g0 g3)) (fun g0 g1 => hk (s.1 - a, s.2.1 + 1, s.2.2.1, _) (cd_FI_0 hs g0 g1)) (fun g0 g1 => hk (s.1 - b, s.2.1, s.2.2.1 + 1, _) (cd_FI_3 hs g0 g1))))
theorem cd_fillWidest {post : St2 → Prop} {r R a b p q : Nat} (hr : r ≤ 13) (hR : R ≤ 40) (hp : p ≤ 1) (hq : q ≤ 1) (ha : p = 1 → a ≤ R) (hb : q = 1 → b ≤ R) (ha2 : a ≤ 127) (hb2 : b ≤ 127) (hw : cd_wd a1 a b) (h12 : cd_lv a12 r p q)
    (H : ∀ (a13' : Nat → Int32) (c d : Nat), cd_lv a13' r c d → c ≤ p → d ≤ q → cd_G R a b p q c d → post (ro, (nI R), dv, pd, bs, a1, a2, a3, a4, a5, a6, a7, a8, a9, a10, a11, a12, a13', a14)) :
    wpX_fillWidest post (ro, (nI R), dv, pd, bs, a1, a2, a3, a4, a5, a6, a7, a8, a9, a10, a11, a12, a13, a14) (nI r) :=
  pk_loop (fun n i s => wX_fillWidest_7 post (nI r) (nI R) ro (nI R) dv pd bs n (nI i) a1 a2 a3 a4 a5 a6 a7 a8 a9 a10 a11 a12 s a14) (fun i s => cd_row s a13 (r * 4) i (fun k => nI (cd_v 0 0 k))) 4 0 a13 (by omega) cd_row_0
    (fun n s hs => pk_le 4 4 (fun _ => cd_fw31 hr hR hp hq ha hb ha2 hb2 hw h12 hs.1 H) (fun z => absurd z (by omega)))
    (fun n i s hi hs hk => pk_le 4 i (fun z => absurd z (by omega)) (fun _ => ⟨pk_in (r * 4 + i) 56 (by omega) (cd_ix4 r i), nm_e (nm_r (nI_1 i) (hk _ (cd_row_put hs (pk_cl (r * 4 + i) (cd_ix4 r i)) (by rw [cd_v_0]; rfl))))⟩))
/-- how many rolls -/
def cd_B (R a b p q : Nat) : Nat := if p = 1 ∧ q = 1 ∧ R < a + b then 2 else 1
theorem cd_bf_end {post : Int32 → St2 → Prop} {r n : Nat} {x1 : Int32} (hr : r ≤ 11) (h12 : cd_lv a12 r 0 0) (H : post x1 (ro, rm, dv, pd, bs, a1, a2, a3, a4, a5, a6, a7, a8, a9, a10, a11, a12, a13, a14)) :
    wX_byFallingWidths_4 post (n + 1) x1 (nI r) ro rm dv pd bs a1 a2 a3 a4 a5 a6 a7 a8 a9 a10 a11 a12 a13 a14 :=
  pk_le 12 r (fun z => absurd z (by omega)) (fun _ => cd_served (by omega) (by omega) (by omega) h12 (fun z => absurd z (by omega)) (fun _ _ => br_f (by decide) H))
theorem cd_bf_step {post : Int32 → St2 → Prop} {r R a b p q n : Nat} (hr : r ≤ 11) (hR : R ≤ 40) (hp : p ≤ 1) (hq : q ≤ 1) (h1 : 1 ≤ p + q) (ha : p = 1 → a ≤ R) (hb : q = 1 → b ≤ R) (ha2 : a ≤ 127) (hb2 : b ≤ 127) (hw : cd_wd a1 a b) (h12 : cd_lv a12 r p q)
    (H : ∀ (a12' : Nat → Int32) (a13' : Nat → Int32) (c d : Nat), c ≤ p → d ≤ q → cd_G R a b p q c d → cd_lv a12' (r + 1) (p - c) (q - d) → (∀ j, j < (r + 1) * 4 → a12' j = a12 j) → wX_byFallingWidths_4 post n (nI (r + 1)) (nI (r + 1)) ro (nI R) dv pd bs a1 a2 a3 a4 a5 a6 a7 a8 a9 a10 a11 a12' a13' a14) :
    wX_byFallingWidths_4 post (n + 1) (nI r) (nI r) ro (nI R) dv pd bs a1 a2 a3 a4 a5 a6 a7 a8 a9 a10 a11 a12 a13 a14 :=
  pk_le 12 r (fun z => absurd z (by omega)) (fun _ => cd_served (by omega) hp hq h12
    (fun _ => br_t rfl (cd_fillWidest (by omega) hR hp hq ha hb ha2 hb2 hw h12 (fun a13' c d hl hc hd hG => cd_takeOff (by omega) hp hq hc hd h12 hl (fun a12' hl' hk => nm_r (nI_1 r) (nm_r (nI_1 r) (H a12' a13' c d hc hd hG hl' hk))))))
    (fun z1 z2 => absurd h1 (by omega)))
theorem cd_byFallingWidths {post : Int32 → St2 → Prop} {R a b p q : Nat} (hR : R ≤ 40) (hp : p ≤ 1) (hq : q ≤ 1) (h1 : 1 ≤ p + q) (ha : p = 1 → a ≤ R) (hb : q = 1 → b ≤ R) (ha2 : a ≤ 127) (hb2 : b ≤ 127) (hw : cd_wd a1 a b) (h12 : cd_lv a12 0 p q)
    (H : ∀ (a12' : Nat → Int32) (a13' : Nat → Int32), cd_lv a12' 0 p q → post (nI (cd_B R a b p q)) (ro, (nI R), dv, pd, bs, a1, a2, a3, a4, a5, a6, a7, a8, a9, a10, a11, a12', a13', a14)) :
    wpX_byFallingWidths post (ro, (nI R), dv, pd, bs, a1, a2, a3, a4, a5, a6, a7, a8, a9, a10, a11, a12, a13, a14) := by
  refine ⟨3, cd_bf_step (r := 0) (by omega) hR hp hq h1 ha hb ha2 hb2 hw h12 (fun b12 b13 c d hc hd hG hl hk => ?_)⟩
  rcases hG with ⟨e1, e2, g⟩ | ⟨g1, g2, g3, g4⟩
  · rw [e1, e2, Nat.sub_self, Nat.sub_self] at hl
    refine cd_bf_end (by omega) hl ?_
    have e : cd_B R a b p q = 1 := if_neg (fun z => absurd (g z.1 z.2.1) (by omega))
    have hH := H b12 b13 (cd_lv_keep h12 hk (by omega))
    rw [e] at hH
    exact hH
  · refine cd_bf_step (by omega) hR (by omega) (by omega) (by omega) (fun z => ha g1) (fun z => hb g2) ha2 hb2 hw hl (fun c12 c13 c' d' hc' hd' hG' hl' hk' => ?_)
    rcases hG' with ⟨e1, e2, _⟩ | ⟨z1, z2, _, _⟩
    · rw [e1, e2, Nat.sub_self, Nat.sub_self] at hl'
      refine cd_bf_end (by omega) hl' ?_
      have e : cd_B R a b p q = 2 := if_pos ⟨g1, g2, g4⟩
      have hH := H c12 c13 (cd_lv_keep (cd_lv_keep h12 hk (by omega)) hk' (by omega))
      rw [e] at hH
      exact hH
    · omega
end
end
section
/-- a pattern: no more than is wanted, what fits, and one of the widest kind -/
def cd_V (R a b p q c d : Nat) : Prop := c ≤ p ∧ d ≤ q ∧ (c = 1 → d = 1 → a + b ≤ R) ∧ (p = 1 → (q = 0 ∨ b ≤ a) → c = 1) ∧ (q = 1 → (p = 0 ∨ a < b) → d = 1)
section
variable {ro : Int32} {rm : Int32} {dv : Int64} {pd : Int64} {bs : Int32} {a1 : Nat → Int32} {a2 : Nat → Int32} {a3 : Nat → Int32} {a4 : Nat → Int32} {a5 : Nat → Int64} {a6 : Nat → Int64} {a7 : Nat → Int64} {a8 : Nat → Int64} {a9 : Nat → Int64} {a10 : Nat → Int32} {a11 : Nat → Int32} {a12 : Nat → Int32} {a13 : Nat → Int32} {a14 : Nat → Int32}
theorem cd_wd_skip {post : Int32 → Prop} {r k n : Nat} {x2 : Int32} (hr : r ≤ 13) (hk : k < 4) (e : a12 (r * 4 + k) = nI 0) (H : wX_widest_4 post (nI r) ro rm dv pd bs a1 a2 a3 a4 a5 a6 a7 a8 a9 a10 a11 a12 a13 a14 n x2 (nI (k + 1))) :
    wX_widest_4 post (nI r) ro rm dv pd bs a1 a2 a3 a4 a5 a6 a7 a8 a9 a10 a11 a12 a13 a14 (n + 1) x2 (nI k) :=
  pk_le 4 k (fun z => absurd z (by omega)) (fun _ => ⟨pk_in (r * 4 + k) 56 (by omega) (cd_ix4 r k), pk_le 0 0 (fun _ => nm_r (nI_1 k) H) (fun z => absurd z (by omega)) (cd_at e)⟩)
theorem cd_wd_take {post : Int32 → Prop} {r k n : Nat} (hr : r ≤ 13) (hk : k < 4) (e : a12 (r * 4 + k) = nI 1) (H : wX_widest_4 post (nI r) ro rm dv pd bs a1 a2 a3 a4 a5 a6 a7 a8 a9 a10 a11 a12 a13 a14 n (nI k) (nI (k + 1))) :
    wX_widest_4 post (nI r) ro rm dv pd bs a1 a2 a3 a4 a5 a6 a7 a8 a9 a10 a11 a12 a13 a14 (n + 1) (-1) (nI k) :=
  pk_le 4 k (fun z => absurd z (by omega)) (fun _ => ⟨pk_in (r * 4 + k) 56 (by omega) (cd_ix4 r k), pk_le 1 0 (fun z => absurd z (by omega)) (fun _ => br_t (by decide) (nm_r (nI_1 k) H)) (cd_at e)⟩)
theorem cd_wd_cmp {post : Int32 → Prop} {r k m u w n : Nat} (hr : r ≤ 13) (hk : k < 4) (hm : m < 4) (hu : u ≤ 127) (hw : w ≤ 127) (e : a12 (r * 4 + k) = nI 1) (e1 : a1 k = nI w) (e2 : a1 m = nI u)
    (H : w ≤ u → wX_widest_4 post (nI r) ro rm dv pd bs a1 a2 a3 a4 a5 a6 a7 a8 a9 a10 a11 a12 a13 a14 n (nI m) (nI (k + 1))) (H' : u < w → wX_widest_4 post (nI r) ro rm dv pd bs a1 a2 a3 a4 a5 a6 a7 a8 a9 a10 a11 a12 a13 a14 n (nI k) (nI (k + 1))) :
    wX_widest_4 post (nI r) ro rm dv pd bs a1 a2 a3 a4 a5 a6 a7 a8 a9 a10 a11 a12 a13 a14 (n + 1) (nI m) (nI k) :=
  pk_le 4 k (fun z => absurd z (by omega)) (fun _ => ⟨pk_in (r * 4 + k) 56 (by omega) (cd_ix4 r k), pk_le 1 0 (fun z => absurd z (by omega)) (fun _ => br_f (nI_pos (by omega)) ⟨pk_in k 4 hk, pk_in m 4 hm, pk_le w u (fun g => nm_r (nI_1 k) (H g)) (fun g => nm_r (nI_1 k) (H' g)) (cd_a0 e1) (cd_a0 e2)⟩) (cd_at e)⟩)
theorem cd_wd_end {post : Int32 → Prop} {x1 x2 : Int32} {n : Nat} (H : post x2) : wX_widest_4 post x1 ro rm dv pd bs a1 a2 a3 a4 a5 a6 a7 a8 a9 a10 a11 a12 a13 a14 (n + 1) x2 (nI 4) :=
  pk_le 4 4 (fun _ => H) (fun z => absurd z (by omega))
theorem cd_widest {post : Int32 → Prop} {r a b p q : Nat} (hr : r ≤ 13) (hp : p ≤ 1) (hq : q ≤ 1) (h1 : 1 ≤ p + q) (ha : a ≤ 127) (hb : b ≤ 127) (hw : cd_wd a1 a b) (h12 : cd_lv a12 r p q)
    (HA : p = 1 → (q = 0 ∨ b ≤ a) → post (nI 0)) (HB : q = 1 → (p = 0 ∨ a < b) → post (nI 3)) : wpX_widest post (ro, rm, dv, pd, bs, a1, a2, a3, a4, a5, a6, a7, a8, a9, a10, a11, a12, a13, a14) (nI r) := by
  obtain ⟨w0, w1, w2, w3⟩ := hw
  have e0 : a12 (r * 4 + 0) = nI p := h12 0 (by omega)
  have e1 : a12 (r * 4 + 1) = nI 0 := h12 1 (by omega)
  have e2 : a12 (r * 4 + 2) = nI 0 := h12 2 (by omega)
  have e3 : a12 (r * 4 + 3) = nI q := h12 3 (by omega)
  have hp' : p = 0 ∨ p = 1 := by omega
  have hq' : q = 0 ∨ q = 1 := by omega
  refine ⟨5, ?_⟩
  rcases hp' with rfl | rfl
  · have hq1 : q = 1 := by omega
    subst hq1
    exact cd_wd_skip (k := 0) hr (by omega) e0 (cd_wd_skip (k := 1) hr (by omega) e1 (cd_wd_skip (k := 2) hr (by omega) e2 (cd_wd_take (k := 3) hr (by omega) e3 (cd_wd_end (HB rfl (Or.inl rfl))))))
  · refine cd_wd_take (k := 0) hr (by omega) e0 (cd_wd_skip (k := 1) hr (by omega) e1 (cd_wd_skip (k := 2) hr (by omega) e2 ?_))
    rcases hq' with rfl | rfl
    · exact cd_wd_skip (k := 3) hr (by omega) e3 (cd_wd_end (HA rfl (Or.inl rfl)))
    · exact cd_wd_cmp (k := 3) (m := 0) hr (by omega) (by omega) ha hb e3 w3 w0 (fun g => cd_wd_end (HA rfl (Or.inr g))) (fun g => cd_wd_end (HB rfl (Or.inr g)))
/-! as many of a kind as are wanted and fit -/
theorem cd_ff162 {post : St2 → Prop} {J54 : Int32 → Int32 → (Nat → Int32) → (Nat → Int32) → (Nat → Int32) → (Nat → Int32) → (Nat → Int64) → (Nat → Int64) → (Nat → Int64) → (Nat → Int64) → (Nat → Int64) → (Nat → Int32) → (Nat → Int32) → (Nat → Int32) → (Nat → Int32) → (Nat → Int32) → Prop} {r F k w m : Nat} {x3 : Int32} (hr : r ≤ 13) (hk : k < 4) (hm : m < 128) (hmw : m * w ≤ F) (e1 : a1 k = nI w)
    (H : J54 (nI (F - m * w)) (nI (k + 1)) a1 a2 a3 a4 a5 a6 a7 a8 a9 a10 a11 a12 (upd a13 (r * 4 + k) (nI m)) a14) :
    wX_fillFrom_162 post J54 (nI r) x3 (nI F) (nI k) (nI m) (nI r * 4 + nI k) ro rm dv pd bs a1 a2 a3 a4 a5 a6 a7 a8 a9 a10 a11 a12 a13 a14 := by
  refine And.intro (pk_in (r * 4 + k) 56 (by omega) (cd_ix4 r k)) (nm_r (e' := upd a13 (r * 4 + k) (nI m)) ?_ ⟨pk_in (r * 4 + k) 56 (by omega) (cd_ix4 r k), pk_in k 4 hk, nm_r (e' := nI (F - m * w)) ?_ (nm_r (nI_1 k) H)⟩)
  · rw [cd_ix4, nI_clamp (by omega), cd_byte m hm]
  · rw [cd_at (pk_us (f := a13) (k := r * 4 + k) (x := nI m)), cd_a0 e1, pk_mul, pk_sub hmw]
theorem cd_ff139 {post : St2 → Prop} {J54 : Int32 → Int32 → (Nat → Int32) → (Nat → Int32) → (Nat → Int32) → (Nat → Int32) → (Nat → Int64) → (Nat → Int64) → (Nat → Int64) → (Nat → Int64) → (Nat → Int64) → (Nat → Int32) → (Nat → Int32) → (Nat → Int32) → (Nat → Int32) → (Nat → Int32) → Prop} {r F k w m : Nat} {x3 : Int32} (hr : r ≤ 13) (hk : k < 4) (hm : m < 128) (hmw : m * w ≤ F) (e1 : a1 k = nI w)
    (H : J54 (nI (F - m * w)) (nI (k + 1)) a1 a2 a3 a4 a5 a6 a7 a8 a9 a10 a11 a12 (upd a13 (r * 4 + k) (nI m)) a14) :
    wX_fillFrom_139 post J54 (nI r) x3 (nI F) (nI k) (nI m) ro rm dv pd bs a1 a2 a3 a4 a5 a6 a7 a8 a9 a10 a11 a12 a13 a14 :=
  pk_le m 0 (fun z => by
    have e : m = 0 := by omega
    subst e
    exact cd_ff162 (m := 0) hr hk hm hmw e1 H) (fun _ => cd_ff162 hr hk hm hmw e1 H)
theorem cd_ff76 {post : St2 → Prop} {J54 : Int32 → Int32 → (Nat → Int32) → (Nat → Int32) → (Nat → Int32) → (Nat → Int32) → (Nat → Int64) → (Nat → Int64) → (Nat → Int64) → (Nat → Int64) → (Nat → Int64) → (Nat → Int32) → (Nat → Int32) → (Nat → Int32) → (Nat → Int32) → (Nat → Int32) → Prop} {r F K k w s : Nat} {x3 : Int32} (hr : r ≤ 13) (hk : k < 4) (hK : K ≤ F) (hF : F ≤ 40) (e1 : a1 k = nI w) (hw : 1 ≤ w) (hw2 : w ≤ 127) (e12 : a12 (r * 4 + k) = nI s) (hs : s ≤ 1)
    (H : ∀ m, m = min ((F - K) / w) s → m * w ≤ F - K → J54 (nI (F - m * w)) (nI (k + 1)) a1 a2 a3 a4 a5 a6 a7 a8 a9 a10 a11 a12 (upd a13 (r * 4 + k) (nI m)) a14) :
    wX_fillFrom_76 post J54 (nI r) x3 (nI F) (nI k) (nI K) ro rm dv pd bs a1 a2 a3 a4 a5 a6 a7 a8 a9 a10 a11 a12 a13 a14 := by
  have hd : (F - K) / w * w ≤ F - K := Nat.div_mul_le_self _ _
  have hd2 : (F - K) / w ≤ F - K := Nat.div_le_self _ _
  refine And.intro (pk_in k 4 hk) (br_f (by rw [cd_a0 e1]; exact nI_nle hw (by omega)) ⟨pk_in k 4 hk, ?_⟩)
  rw [cd_a0 e1, pk_sub hK]
  refine And.intro (nI_ne0 hw (by omega)) (nm_r (pk_div (by omega) hw (by omega)) ⟨pk_in (r * 4 + k) 56 (by omega) (cd_ix4 r k), pk_le s ((F - K) / w) (fun g => ⟨pk_in (r * 4 + k) 56 (by omega) (cd_ix4 r k), ?_⟩) (fun g => ?_) (cd_at e12)⟩)
  · rw [cd_at e12]
    have g2 : s * w ≤ F - K := Nat.le_trans (Nat.mul_le_mul_right w g) hd
    exact cd_ff139 hr hk (by omega) (by omega) e1 (H s (by omega) g2)
  · exact cd_ff139 hr hk (by omega) (by omega) e1 (H _ (by omega) hd)
theorem cd_ff54 {post : St2 → Prop} {r F K m k w s n : Nat} (hr : r ≤ 13) (hk : k < 4) (hm : m < 4) (hK : K ≤ F) (hF : F ≤ 40) (e1 : a1 k = nI w) (hw : 1 ≤ w) (hw2 : w ≤ 127) (e12 : a12 (r * 4 + k) = nI s) (hs : s ≤ 1)
    (k0 : m ≤ k → K = 0) (k1 : k < m → a1 m = nI K)
    (H : ∀ u, u = min ((F - K) / w) s → u * w ≤ F - K → wX_fillFrom_54 post (nI r) (nI m) ro rm dv pd bs n (nI (F - u * w)) (nI (k + 1)) a1 a2 a3 a4 a5 a6 a7 a8 a9 a10 a11 a12 (upd a13 (r * 4 + k) (nI u)) a14) :
    wX_fillFrom_54 post (nI r) (nI m) ro rm dv pd bs (n + 1) (nI F) (nI k) a1 a2 a3 a4 a5 a6 a7 a8 a9 a10 a11 a12 a13 a14 :=
  pk_le 4 k (fun z => absurd z (by omega)) (fun _ => pk_le m k
    (fun g => by
      have e := k0 g
      subst e
      exact cd_ff76 (K := 0) hr hk hK hF e1 hw hw2 e12 hs H)
    (fun g => ⟨pk_in m 4 hm, by
      rw [cd_a0 (k1 g)]
      exact cd_ff76 hr hk hK hF e1 hw hw2 e12 hs H⟩))
theorem cd_ff54_end {post : St2 → Prop} {x1 x3 x4 : Int32} {n : Nat} (H : post (ro, rm, dv, pd, bs, a1, a2, a3, a4, a5, a6, a7, a8, a9, a10, a11, a12, a13, a14)) : wX_fillFrom_54 post x1 x3 ro rm dv pd bs (n + 1) x4 (nI 4) a1 a2 a3 a4 a5 a6 a7 a8 a9 a10 a11 a12 a13 a14 :=
  pk_le 4 4 (fun _ => H) (fun z => absurd z (by omega))
/-- kinds 1, 2 and 3 -/
theorem cd_ff54_1 {post : St2 → Prop} {r F K m a b p q c n : Nat} (hr : r ≤ 13) (hF : F ≤ 40) (hK : K ≤ F) (hm : m = 0 ∧ K = 0 ∨ m = 3 ∧ K = b) (hq : q ≤ 1) (hb : 1 ≤ b) (hb2 : b ≤ 127) (hw : cd_wd a1 a b) (h12 : cd_lv a12 r p q) (h13 : a13 (r * 4 + 0) = nI c)
    (H : ∀ (a13' : Nat → Int32), cd_lv a13' r c (min (F / b) q) → (∀ j, j < r * 4 → a13' j = a13 j) → post (ro, rm, dv, pd, bs, a1, a2, a3, a4, a5, a6, a7, a8, a9, a10, a11, a12, a13', a14)) :
    wX_fillFrom_54 post (nI r) (nI m) ro rm dv pd bs (n + 4) (nI F) (nI 1) a1 a2 a3 a4 a5 a6 a7 a8 a9 a10 a11 a12 a13 a14 := by
  obtain ⟨w0, w1, w2, w3⟩ := hw
  have K1 : ∀ k, 1 ≤ k → k < 3 → (m ≤ k → K = 0) ∧ (k < m → a1 m = nI K) := by
    intro k g1 g2
    rcases hm with ⟨e1, e2⟩ | ⟨e1, e2⟩
    · exact ⟨fun _ => e2, fun z => absurd z (by omega)⟩
    · exact ⟨fun z => absurd z (by omega), fun _ => by rw [e1, e2]; exact w3⟩
  have hm4 : m < 4 := by omega
  refine cd_ff54 (k := 1) (K := K) (s := 0) hr (by omega) hm4 hK hF w1 (by omega) (by omega) (h12 1 (by omega)) (by omega) (K1 1 (by omega) (by omega)).1 (K1 1 (by omega) (by omega)).2 (fun u hu _ => ?_)
  have u0 : u = 0 := by omega
  subst u0
  rw [Nat.zero_mul, Nat.sub_zero]
  refine cd_ff54 (k := 2) (K := K) (s := 0) hr (by omega) hm4 hK hF w2 (by omega) (by omega) (h12 2 (by omega)) (by omega) (K1 2 (by omega) (by omega)).1 (K1 2 (by omega) (by omega)).2 (fun u hu _ => ?_)
  have u0 : u = 0 := by omega
  subst u0
  rw [Nat.zero_mul, Nat.sub_zero]
  refine cd_ff54 (k := 3) (K := 0) (s := q) hr (by omega) hm4 (by omega) hF w3 hb hb2 (h12 3 (by omega)) hq (fun _ => rfl) (fun z => absurd z (by omega)) (fun u hu _ => ?_)
  refine cd_ff54_end (H _ (cd_lv_of ?_ ?_ ?_ ?_) (fun j hj => ?_))
  · rw [pk_un (by omega), pk_un (by omega), pk_un (by omega), h13]
  · rw [pk_un (by omega), pk_un (by omega), pk_us]
  · rw [pk_un (by omega), pk_us]
  · rw [pk_us, hu, Nat.sub_zero]
  · rw [pk_un (by omega), pk_un (by omega), pk_un (by omega)]
theorem cd_min1 {x y p : Nat} (hp : p ≤ 1) (h : min (x / y) p = 1) (hy : 1 ≤ y) : y ≤ x := by
  have h1 : 1 ≤ x / y := by omega
  have := (Nat.le_div_iff_mul_le hy).mp h1
  omega
theorem cd_min2 {x y : Nat} (hy : 1 ≤ y) (h : y ≤ x) : min (x / y) 1 = 1 := by
  have h1 : 1 ≤ x / y := (Nat.le_div_iff_mul_le hy).mpr (by omega)
  omega
theorem cd_fill0 {post : St2 → Prop} {r R a b p q : Nat} (hr : r ≤ 13) (hR : R ≤ 40) (hp : p ≤ 1) (hq : q ≤ 1) (h1 : 1 ≤ p + q) (ha1 : 1 ≤ a) (hb1 : 1 ≤ b) (ha : p = 1 → a ≤ R) (hb : q = 1 → b ≤ R) (ha2 : a ≤ 127) (hb2 : b ≤ 127) (hw : cd_wd a1 a b) (h12 : cd_lv a12 r p q)
    (H : ∀ (a13' : Nat → Int32) (c d : Nat), cd_V R a b p q c d → cd_lv a13' r c d → (∀ j, j < r * 4 → a13' j = a13 j) → post (ro, (nI R), dv, pd, bs, a1, a2, a3, a4, a5, a6, a7, a8, a9, a10, a11, a12, a13', a14)) :
    wpX_fillFrom post (ro, (nI R), dv, pd, bs, a1, a2, a3, a4, a5, a6, a7, a8, a9, a10, a11, a12, a13, a14) (nI r) (nI 0) := by
  have main : ∀ m K, (m = 0 ∧ K = 0 ∨ m = 3 ∧ K = b) → K ≤ R → cd_V R a b p q (min ((R - K) / a) p) (min ((R - min ((R - K) / a) p * a) / b) q) → ∃ n, wX_fillFrom_15 post (nI r) (nI 0) (nI m) ro (nI R) dv pd bs a1 a2 a3 a4 a5 a6 a7 a8 a9 a10 a11 a12 a13 a14 n (nI R) 0 := by
    intro m K hm hK hV
    refine ⟨1, pk_le 0 0 (fun _ => ⟨5, ?_⟩) (fun z => absurd z (by omega))⟩
    refine cd_ff54 (k := 0) (K := K) (s := p) hr (by omega) (by omega) hK hR hw.1 ha1 ha2 (h12 0 (by omega)) hp ?_ ?_ (fun u hu hu2 => ?_)
    · intro z
      omega
    · intro z
      rcases hm with ⟨e1, e2⟩ | ⟨e1, e2⟩
      · omega
      · rw [e1, e2]
        exact hw.2.2.2
    · have hd : u * a ≤ R - K := hu2
      rw [← hu] at hV
      refine cd_ff54_1 (K := K) hr (by omega) (by omega) hm hq hb1 hb2 hw h12 pk_us (fun a13' g1 g2 => H a13' _ _ hV g1 (fun j hj => ?_))
      rw [g2 j hj, pk_un (by omega)]
  refine cd_widest hr hp hq h1 ha2 hb2 hw h12 (fun g1 g2 => main 0 0 (Or.inl ⟨rfl, rfl⟩) (by omega) ?_) (fun g1 g2 => main 3 b (Or.inr ⟨rfl, rfl⟩) (hb g1) ?_)
  · have e : min ((R - 0) / a) p = 1 := by rw [g1, Nat.sub_zero]; exact cd_min2 ha1 (ha g1)
    rw [e, Nat.one_mul]
    refine ⟨by omega, by omega, fun _ z => ?_, fun _ _ => rfl, fun z1 z2 => ?_⟩
    · have := cd_min1 hq z hb1
      have := ha g1
      omega
    · omega
  · have hc : min ((R - b) / a) p = 0 ∨ min ((R - b) / a) p = 1 := (fun t : Nat => (by omega : min t p = 0 ∨ min t p = 1)) _
    have hbR := hb g1
    rcases hc with e | e
    · rw [e, Nat.zero_mul, Nat.sub_zero, g1]
      refine ⟨by omega, by omega, fun z => absurd z (by omega), fun z1 z2 => ?_, fun _ _ => cd_min2 hb1 hbR⟩
      omega
    · have h3 := cd_min1 hp e ha1
      rw [e, Nat.one_mul, g1]
      refine ⟨by omega, by omega, fun _ _ => by omega, fun _ _ => rfl, fun _ _ => cd_min2 hb1 (by omega)⟩
theorem cd_fill1 {post : St2 → Prop} {r R a b p : Nat} (hr : r ≤ 13) (hR : R ≤ 40) (hp : p ≤ 1) (hb1 : 1 ≤ b) (hb : b ≤ R) (ha2 : a ≤ 127) (hb2 : b ≤ 127) (hw : cd_wd a1 a b) (h12 : cd_lv a12 r p 1) (hB : p = 0 ∨ a < b) (h13 : a13 (r * 4 + 0) = nI 0)
    (H : ∀ (a13' : Nat → Int32), cd_lv a13' r 0 1 → (∀ j, j < r * 4 → a13' j = a13 j) → post (ro, (nI R), dv, pd, bs, a1, a2, a3, a4, a5, a6, a7, a8, a9, a10, a11, a12, a13', a14)) :
    wpX_fillFrom post (ro, (nI R), dv, pd, bs, a1, a2, a3, a4, a5, a6, a7, a8, a9, a10, a11, a12, a13, a14) (nI r) (nI 1) := by
  refine cd_widest hr hp (by omega) (by omega) ha2 hb2 hw h12 (fun g1 g2 => absurd g1 (by omega)) (fun g1 g2 => ⟨2, pk_le 1 0 (fun z => absurd z (by omega)) (fun _ => ⟨pk_in (r * 4 + 0) 56 (by omega) (cd_ix4 r 0), pk_in 0 4 (by omega), nm_r (e' := nI R) ?_ (nm_r (nI_1 0) (pk_le 1 1 (fun _ => ⟨4, ?_⟩) (fun z => absurd z (by omega))))⟩)⟩)
  · have e1 : a13 (nI r * 4 + 0).toNatClampNeg = nI 0 := cd_at (k := 0) h13
    have e2 : a1 (0 : Int32).toNatClampNeg = nI a := cd_a0 (k := 0) hw.1
    rw [e1, e2, pk_mul, Nat.zero_mul, pk_sub (by omega), Nat.sub_zero]
  · refine cd_ff54_1 (K := b) (m := 3) (n := 0) hr hR hb (Or.inr ⟨rfl, rfl⟩) (by omega) hb1 hb2 hw h12 h13 (fun a13' g1 g2 => H a13' ?_ g2)
    rw [cd_min2 hb1 hb] at g1
    exact g1
theorem cd_fill4 {post : St2 → Prop} {r a b p q : Nat} (hr : r ≤ 13) (hp : p ≤ 1) (hq : q ≤ 1) (h1 : 1 ≤ p + q) (ha2 : a ≤ 127) (hb2 : b ≤ 127) (hw : cd_wd a1 a b) (h12 : cd_lv a12 r p q) (H : post (ro, rm, dv, pd, bs, a1, a2, a3, a4, a5, a6, a7, a8, a9, a10, a11, a12, a13, a14)) :
    wpX_fillFrom post (ro, rm, dv, pd, bs, a1, a2, a3, a4, a5, a6, a7, a8, a9, a10, a11, a12, a13, a14) (nI r) (nI 4) := by
  have main : ∀ x3 : Int32, ∃ n, wX_fillFrom_15 post (nI r) (nI 4) x3 ro rm dv pd bs a1 a2 a3 a4 a5 a6 a7 a8 a9 a10 a11 a12 a13 a14 n rm 0 := fun x3 =>
    pk_loop (fun n i (s : Int32) => wX_fillFrom_15 post (nI r) (nI 4) x3 ro rm dv pd bs a1 a2 a3 a4 a5 a6 a7 a8 a9 a10 a11 a12 a13 a14 n s (nI i)) (fun _ _ => True) 4 0 rm (by omega) trivial
      (fun n s _ => pk_le 4 4 (fun _ => ⟨1, cd_ff54_end H⟩) (fun z => absurd z (by omega)))
      (fun n i s hi _ hk => pk_le 4 i (fun z => absurd z (by omega)) (fun _ => ⟨pk_in (r * 4 + i) 56 (by omega) (cd_ix4 r i), pk_in i 4 hi, nm_e (nm_r (nI_1 i) (hk _ trivial))⟩))
  exact cd_widest hr hp hq h1 ha2 hb2 hw h12 (fun _ _ => main _) (fun _ _ => main _)
theorem cd_firstPattern {post : Int32 → St2 → Prop} {r R a b p q : Nat} (hr : r ≤ 13) (hR : R ≤ 40) (hp : p ≤ 1) (hq : q ≤ 1) (h1 : 1 ≤ p + q) (ha1 : 1 ≤ a) (hb1 : 1 ≤ b) (ha : p = 1 → a ≤ R) (hb : q = 1 → b ≤ R) (ha2 : a ≤ 127) (hb2 : b ≤ 127) (hw : cd_wd a1 a b) (h12 : cd_lv a12 r p q)
    (H : ∀ (a13' : Nat → Int32) (c d : Nat), cd_V R a b p q c d → cd_lv a13' r c d → (∀ j, j < r * 4 → a13' j = a13 j) → post 1 (ro, (nI R), dv, pd, bs, a1, a2, a3, a4, a5, a6, a7, a8, a9, a10, a11, a12, a13', a14)) :
    wpX_firstPattern post (ro, (nI R), dv, pd, bs, a1, a2, a3, a4, a5, a6, a7, a8, a9, a10, a11, a12, a13, a14) (nI r) := by
  have main : ∃ n, wX_firstPattern_14 post (nI r) ro (nI R) dv pd bs n 0 a1 a2 a3 a4 a5 a6 a7 a8 a9 a10 a11 a12 a13 a14 :=
    pk_loop (fun n i s => wX_firstPattern_14 post (nI r) ro (nI R) dv pd bs n (nI i) a1 a2 a3 a4 a5 a6 a7 a8 a9 a10 a11 a12 s a14) (fun i s => cd_row s a13 (r * 4) i (fun _ => 0)) 4 0 a13 (by omega) cd_row_0
      (fun n s hs => pk_le 4 4 (fun _ => cd_fill0 hr hR hp hq h1 ha1 hb1 ha hb ha2 hb2 hw h12 (fun a13' c d g1 g2 g3 => H a13' c d g1 g2 (fun j hj => by rw [g3 j hj, hs.2 j hj]))) (fun z => absurd z (by omega)))
      (fun n i s hi hs hk => pk_le 4 i (fun z => absurd z (by omega)) (fun _ => ⟨pk_in (r * 4 + i) 56 (by omega) (cd_ix4 r i), nm_e (nm_r (nI_1 i) (hk _ (cd_row_put hs (pk_cl (r * 4 + i) (cd_ix4 r i)) rfl)))⟩))
  exact cd_widest hr hp hq h1 ha2 hb2 hw h12 (fun _ _ => br_t (nI_pos' (by omega)) main) (fun _ _ => br_t (nI_pos' (by omega)) main)
theorem cd_np_skip {post : Int32 → St2 → Prop} {r m k v l n : Nat} {y : Int32} (hr : r ≤ 13) (hk : k < 4) (hm : m < 4) (hl : k = m ∧ l = 1 ∨ k ≠ m ∧ l = 0) (e : a13 (r * 4 + k) = nI v) (hv : v ≤ l) (hy : nI k + (-1) = y)
    (H : wX_nextPattern_30 post (nI r) (nI m) ro rm dv pd bs a1 a2 a3 a4 a5 a6 a7 a8 a9 a10 a11 a12 a13 a14 n y) : wX_nextPattern_30 post (nI r) (nI m) ro rm dv pd bs a1 a2 a3 a4 a5 a6 a7 a8 a9 a10 a11 a12 a13 a14 (n + 1) (nI k) := by
  have sk : wX_nextPattern_44 post (wX_nextPattern_30 post (nI r) (nI m) ro rm dv pd bs a1 a2 a3 a4 a5 a6 a7 a8 a9 a10 a11 a12 a13 a14 n) (nI r) (nI m) (nI k) (nI l) ro rm dv pd bs a1 a2 a3 a4 a5 a6 a7 a8 a9 a10 a11 a12 a13 a14 :=
    And.intro (pk_in (r * 4 + k) 56 (by omega) (cd_ix4 r k)) (pk_le v l (fun _ => nm_r hy H) (fun z => absurd z (by omega)) (cd_at e))
  refine br_f (nI_pos (by omega)) (pk_eq k m (fun g => ?_) (fun g => ?_))
  · have e : l = 1 := by omega
    subst e
    exact sk
  · have e : l = 0 := by omega
    subst e
    exact sk
theorem cd_np_dec {post : Int32 → St2 → Prop} {r m k n : Nat} (hr : r ≤ 13) (hk : k < 4) (hkm : k ≠ m) (hm : m < 4) (e : a13 (r * 4 + k) = nI 1)
    (H : wpX_fillFrom (fun u => post 1 u) (ro, rm, dv, pd, bs, a1, a2, a3, a4, a5, a6, a7, a8, a9, a10, a11, a12, (upd a13 (r * 4 + k) (nI 0)), a14) (nI r) (nI (k + 1))) : wX_nextPattern_30 post (nI r) (nI m) ro rm dv pd bs a1 a2 a3 a4 a5 a6 a7 a8 a9 a10 a11 a12 a13 a14 (n + 1) (nI k) := by
  refine br_f (nI_pos (by omega)) (pk_eq k m (fun g => absurd g hkm) (fun g => And.intro (pk_in (r * 4 + k) 56 (by omega) (cd_ix4 r k)) (pk_le 1 0 (fun z => absurd z (by omega)) (fun _ => ⟨pk_in (r * 4 + k) 56 (by omega) (cd_ix4 r k), pk_in (r * 4 + k) 56 (by omega) (cd_ix4 r k), nm_r (e' := upd a13 (r * 4 + k) (nI 0)) ?_ ?_⟩) (cd_at e))))
  · rw [cd_at e, cd_ix4, nI_clamp (by omega)]
    rfl
  · rw [nI_1]
    exact H
theorem cd_nextPattern {post : Int32 → St2 → Prop} {r R a b p q : Nat} (hr : r ≤ 13) (hR : R ≤ 40) (hp : p ≤ 1) (hq : q ≤ 1) (h1 : 1 ≤ p + q) (ha1 : 1 ≤ a) (hb1 : 1 ≤ b) (ha : p = 1 → a ≤ R) (hb : q = 1 → b ≤ R) (ha2 : a ≤ 127) (hb2 : b ≤ 127) (hw : cd_wd a1 a b) (h12 : cd_lv a12 r p q)
    (hL : a14 r = 0 ∨ ∃ c d, cd_V R a b p q c d ∧ cd_lv a13 r c d)
    (H0 : post 0 (ro, (nI R), dv, pd, bs, a1, a2, a3, a4, a5, a6, a7, a8, a9, a10, a11, a12, a13, a14))
    (H1 : ∀ (a13' : Nat → Int32) (a14' : Nat → Int32) (c d : Nat), cd_V R a b p q c d → cd_lv a13' r c d → (∀ j, j < r * 4 → a13' j = a13 j) → (∀ j, j < r → a14' j = a14 j) → post 1 (ro, (nI R), dv, pd, bs, a1, a2, a3, a4, a5, a6, a7, a8, a9, a10, a11, a12, a13', a14')) :
    wpX_nextPattern post (ro, (nI R), dv, pd, bs, a1, a2, a3, a4, a5, a6, a7, a8, a9, a10, a11, a12, a13, a14) (nI r) := by
  refine And.intro (pk_in r 14 (by omega)) (br_c (fun _ => ⟨pk_in r 14 (by omega), nm_e (cd_firstPattern hr hR hp hq h1 ha1 hb1 ha hb ha2 hb2 hw h12 (fun a13' c d g1 g2 g3 => ⟨by rfl, H1 _ _ c d g1 g2 g3 (fun j hj => ?_)⟩))⟩) (fun z => ?_))
  · rw [nI_clamp (by omega), pk_un (by omega)]
  · rcases hL with hL | ⟨c, d, hV, hl⟩
    · exact absurd (cd_a0 hL) z
    · have l0 : a13 (r * 4 + 0) = nI c := hl 0 (by omega)
      have l1 : a13 (r * 4 + 1) = nI 0 := hl 1 (by omega)
      have l2 : a13 (r * 4 + 2) = nI 0 := hl 2 (by omega)
      have l3 : a13 (r * 4 + 3) = nI d := hl 3 (by omega)
      obtain ⟨v1, v2, v3, v4, v5⟩ := hV
      have en : ∀ (m n : Nat), wX_nextPattern_30 post (nI r) (nI m) ro (nI R) dv pd bs a1 a2 a3 a4 a5 a6 a7 a8 a9 a10 a11 a12 a13 a14 (n + 1) (-1) := fun m n => br_t (by decide) H0
      refine cd_widest hr hp hq h1 ha2 hb2 hw h12 (fun g1 g2 => ⟨5, ?_⟩) (fun g1 g2 => ⟨5, ?_⟩)
      · have hc : c = 1 := v4 g1 g2
        have hd : d = 0 ∨ d = 1 := by omega
        rcases hd with hd | hd
        · subst hc hd
          exact cd_np_skip (k := 3) (m := 0) (l := 0) (y := nI 2) hr (by omega) (by omega) (by omega) l3 (by omega) (by rfl) (cd_np_skip (k := 2) (m := 0) (l := 0) (y := nI 1) hr (by omega) (by omega) (by omega) l2 (by omega) (by rfl)
            (cd_np_skip (k := 1) (m := 0) (l := 0) (y := nI 0) hr (by omega) (by omega) (by omega) l1 (by omega) (by rfl) (cd_np_skip (k := 0) (m := 0) (l := 1) (y := -1) hr (by omega) (by omega) (by omega) l0 (by omega) (by rfl) (en 0 0))))
        · subst hc hd
          refine cd_np_dec (k := 3) (m := 0) hr (by omega) (by omega) (by omega) l3 (cd_fill4 hr hp hq h1 ha2 hb2 hw h12 (H1 _ _ 1 0 ⟨by omega, by omega, fun _ z => absurd z (by omega), fun _ _ => rfl, fun z1 z2 => by omega⟩ (cd_lv_put3 hl) (fun j hj => pk_un (by omega)) (fun _ _ => rfl)))
      · have hd : d = 1 := v5 g1 g2
        have hc : c = 0 ∨ c = 1 := by omega
        rcases hc with hc | hc
        · subst hc hd
          exact cd_np_skip (k := 3) (m := 3) (l := 1) (y := nI 2) hr (by omega) (by omega) (by omega) l3 (by omega) (by rfl) (cd_np_skip (k := 2) (m := 3) (l := 0) (y := nI 1) hr (by omega) (by omega) (by omega) l2 (by omega) (by rfl)
            (cd_np_skip (k := 1) (m := 3) (l := 0) (y := nI 0) hr (by omega) (by omega) (by omega) l1 (by omega) (by rfl) (cd_np_skip (k := 0) (m := 3) (l := 0) (y := -1) hr (by omega) (by omega) (by omega) l0 (by omega) (by rfl) (en 3 0))))
        · subst hc hd
          subst g1
          refine cd_np_skip (k := 3) (m := 3) (l := 1) (y := nI 2) hr (by omega) (by omega) (by omega) l3 (by omega) (by rfl) (cd_np_skip (k := 2) (m := 3) (l := 0) (y := nI 1) hr (by omega) (by omega) (by omega) l2 (by omega) (by rfl)
            (cd_np_skip (k := 1) (m := 3) (l := 0) (y := nI 0) hr (by omega) (by omega) (by omega) l1 (by omega) (by rfl) (cd_np_dec (k := 0) (m := 3) hr (by omega) (by omega) (by omega) l0 ?_)))
          exact cd_fill1 hr hR hp hb1 (hb rfl) ha2 hb2 hw h12 g2 pk_us (fun a13' k1 k2 => H1 _ _ 0 1 ⟨by omega, by omega, fun z => absurd z (by omega), fun z1 z2 => by omega, fun _ _ => rfl⟩ k1 (fun j hj => by rw [k2 j hj, pk_un (by omega)]) (fun _ _ => rfl))
end
end
section
/-- a level of the search: what is wanted there, and the pattern cut there if one was -/
def cd_L (R a b : Nat) (a12 a13 a14 : Nat → Int32) (r p q : Nat) : Prop := cd_lv a12 r p q ∧ (a14 r = 0 ∨ ∃ c d, cd_V R a b p q c d ∧ cd_lv a13 r c d)
theorem cd_L_keep {R a b : Nat} {a12 a13 a14 b12 b13 b14 : Nat → Int32} {r p q n12 n13 n14 : Nat} (h : cd_L R a b a12 a13 a14 r p q) (h12 : ∀ j, j < n12 → b12 j = a12 j) (h13 : ∀ j, j < n13 → b13 j = a13 j) (h14 : ∀ j, j < n14 → b14 j = a14 j)
    (g12 : r * 4 + 4 ≤ n12) (g13 : r * 4 + 4 ≤ n13) (g14 : r < n14) : cd_L R a b b12 b13 b14 r p q := by
  refine ⟨cd_lv_keep h.1 h12 g12, ?_⟩
  rcases h.2 with h2 | ⟨c, d, hV, hl⟩
  · exact Or.inl (by rw [h14 r g14, h2])
  · exact Or.inr ⟨c, d, hV, cd_lv_keep hl h13 g13⟩
theorem cd_V_pos {R a b p q c d : Nat} (hp : p ≤ 1) (hq : q ≤ 1) (h1 : 1 ≤ p + q) (h : cd_V R a b p q c d) : 1 ≤ c + d := by
  obtain ⟨v1, v2, v3, v4, v5⟩ := h
  by_cases g : p = 1 ∧ (q = 0 ∨ b ≤ a)
  · have := v4 g.1 g.2
    omega
  · have := v5 (by omega) (by omega)
    omega
theorem cd_B_le (R a b p q : Nat) : cd_B R a b p q ≤ 2 := by
  unfold cd_B
  split <;> omega
theorem cd_B_1 {R a b p q : Nat} (h : p = 1 → q = 1 → a + b ≤ R) : cd_B R a b p q = 1 := if_neg (fun z => absurd (h z.1 z.2.1) (by omega))
/-- where the search stands: left, at the first roll, or at the second with one piece wanted -/
def cd_SI (R a b p q : Nat) (x : Int32) (a12 a13 a14 : Nat → Int32) : Prop := x = -1 ∨ (x = nI 0 ∧ cd_L R a b a12 a13 a14 0 p q) ∨ (x = nI 1 ∧ cd_L R a b a12 a13 a14 0 p q ∧ ∃ p1 q1, p1 + q1 = 1 ∧ p1 ≤ p ∧ q1 ≤ q ∧ cd_L R a b a12 a13 a14 1 p1 q1)
section
variable {ro : Int32} {rm : Int32} {dv : Int64} {pd : Int64} {bs : Int32} {a1 : Nat → Int32} {a2 : Nat → Int32} {a3 : Nat → Int32} {a4 : Nat → Int32} {a5 : Nat → Int64} {a6 : Nat → Int64} {a7 : Nat → Int64} {a8 : Nat → Int64} {a9 : Nat → Int64} {a10 : Nat → Int32} {a11 : Nat → Int32} {a12 : Nat → Int32} {a13 : Nat → Int32} {a14 : Nat → Int32}
theorem cd_served_x {post : Int32 → Prop} {x : Int32} {r p q : Nat} (hx : x = nI r) (hr : r ≤ 13) (hp : p ≤ 1) (hq : q ≤ 1) (h : cd_lv a12 r p q) (H0 : 1 ≤ p + q → post 0) (H1 : p = 0 → q = 0 → post 1) :
    wpX_served post (ro, rm, dv, pd, bs, a1, a2, a3, a4, a5, a6, a7, a8, a9, a10, a11, a12, a13, a14) x := by
  subst hx
  exact cd_served hr hp hq h H0 H1
theorem cd_boundAt_x {post : Int32 → Prop} {x : Int32} {r : Nat} (hx : x = nI r) (hr : r ≤ 13) (H : ∀ x : Int32, post x) : wpX_boundAt post (ro, rm, dv, pd, bs, a1, a2, a3, a4, a5, a6, a7, a8, a9, a10, a11, a12, a13, a14) x := by
  subst hx
  exact cd_boundAt hr H
theorem cd_se_step {post : St2 → Prop} {x1 y : Int32} {r i R a b p q B n : Nat} (hr : r ≤ 12) (hi : i < 134217728) (hB : B ≤ 2) (hR : R ≤ 40) (hp : p ≤ 1) (hq : q ≤ 1) (h1 : 1 ≤ p + q) (ha1 : 1 ≤ a) (hb1 : 1 ≤ b) (ha : p = 1 → a ≤ R) (hb : q = 1 → b ≤ R) (ha2 : a ≤ 127) (hb2 : b ≤ 127) (hw : cd_wd a1 a b)
    (hL : cd_L R a b a12 a13 a14 r p q) (hbest : (p = 1 → q = 1 → a + b ≤ R) → B ≤ r + 1)
    (HE : post (ro, (nI R), dv, pd, (nI B), a1, a2, a3, a4, a5, a6, a7, a8, a9, a10, a11, a12, a13, a14))
    (hy : nI r + (-1) = y) (Kd : wX_search_11 post x1 n y (nI (i + 1)) ro (nI R) dv pd (nI B) a1 a2 a3 a4 a5 a6 a7 a8 a9 a10 a11 a12 a13 a14)
    (Ks : ∀ (a12' : Nat → Int32) (a13' : Nat → Int32) (a14' : Nat → Int32), (∀ j, j < (r + 1) * 4 → a12' j = a12 j) → (∀ j, j < r * 4 → a13' j = a13 j) → (∀ j, j < r → a14' j = a14 j) → cd_L R a b a12' a13' a14' r p q → wX_search_11 post x1 n (nI r) (nI (i + 1)) ro (nI R) dv pd (nI B) a1 a2 a3 a4 a5 a6 a7 a8 a9 a10 a11 a12' a13' a14')
    (Ku : ∀ (a12' : Nat → Int32) (a13' : Nat → Int32) (a14' : Nat → Int32) (c d : Nat), (∀ j, j < (r + 1) * 4 → a12' j = a12 j) → (∀ j, j < r * 4 → a13' j = a13 j) → (∀ j, j < r → a14' j = a14 j) → cd_L R a b a12' a13' a14' r p q → cd_V R a b p q c d → 1 ≤ (p - c) + (q - d) → cd_L R a b a12' a13' a14' (r + 1) (p - c) (q - d) → wX_search_11 post x1 n (nI (r + 1)) (nI (i + 1)) ro (nI R) dv pd (nI B) a1 a2 a3 a4 a5 a6 a7 a8 a9 a10 a11 a12' a13' a14') :
    wX_search_11 post x1 (n + 1) (nI r) (nI i) ro (nI R) dv pd (nI B) a1 a2 a3 a4 a5 a6 a7 a8 a9 a10 a11 a12 a13 a14 := by
  refine pk_le 134217728 i (fun z => absurd z (by omega)) (fun _ => br_f (nI_pos (by omega)) (br_c (fun _ => HE) (fun _ => cd_nextPattern (by omega) hR hp hq h1 ha1 hb1 ha hb ha2 hb2 hw hL.1 hL.2 (br_t rfl (nm_r hy (nm_r (nI_1 i) Kd)))
    (fun b13 b14 c d hV hl f13 f14 => br_f (by decide) (cd_takeOff hr hp hq hV.1 hV.2.1 hL.1 hl (fun b12 hl' f12 => ?_))))))
  have hL' : cd_L R a b b12 b13 b14 r p q := ⟨cd_lv_keep hL.1 f12 (by omega), Or.inr ⟨c, d, hV, hl⟩⟩
  refine cd_served_x (r := r + 1) (nI_1 r) (by omega) (by omega) (by omega) hl' (fun g => br_t rfl (cd_boundAt_x (r := r + 1) (nI_1 r) (by omega) (fun x => br_c (fun _ => nm_r (nI_1 i) (Ks _ _ _ f12 f13 f14 hL')) (fun _ => nm_r (nI_1 r) ⟨pk_in (r + 1) 14 (by omega), nm_e (nm_r (nI_1 i) (Ku _ _ _ c d f12 f13 ?_ ?_ hV g ?_))⟩))))
    (fun z1 z2 => br_f (by decide) (br_t ?_ (nm_r (nI_1 i) (Ks _ _ _ f12 f13 f14 hL'))))
  · intro j hj
    rw [nI_clamp (by omega), pk_un (by omega)]
    exact f14 j hj
  · exact ⟨hL'.1, Or.inr ⟨c, d, hV, hl⟩⟩
  · refine ⟨hl', Or.inl ?_⟩
    rw [nI_clamp (by omega), pk_us]
  · have hb := hbest (fun g1 g2 => hV.2.2.1 (by have := hV.1; omega) (by have := hV.2.1; omega))
    rw [nI_1]
    exact nI_le hb (by omega)
theorem cd_search {post : St2 → Prop} {x1 : Int32} {R a b p q : Nat} (hR : R ≤ 40) (hp : p ≤ 1) (hq : q ≤ 1) (h1 : 1 ≤ p + q) (ha1 : 1 ≤ a) (hb1 : 1 ≤ b) (ha : p = 1 → a ≤ R) (hb : q = 1 → b ≤ R) (ha2 : a ≤ 127) (hb2 : b ≤ 127) (hw : cd_wd a1 a b) (h12 : cd_lv a12 0 p q)
    (H : ∀ (a12' : Nat → Int32) (a13' : Nat → Int32) (a14' : Nat → Int32), post (ro, (nI R), dv, pd, (nI (cd_B R a b p q)), a1, a2, a3, a4, a5, a6, a7, a8, a9, a10, a11, a12', a13', a14')) :
    wpX_search post (ro, (nI R), dv, pd, (nI (cd_B R a b p q)), a1, a2, a3, a4, a5, a6, a7, a8, a9, a10, a11, a12, a13, a14) x1 := by
  refine nm_e (pk_loop (fun n i (s : Int32 × (Nat → Int32) × (Nat → Int32) × (Nat → Int32)) => wX_search_11 post x1 n s.1 (nI i) ro (nI R) dv pd (nI (cd_B R a b p q)) a1 a2 a3 a4 a5 a6 a7 a8 a9 a10 a11 s.2.1 s.2.2.1 s.2.2.2) (fun _ s => cd_SI R a b p q s.1 s.2.1 s.2.2.1 s.2.2.2) 134217728 0 (0, a12, a13, upd a14 0 0) (by omega)
    (Or.inr (Or.inl ⟨rfl, h12, Or.inl (pk_us (f := a14) (k := 0) (x := 0))⟩)) (fun n s _ => pk_le 134217728 134217728 (fun _ => H _ _ _) (fun z => absurd z (by omega))) ?_)
  intro n i s hi hs hk
  obtain ⟨x, b12, b13, b14⟩ := s
  rcases hs with hs | ⟨hs, h0⟩ | ⟨hs, h0, p1, q1, g1, g2, g3, hL1⟩
  · have hs' : x = -1 := hs
    subst hs'
    exact pk_le 134217728 i (fun z => absurd z (by omega)) (fun _ => br_t (show (-1 : Int32) < 0 by decide) (H _ _ _))
  · have hs' : x = nI 0 := hs
    subst hs'
    exact cd_se_step (r := 0) (y := -1) (by omega) hi (cd_B_le R a b p q) hR hp hq h1 ha1 hb1 ha hb ha2 hb2 hw h0 (fun g => by rw [cd_B_1 g]; omega) (H _ _ _) (by rfl) (hk (-1, b12, b13, b14) (Or.inl rfl))
      (fun c12 c13 c14 f12 f13 f14 hL => hk (nI 0, c12, c13, c14) (Or.inr (Or.inl ⟨rfl, hL⟩)))
      (fun c12 c13 c14 c d f12 f13 f14 hL hV hs hL' => hk (nI 1, c12, c13, c14) (Or.inr (Or.inr ⟨rfl, hL, p - c, q - d, by have := cd_V_pos hp hq h1 hV; have := hV.1; have := hV.2.1; omega, by omega, by omega, hL'⟩)))
  · have hs' : x = nI 1 := hs
    subst hs'
    exact cd_se_step (r := 1) (y := nI 0) (by omega) hi (cd_B_le R a b p q) hR (by omega) (by omega) (by omega) ha1 hb1 (fun z => ha (by omega)) (fun z => hb (by omega)) ha2 hb2 hw hL1 (fun g => cd_B_le R a b p q) (H _ _ _) (pk_m1 0) (hk (nI 0, b12, b13, b14) (Or.inr (Or.inl ⟨rfl, h0⟩)))
      (fun c12 c13 c14 f12 f13 f14 hL => hk (nI 1, c12, c13, c14) (Or.inr (Or.inr ⟨rfl, cd_L_keep h0 f12 f13 f14 (by omega) (by omega) (by omega), p1, q1, g1, g2, g3, hL⟩)))
      (fun c12 c13 c14 c d f12 f13 f14 hL hV hs hL' => absurd (cd_V_pos (by omega) (by omega) (by omega) hV) (by have := hV.1; have := hV.2.1; omega))
end
/-- the answer of solve -/
def cd_N (R a b p q : Nat) : Nat := if p + q = 0 then 0 else cd_B R a b p q
def cd_sum (p q : Nat) : Nat → Nat
  | 0 => 0
  | k + 1 => cd_sum p q k + cd_v p q k
theorem cd_sum_4 (p q : Nat) : cd_sum p q 4 = p + q := by
  show 0 + p + 0 + 0 + q = p + q
  omega
section
variable {ro : Int32} {rm : Int32} {dv : Int64} {pd : Int64} {bs : Int32} {a1 : Nat → Int32} {a2 : Nat → Int32} {a3 : Nat → Int32} {a4 : Nat → Int32} {a5 : Nat → Int64} {a6 : Nat → Int64} {a7 : Nat → Int64} {a8 : Nat → Int64} {a9 : Nat → Int64} {a10 : Nat → Int32} {a11 : Nat → Int32} {a12 : Nat → Int32} {a13 : Nat → Int32} {a14 : Nat → Int32}
theorem cd_solve {post : Int32 → St2 → Prop} {R a b p q : Nat} (hR : R ≤ 40) (hp : p ≤ 1) (hq : q ≤ 1) (ha1 : 1 ≤ a) (hb1 : 1 ≤ b) (ha : p = 1 → a ≤ R) (hb : q = 1 → b ≤ R) (ha2 : a ≤ 40) (hb2 : b ≤ 40) (hw : cd_wd a1 a b) (h3 : ∀ k, k < 4 → a3 k = nI (cd_v p q k))
    (H : ∀ (dv' : Int64) (pd' : Int64) (bs' : Int32) (a4' : Nat → Int32) (a5' : Nat → Int64) (a6' : Nat → Int64) (a7' : Nat → Int64) (a8' : Nat → Int64) (a9' : Nat → Int64) (a10' : Nat → Int32) (a11' : Nat → Int32) (a12' : Nat → Int32) (a13' : Nat → Int32) (a14' : Nat → Int32), post (nI (cd_N R a b p q)) (ro, (nI R), dv', pd', bs', a1, a2, a3, a4', a5', a6', a7', a8', a9', a10', a11', a12', a13', a14')) :
    wpX_solve post (ro, (nI R), dv, pd, bs, a1, a2, a3, a4, a5, a6, a7, a8, a9, a10, a11, a12, a13, a14) := by
  refine pk_loop (fun n i (s : Nat × (Nat → Int32)) => wX_solve_4 post ro (nI R) dv pd bs n (nI s.1) (nI i) a1 a2 a3 a4 a5 a6 a7 a8 a9 a10 a11 s.2 a13 a14) (fun i s => s.1 = cd_sum p q i ∧ cd_row s.2 a12 0 i (fun k => nI (cd_v p q k))) 4 0 (0, a12) (by omega) ⟨rfl, cd_row_0⟩ ?_ ?_
  · intro n s hs
    have e4 := hs.1
    rw [cd_sum_4] at e4
    have h12 : cd_lv s.2 0 p q := by
      intro k hk
      have := hs.2.1 k hk
      rw [Nat.zero_mul]
      exact this
    refine pk_le 4 4 (fun _ => pk_eq s.1 0 (fun z => ?_) (fun z => ?_)) (fun z => absurd z (by omega))
    · have e : cd_N R a b p q = 0 := if_pos (by omega)
      rw [e] at H
      exact H _ _ _ _ _ _ _ _ _ _ _ _ _ _
    · have e : cd_N R a b p q = cd_B R a b p q := if_neg (by omega)
      rw [e] at H
      exact cd_findPrices hR (cd_wd_W hw ha1 ha2 hb1 hb2) (fun c1 c2 c4 c5 c6 c7 c8 c9 c10 c11 => cd_byFallingWidths hR hp hq (by omega) ha hb (by omega) (by omega) hw h12 (fun c12 c13 hl => cd_boundAt (r := 0) (by omega) (fun x => br_c (fun _ => H _ _ _ _ _ _ _ _ _ _ _ _ _ _)
        (fun _ => cd_search hR hp hq (by omega) ha1 hb1 ha hb (by omega) (by omega) hw hl (fun d12 d13 d14 => H _ _ _ _ _ _ _ _ _ _ _ _ _ _)))))
  · intro n i s hi hs hk
    have g := cd_v_le hp hq i
    refine pk_le 4 i (fun z => absurd z (by omega)) (fun _ => ⟨pk_in i 4 hi, nm_r (e' := nI (s.1 + cd_v p q i)) ?_ ⟨pk_in i 4 hi, pk_in i 56 (by omega), nm_e (nm_r (nI_1 i) (hk (s.1 + cd_v p q i, _) ⟨?_, cd_row_put hs.2 ?_ ?_⟩))⟩⟩)
    · rw [cd_a0 (h3 i hi), nI_add]
    · show s.1 + cd_v p q i = cd_sum p q i + cd_v p q i
      rw [hs.1]
    · rw [nI_clamp (by omega), Nat.zero_add]
    · rw [cd_a0 (h3 i hi), cd_nar (by omega)]
end
end
section
/-! the questions -/
def cd_w (a b : Nat) : Nat → Nat := fun k => if k = 0 then a else if k = 3 then b else 1
theorem cd_wd_at {a1 : Nat → Int32} {a b : Nat} (h : cd_wd a1 a b) {k : Nat} (hk : k < 4) : a1 k = nI (cd_w a b k) :=
  co_4 (P := fun k => a1 k = nI (cd_w a b k)) h.1 h.2.1 h.2.2.1 h.2.2.2 hk
theorem cd_w_le {a b m : Nat} (ha : a ≤ m) (hb : b ≤ m) (hm : 1 ≤ m) (k : Nat) : cd_w a b k ≤ m := by
  unfold cd_w
  split
  · exact ha
  · split
    · exact hb
    · exact hm
def cd_su (a b c d : Nat) : Nat → Nat
  | 0 => 0
  | k + 1 => cd_su a b c d k + cd_v c d k * cd_w a b k
theorem cd_su_4 (a b c d : Nat) : cd_su a b c d 4 = c * a + d * b := by
  show 0 + c * a + 0 * 1 + 0 * 1 + d * b = c * a + d * b
  omega
/-- a pattern's pieces by kinds -/
def cd_pat (x : Int32) (c d : Nat) : Prop := ∀ k, k < 4 → (x >>> ((2 * nI k) &&& 31)) &&& 3 = nI (cd_v c d k)
theorem cd_pat65 : cd_pat 65 1 1 := by
  intro k hk
  exact co_4 (P := fun k => ((65 : Int32) >>> ((2 * nI k) &&& 31)) &&& 3 = nI (cd_v 1 1 k)) (by decide) (by decide) (by decide) (by decide) hk
theorem cd_pat1 : cd_pat 1 1 0 := by
  intro k hk
  exact co_4 (P := fun k => ((1 : Int32) >>> ((2 * nI k) &&& 31)) &&& 3 = nI (cd_v 1 0 k)) (by decide) (by decide) (by decide) (by decide) hk
section
variable {ro : Int32} {rm : Int32} {dv : Int64} {pd : Int64} {bs : Int32} {a1 : Nat → Int32} {a2 : Nat → Int32} {a3 : Nat → Int32} {a4 : Nat → Int32} {a5 : Nat → Int64} {a6 : Nat → Int64} {a7 : Nat → Int64} {a8 : Nat → Int64} {a9 : Nat → Int64} {a10 : Nat → Int32} {a11 : Nat → Int32} {a12 : Nat → Int32} {a13 : Nat → Int32} {a14 : Nat → Int32}
theorem cd_askPlainly {post : St2 → Prop} {p q : Nat} (hp : p ≤ 1) (hq : q ≤ 1) (h2 : ∀ k, k < 4 → a2 k = nI (cd_v p q k)) (H : ∀ (a3' : Nat → Int32), (∀ k, k < 4 → a3' k = nI (cd_v p q k)) → post (ro, ro, dv, pd, bs, a1, a2, a3', a4, a5, a6, a7, a8, a9, a10, a11, a12, a13, a14)) :
    wpX_askPlainly post (ro, rm, dv, pd, bs, a1, a2, a3, a4, a5, a6, a7, a8, a9, a10, a11, a12, a13, a14) :=
  pk_loop (fun n i s => wX_askPlainly_10 post ro ro dv pd bs n (nI i) a1 a2 s a4 a5 a6 a7 a8 a9 a10 a11 a12 a13 a14) (fun i s => cd_row s a3 0 i (fun k => nI (cd_v p q k))) 4 0 a3 (by omega) cd_row_0
    (fun n s hs => pk_le 4 4 (fun _ => H s (fun k hk => by have := hs.1 k hk; rw [Nat.zero_add] at this; exact this)) (fun z => absurd z (by omega)))
    (fun n i s hi hs hk => pk_le 4 i (fun z => absurd z (by omega)) (fun _ => ⟨pk_in i 4 hi, pk_in i 4 hi, nm_e (nm_r (nI_1 i) (hk _ (cd_row_put hs (by rw [nI_clamp (by omega), Nat.zero_add]) (by rw [cd_a0 (h2 i hi), cd_nar (by have := cd_v_le hp hq i; omega)]))))⟩))
theorem cd_fits {post : Int32 → Prop} {x : Int32} {R a b c d : Nat} (hR : R ≤ 20) (ha : a ≤ 20) (hb : b ≤ 20) (hc : c ≤ 1) (hd : d ≤ 1) (hw : cd_wd a1 a b) (hx : cd_pat x c d) (hx0 : ¬ x < 0) (hx1 : x ≤ 255)
    (H0 : R < c * a + d * b → post 0) (H1 : c * a + d * b ≤ R → post 1) : wpX_fits post ((nI R), rm, dv, pd, bs, a1, a2, a3, a4, a5, a6, a7, a8, a9, a10, a11, a12, a13, a14) x := by
  have hca : c * a ≤ 20 := by
    have := Nat.mul_le_mul hc ha
    omega
  have hdb : d * b ≤ 20 := by
    have := Nat.mul_le_mul hd hb
    omega
  refine br_f hx0 (br_t hx1 (pk_loop (fun n i (s : Nat) => wX_fits_17 post x (nI R) rm dv pd bs a1 a2 a3 a4 a5 a6 a7 a8 a9 a10 a11 a12 a13 a14 n (nI s) (nI i)) (fun i s => s = cd_su a b c d i) 4 0 0 (by omega) rfl ?_ ?_))
  · intro n s hs
    rw [cd_su_4] at hs
    exact pk_le 4 4 (fun _ => pk_lt R s (fun z => H0 (by omega)) (fun z => H1 (by omega))) (fun z => absurd z (by omega))
  · intro n i s hi hs hk
    refine pk_le 4 i (fun z => absurd z (by omega)) (fun _ => ⟨pk_in i 4 hi, nm_r (e' := nI (s + cd_v c d i * cd_w a b i)) ?_ (nm_r (nI_1 i) (hk _ ?_))⟩)
    · rw [hx i hi, cd_a0 (cd_wd_at hw hi), pk_mul, nI_add]
    · show s + cd_v c d i * cd_w a b i = cd_su a b c d i + cd_v c d i * cd_w a b i
      rw [hs]
theorem cd_least {post : Int32 → St2 → Prop} {R a b : Nat} (hR : R ≤ 20) (ha1 : 1 ≤ a) (hb1 : 1 ≤ b) (ha : a ≤ R) (hb : b ≤ R) (hw : cd_wd a1 a b) (h2 : ∀ k, k < 4 → a2 k = nI (cd_v 1 1 k))
    (H : ∀ (rm' : Int32) (dv' : Int64) (pd' : Int64) (bs' : Int32) (a3' : Nat → Int32) (a4' : Nat → Int32) (a5' : Nat → Int64) (a6' : Nat → Int64) (a7' : Nat → Int64) (a8' : Nat → Int64) (a9' : Nat → Int64) (a10' : Nat → Int32) (a11' : Nat → Int32) (a12' : Nat → Int32) (a13' : Nat → Int32) (a14' : Nat → Int32), post (nI (cd_N R a b 1 1)) ((nI R), rm', dv', pd', bs', a1, a2, a3', a4', a5', a6', a7', a8', a9', a10', a11', a12', a13', a14')) :
    wpX_least post ((nI R), rm, dv, pd, bs, a1, a2, a3, a4, a5, a6, a7, a8, a9, a10, a11, a12, a13, a14) :=
  cd_askPlainly (rm := rm) (by omega) (by omega) h2 (fun c3 h3 => cd_solve (by omega) (by omega) (by omega) ha1 hb1 (fun _ => ha) (fun _ => hb) (by omega) (by omega) hw h3 (fun _ _ _ _ _ _ _ _ _ _ _ _ _ _ => H _ _ _ _ _ _ _ _ _ _ _ _ _ _ _ _))
theorem cd_leavesOneLess {post : Int32 → St2 → Prop} {x : Int32} {R a b c d m : Nat} (hR : R ≤ 20) (ha1 : 1 ≤ a) (hb1 : 1 ≤ b) (ha : a ≤ R) (hb : b ≤ R) (hc : c ≤ 1) (hd : d ≤ 1) (hm : 1 ≤ m) (hm2 : m ≤ 2) (hw : cd_wd a1 a b) (h2 : ∀ k, k < 4 → a2 k = nI (cd_v 1 1 k)) (hx : cd_pat x c d)
    (H : ∀ (y : Int32) (rm' : Int32) (dv' : Int64) (pd' : Int64) (bs' : Int32) (a3' : Nat → Int32) (a4' : Nat → Int32) (a5' : Nat → Int64) (a6' : Nat → Int64) (a7' : Nat → Int64) (a8' : Nat → Int64) (a9' : Nat → Int64) (a10' : Nat → Int32) (a11' : Nat → Int32) (a12' : Nat → Int32) (a13' : Nat → Int32) (a14' : Nat → Int32), (cd_N R a b (1 - c) (1 - d) + 1 = m → y = 1) → (cd_N R a b (1 - c) (1 - d) + 1 ≠ m → y = 0) → post y ((nI R), rm', dv', pd', bs', a1, a2, a3', a4', a5', a6', a7', a8', a9', a10', a11', a12', a13', a14')) :
    wpX_leavesOneLess post ((nI R), rm, dv, pd, bs, a1, a2, a3, a4, a5, a6, a7, a8, a9, a10, a11, a12, a13, a14) x (nI m) := by
  have hN : cd_N R a b (1 - c) (1 - d) ≤ 2 := by
    unfold cd_N
    split
    · omega
    · exact cd_B_le _ _ _ _ _
  refine cd_askPlainly (rm := rm) (by omega) (by omega) h2 (fun c3 h3 => ?_)
  refine pk_loop (fun n i s => wX_leavesOneLess_6 post x (nI m) (nI R) (nI R) dv pd bs n (nI i) a1 a2 s a4 a5 a6 a7 a8 a9 a10 a11 a12 a13 a14) (fun i s => (∀ k, k < i → s k = nI (cd_v (1 - c) (1 - d) k)) ∧ (∀ k, i ≤ k → k < 4 → s k = nI (cd_v 1 1 k))) 4 0 c3 (by omega) ⟨fun k hk => absurd hk (by omega), fun k _ hk => h3 k hk⟩ ?_ ?_
  · intro n s hs
    refine pk_le 4 4 (fun _ => cd_solve (by omega) (by omega) (by omega) ha1 hb1 (fun _ => ha) (fun _ => hb) (by omega) (by omega) hw hs.1 (fun _ _ _ _ _ _ _ _ _ _ _ _ _ _ => pk_eq (cd_N R a b (1 - c) (1 - d)) (m - 1) (fun z => H 1 _ _ _ _ _ _ _ _ _ _ _ _ _ _ _ _ (fun _ => rfl) (fun g => absurd g (by omega))) (fun z => H 0 _ _ _ _ _ _ _ _ _ _ _ _ _ _ _ _ (fun g => absurd g (by omega)) (fun _ => rfl)) rfl (pk_sub hm))) (fun z => absurd z (by omega))
  · intro n i s hi hs hk
    have g1 := cd_v_mono hc hd i
    have g2 := cd_v_le (p := 1) (q := 1) (by omega) (by omega) i
    have g3 := cd_v_sub 1 1 c d i
    have e : s (nI i).toNatClampNeg - ((x >>> ((2 * nI i) &&& 31)) &&& 3) = nI (cd_v (1 - c) (1 - d) i) := by
      rw [cd_a0 (hs.2 i (by omega) hi), hx i hi, pk_sub g1, g3]
    have nx : ∀ v : Int32, v = nI (cd_v (1 - c) (1 - d) i) → (∀ k, k < i + 1 → upd s (nI i).toNatClampNeg v k = nI (cd_v (1 - c) (1 - d) k)) ∧ (∀ k, i + 1 ≤ k → k < 4 → upd s (nI i).toNatClampNeg v k = nI (cd_v 1 1 k)) := by
      intro v hv
      rw [nI_clamp (by omega)]
      refine ⟨fun k hk => ?_, fun k h1 h2 => ?_⟩
      · by_cases z : k = i
        · rw [z, pk_us, hv]
        · rw [pk_un z]
          exact hs.1 k (by omega)
      · rw [pk_un (by omega)]
        exact hs.2 k (by omega) h2
    refine pk_le 4 i (fun z => absurd z (by omega)) (fun _ => ⟨pk_in i 4 hi, nm_r e (pk_le (cd_v (1 - c) (1 - d) i) 0 (fun z => ⟨pk_in i 4 hi, nm_e (nm_r (nI_1 i) (hk _ (nx _ ?_)))⟩) (fun z => ⟨pk_in i 4 hi, nm_e (nm_r (nI_1 i) (hk _ (nx _ ?_)))⟩) rfl rfl (by omega))⟩)
    · rw [show cd_v (1 - c) (1 - d) i = 0 by omega]
      rfl
    · exact cd_byte _ (by omega)
theorem cd_couldUse {post : Int32 → St2 → Prop} {x : Int32} {R a b c d : Nat} (hR : R ≤ 20) (ha1 : 1 ≤ a) (hb1 : 1 ≤ b) (ha : a ≤ R) (hb : b ≤ R) (hc : c ≤ 1) (hd : d ≤ 1) (hw : cd_wd a1 a b) (h2 : ∀ k, k < 4 → a2 k = nI (cd_v 1 1 k)) (hx : cd_pat x c d) (hx0 : ¬ x < 0) (hx1 : x ≤ 255)
    (H : ∀ (y : Int32) (rm' : Int32) (dv' : Int64) (pd' : Int64) (bs' : Int32) (a3' : Nat → Int32) (a4' : Nat → Int32) (a5' : Nat → Int64) (a6' : Nat → Int64) (a7' : Nat → Int64) (a8' : Nat → Int64) (a9' : Nat → Int64) (a10' : Nat → Int32) (a11' : Nat → Int32) (a12' : Nat → Int32) (a13' : Nat → Int32) (a14' : Nat → Int32), (c * a + d * b ≤ R ∧ cd_N R a b (1 - c) (1 - d) + 1 = cd_N R a b 1 1 → y = 1) → (¬ (c * a + d * b ≤ R ∧ cd_N R a b (1 - c) (1 - d) + 1 = cd_N R a b 1 1) → y = 0) → post y ((nI R), rm', dv', pd', bs', a1, a2, a3', a4', a5', a6', a7', a8', a9', a10', a11', a12', a13', a14')) :
    wpX_couldUse post ((nI R), rm, dv, pd, bs, a1, a2, a3, a4, a5, a6, a7, a8, a9, a10, a11, a12, a13, a14) x := by
  have hN : 1 ≤ cd_N R a b 1 1 ∧ cd_N R a b 1 1 ≤ 2 := by
    unfold cd_N cd_B
    split
    · omega
    · split <;> omega
  unfold wpX_couldUse
  refine cd_fits hR (by omega) (by omega) hc hd hw hx hx0 hx1 (fun g => ?_) (fun g => ?_)
  · exact br_t rfl (H 0 _ _ _ _ _ _ _ _ _ _ _ _ _ _ _ _ (fun z => absurd z.1 (by omega)) (fun _ => rfl))
  refine br_f (by decide) ?_
  refine cd_least hR ha1 hb1 ha hb hw h2 (fun _ _ _ _ _ _ _ _ _ _ _ _ _ _ _ _ => pk_le (cd_N R a b 1 1) 0 (fun z => absurd z (by omega)) (fun _ => ?_))
  refine cd_leavesOneLess hR ha1 hb1 ha hb hc hd hN.1 hN.2 hw h2 hx (fun y _ _ _ _ _ _ _ _ _ _ _ _ _ _ _ _ k1 k0 => br_c (fun z => H 0 _ _ _ _ _ _ _ _ _ _ _ _ _ _ _ _ (fun t => ?_) (fun _ => rfl)) (fun z => H 1 _ _ _ _ _ _ _ _ _ _ _ _ _ _ _ _ (fun _ => rfl) (fun t => ?_)))
  · have := k1 t.2
    rw [this] at z
    exact absurd z (by decide)
  · exact absurd (k0 (fun e => t ⟨g, e⟩)) z
theorem cd_leastFor {post : Int32 → St2 → Prop} {R a b : Nat} (hR : R ≤ 20) (ha1 : 1 ≤ a) (hb1 : 1 ≤ b) (ha : a ≤ R) (hb : b ≤ R) (hw : cd_wd a1 a b) (h2 : ∀ k, k < 4 → a2 k = nI (cd_v 1 1 k))
    (H : ∀ (rm' : Int32) (dv' : Int64) (pd' : Int64) (bs' : Int32) (a3' : Nat → Int32) (a4' : Nat → Int32) (a5' : Nat → Int64) (a6' : Nat → Int64) (a7' : Nat → Int64) (a8' : Nat → Int64) (a9' : Nat → Int64) (a10' : Nat → Int32) (a11' : Nat → Int32) (a12' : Nat → Int32) (a13' : Nat → Int32) (a14' : Nat → Int32), post (nI 1) ((nI R), rm', dv', pd', bs', a1, a2, a3', a4', a5', a6', a7', a8', a9', a10', a11', a12', a13', a14')) :
    wpX_leastFor post ((nI R), rm, dv, pd, bs, a1, a2, a3, a4, a5, a6, a7, a8, a9, a10, a11, a12, a13, a14) (nI (a + b)) := by
  have e : cd_N (a + b) a b 1 1 = 1 := by
    unfold cd_N
    rw [if_neg (by omega)]
    exact cd_B_1 (fun _ _ => Nat.le_refl _)
  rw [← e] at H
  refine pk_lt (a + b) 1 (fun z => absurd z (by omega)) (fun _ => pk_le (a + b) 40 (fun _ => ?_) (fun z => absurd z (by omega)))
  refine pk_loop (σ := Unit) (fun n i _ => wX_leastFor_15 post (nI (a + b)) (nI R) rm dv pd bs a1 a2 a3 a4 a5 a6 a7 a8 a9 a10 a11 a12 a13 a14 n (nI i)) (fun _ _ => True) 4 0 () (by omega) trivial ?_ ?_
  · intro n _ _
    exact pk_le 4 4 (fun _ => cd_askPlainly (rm := rm) (by omega) (by omega) h2 (fun c3 h3 => cd_solve (R := a + b) (by omega) (by omega) (by omega) ha1 hb1 (fun _ => by omega) (fun _ => by omega) (by omega) (by omega) hw h3 (fun _ _ _ _ _ _ _ _ _ _ _ _ _ _ => H _ _ _ _ _ _ _ _ _ _ _ _ _ _ _ _))) (fun z => absurd z (by omega))
  · intro n i _ hi _ hk
    have g := cd_w_le (a := a) (b := b) (m := a + b) (by omega) (by omega) (by omega) i
    exact pk_le 4 i (fun z => absurd z (by omega)) (fun _ => ⟨pk_in i 4 hi, br_c (fun _ => nm_r (nI_1 i) (hk () trivial)) (fun _ => ⟨pk_in i 4 hi, pk_le (cd_w a b i) (a + b) (fun _ => nm_r (nI_1 i) (hk () trivial)) (fun z => absurd z (by omega)) (cd_a0 (cd_wd_at hw hi))⟩)⟩)
theorem cd_leastWith {post : Int32 → St2 → Prop} {R a b : Nat} (hR : R ≤ 20) (ha1 : 1 ≤ a) (hb1 : 1 ≤ b) (ha : a ≤ R) (hb : b ≤ R) (hw : cd_wd a1 a b) (h2 : ∀ k, k < 4 → a2 k = nI (cd_v 1 1 k))
    (H : ∀ (rm' : Int32) (dv' : Int64) (pd' : Int64) (bs' : Int32) (a3' : Nat → Int32) (a4' : Nat → Int32) (a5' : Nat → Int64) (a6' : Nat → Int64) (a7' : Nat → Int64) (a8' : Nat → Int64) (a9' : Nat → Int64) (a10' : Nat → Int32) (a11' : Nat → Int32) (a12' : Nat → Int32) (a13' : Nat → Int32) (a14' : Nat → Int32), post (nI 1) ((nI R), rm', dv', pd', bs', a1, a2, a3', a4', a5', a6', a7', a8', a9', a10', a11', a12', a13', a14')) :
    wpX_leastWith post ((nI R), rm, dv, pd, bs, a1, a2, a3, a4, a5, a6, a7, a8, a9, a10, a11, a12, a13, a14) 3 0 := by
  have e : cd_N R a b 1 0 = 1 := by
    unfold cd_N
    rw [if_neg (by omega)]
    exact cd_B_1 (fun _ z => absurd z (by omega))
  rw [← e] at H
  refine br_f (by decide) (br_f (by decide) (br_f (by decide) (br_f (by decide) (br_t (by decide) (cd_askPlainly (rm := rm) (by omega) (by omega) h2 (fun c3 h3 => ⟨pk_in 3 4 (by omega), nm_r (e' := upd c3 3 (nI 0)) rfl (cd_solve (by omega) (by omega) (by omega) ha1 hb1 (fun _ => ha) (fun _ => hb) (by omega) (by omega) hw ?_ (fun _ _ _ _ _ _ _ _ _ _ _ _ _ _ => H _ _ _ _ _ _ _ _ _ _ _ _ _ _ _ _))⟩))))))
  intro k hk
  exact co_4 (P := fun k => upd c3 3 (nI 0) k = nI (cd_v 1 0 k)) (by rw [pk_un (by omega)]; exact h3 0 (by omega)) (by rw [pk_un (by omega)]; exact h3 1 (by omega)) (by rw [pk_un (by omega)]; exact h3 2 (by omega)) pk_us hk
end
end
section
theorem cd_v11 (k : Nat) (hk : k < 4) : upd (upd (fun _ => 0) 0 (nI 1)) 3 (nI 1) k = nI (cd_v 1 1 k) :=
  co_4 (P := fun k => upd (upd (fun _ => 0) 0 (nI 1)) 3 (nI 1) k = nI (cd_v 1 1 k)) rfl rfl rfl rfl hk
theorem cd_N11_1 {R a b : Nat} (h : a + b ≤ R) : cd_N R a b 1 1 = 1 := by
  unfold cd_N
  rw [if_neg (by omega)]
  exact cd_B_1 (fun _ _ => h)
theorem cd_N11_2 {R a b : Nat} (h : R < a + b) : cd_N R a b 1 1 = 2 := by
  unfold cd_N
  rw [if_neg (by omega)]
  exact if_pos ⟨rfl, rfl, h⟩
theorem cd_N00 (R a b : Nat) : cd_N R a b 0 0 = 0 := rfl
theorem cd_N01 (R a b : Nat) : cd_N R a b 0 1 = 1 := by
  unfold cd_N
  rw [if_neg (by omega)]
  exact cd_B_1 (fun z => absurd z (by omega))
/-- a width out of a cell -/
theorem cd_cell (x : Int32) {R : Nat} (h1 : 1 ≤ R) (h2 : R ≤ 20) : ∃ a, 1 ≤ a ∧ a ≤ R ∧ 1 + ((x &&& 65535) - (x &&& 65535) / nI R * nI R) = nI a := by
  obtain ⟨j, hj, e⟩ := pk_andE x (m := 65535) 16 (by decide)
  have hj' : j < 65536 := hj
  refine ⟨1 + j % R, by omega, by have := Nat.mod_lt j (show 0 < R by omega); omega, ?_⟩
  rw [e, pk_rem (by omega) (by omega) (by omega)]
  exact nI_add 1 (j % R)
section
variable {ro : Int32} {rm : Int32} {dv : Int64} {pd : Int64} {bs : Int32} {a1 : Nat → Int32} {a2 : Nat → Int32} {a3 : Nat → Int32} {a4 : Nat → Int32} {a5 : Nat → Int64} {a6 : Nat → Int64} {a7 : Nat → Int64} {a8 : Nat → Int64} {a9 : Nat → Int64} {a10 : Nat → Int32} {a11 : Nat → Int32} {a12 : Nat → Int32} {a13 : Nat → Int32} {a14 : Nat → Int32}
theorem cd_law30 {mc ms kc ks : Nat} {x1 x2 : Int32} {R : Nat} (h1 : 1 ≤ R) (h2 : R ≤ 20) (h : ∀ k, k < 4 → a1 k = nI 1) :
    wL_lawOf_30 (fun r _ => r = 1) mc ms x1 x2 (nI R) kc ks (nI R) rm dv pd bs a1 (fun _ => 0) a3 a4 a5 a6 a7 a8 a9 a10 a11 a12 a13 a14 := by
  obtain ⟨a, ha1, ha, ea⟩ := cd_cell x1 h1 h2
  obtain ⟨b, hb1, hb, eb⟩ := cd_cell x2 h1 h2
  refine And.intro (nI_ne0 h1 (by omega)) (nm_r ea ⟨nI_ne0 h1 (by omega), nm_r eb ?_⟩)
  have W : cd_wd (upd (upd a1 0 (nI a)) 3 (nI b)) a b := ⟨rfl, h 1 (by omega), h 2 (by omega), rfl⟩
  have U : ∀ k, k < 4 → upd (upd (fun _ => 0) 0 (nI 1)) 3 (nI 1) k = nI (cd_v 1 1 k) := cd_v11
  refine br_f (by decide) (br_f (by decide) (br_f (by decide) (pk_lt a 1 (fun z => absurd z (by omega)) (fun _ => pk_le a R (fun _ => ⟨pk_in 0 4 (by omega), nm_r (e' := upd a1 0 (nI a)) (by rw [cd_byte a (by omega)]; rfl) ?_⟩) (fun z => absurd z (by omega))))))
  refine br_f (by decide) (br_f (by decide) (br_f (by decide) (pk_lt b 1 (fun z => absurd z (by omega)) (fun _ => pk_le b R (fun _ => ⟨pk_in 3 4 (by omega), nm_r (e' := upd (upd a1 0 (nI a)) 3 (nI b)) (by rw [cd_byte b (by omega)]; rfl) ?_⟩) (fun z => absurd z (by omega))))))
  refine br_f (by decide) (br_f (by decide) (br_f (by decide) (br_f (by decide) (br_t (by decide) ⟨pk_in 0 4 (by omega), nm_r (e' := upd (fun _ => 0) 0 (nI 1)) rfl ?_⟩))))
  refine br_f (by decide) (br_f (by decide) (br_f (by decide) (br_f (by decide) (br_t (by decide) ⟨pk_in 3 4 (by omega), nm_r (e' := upd (upd (fun _ => 0) 0 (nI 1)) 3 (nI 1)) rfl ?_⟩))))
  refine cd_least h2 ha1 hb1 ha hb W U (fun _ _ _ _ _ _ _ _ _ _ _ _ _ _ _ _ => ?_)
  refine cd_couldUse h2 ha1 hb1 ha hb (by omega) (by omega) W U cd_pat65 (by decide) (by decide) (fun y2 _ _ _ _ _ _ _ _ _ _ _ _ _ _ _ _ y2t y2f => ?_)
  refine cd_couldUse h2 ha1 hb1 ha hb (by omega) (by omega) W U cd_pat1 (by decide) (by decide) (fun y3 _ _ _ _ _ _ _ _ _ _ _ _ _ _ _ _ y3t y3f => ?_)
  rw [Nat.one_mul, Nat.one_mul] at y2t y2f
  rw [Nat.one_mul, Nat.zero_mul] at y3t y3f
  by_cases on : a + b ≤ R
  · have n1 := cd_N11_1 on
    rw [n1] at y2t y2f y3t y3f
    have e2 : y2 = 1 := y2t ⟨on, by rw [Nat.sub_self, cd_N00]⟩
    have e3 : y3 = 0 := y3f (fun z => absurd z.2 (by rw [Nat.sub_self, Nat.sub_zero, cd_N01]; omega))
    rw [n1, e2, e3]
    refine cd_fits h2 (by omega) (by omega) (Nat.le_refl 1) (Nat.le_refl 1) W cd_pat65 (by decide) (by decide) (fun z => absurd z (by omega)) (fun _ => ?_)
    rw [nI_add]
    refine cd_leastFor h2 ha1 hb1 ha hb W U (fun _ _ _ _ _ _ _ _ _ _ _ _ _ _ _ _ => cd_leastWith h2 ha1 hb1 ha hb W U (fun _ _ _ _ _ _ _ _ _ _ _ _ _ _ _ _ => pk_lt R (a + b) (fun z => absurd z (by omega)) (fun _ => ?_)))
    exact br_f (by decide) (br_t rfl (br_t rfl (br_f (by decide) (br_t rfl (br_t rfl (br_t rfl (br_t rfl rfl)))))))
  · have n1 := cd_N11_2 (show R < a + b by omega)
    rw [n1] at y2t y2f y3t y3f
    have e2 : y2 = 0 := y2f (fun z => absurd z.1 on)
    have e3 : y3 = 1 := y3t ⟨by omega, by rw [Nat.sub_self, Nat.sub_zero, cd_N01]⟩
    rw [n1, e2, e3]
    refine cd_fits h2 (by omega) (by omega) (Nat.le_refl 1) (Nat.le_refl 1) W cd_pat65 (by decide) (by decide) (fun _ => ?_) (fun z => absurd z (by omega))
    rw [nI_add]
    refine cd_leastFor h2 ha1 hb1 ha hb W U (fun _ _ _ _ _ _ _ _ _ _ _ _ _ _ _ _ => cd_leastWith h2 ha1 hb1 ha hb W U (fun _ _ _ _ _ _ _ _ _ _ _ _ _ _ _ _ => pk_lt R (a + b) (fun _ => ?_) (fun z => absurd z (by omega))))
    exact br_t rfl (br_t rfl (br_t rfl (br_t rfl (br_t rfl (br_t rfl (br_t rfl (br_t rfl rfl)))))))
end
theorem cd_init136 {post : St2 → Prop} {mc ms kc ks : Nat} {ro rm : Int32} {dv pd : Int64} {bs : Int32} {a2 a3 a4 : Nat → Int32} {a5 a6 a7 a8 a9 : Nat → Int64} {a10 a11 a12 a13 a14 : Nat → Int32}
    (H : ∀ (a1' : Nat → Int32), (∀ k, k < 4 → a1' k = nI 1) → post (ro, rm, dv, pd, bs, a1', a2, a3, a4, a5, a6, a7, a8, a9, a10, a11, a12, a13, a14)) :
    ∃ n, wX_init_136 post mc ms kc ks ro rm dv pd bs n 0 (fun _ => 0) a2 a3 a4 a5 a6 a7 a8 a9 a10 a11 a12 a13 a14 :=
  pk_loop (fun n i s => wX_init_136 post mc ms kc ks ro rm dv pd bs n (nI i) s a2 a3 a4 a5 a6 a7 a8 a9 a10 a11 a12 a13 a14) (fun i s => cd_row s (fun _ => 0) 0 i (fun _ => nI 1)) 4 0 (fun _ => 0) (by omega) cd_row_0
    (fun n s hs => pk_le 4 4 (fun _ => H s (fun k hk => by have := hs.1 k hk; rw [Nat.zero_add] at this; exact this)) (fun z => absurd z (by omega)))
    (fun n i s hi hs hk => pk_le 4 i (fun z => absurd z (by omega)) (fun _ => ⟨pk_in i 4 hi, nm_e (nm_r (nI_1 i) (hk _ (cd_row_put hs (by rw [nI_clamp (by omega), Nat.zero_add]) rfl)))⟩))
theorem cd_init {post : St2 → Prop} {x : Int32} {R : Nat}
    (hx : (1 ≤ x ∧ x ≤ 20 ∧ x = nI R) ∨ (1 ≤ x ∧ ¬ x ≤ 20 ∧ R = 20) ∨ (¬ 1 ≤ x ∧ R = 1))
    (H : ∀ a1' : Nat → Int32, (∀ k, k < 4 → a1' k = nI 1) → post (nI R, 0, 0, 0, 0, a1', (fun _ => 0), (fun _ => 0), (fun _ => 0), (fun _ => 0), (fun _ => 0), (fun _ => 0), (fun _ => 0), (fun _ => 0), (fun _ => 0), (fun _ => 0), (fun _ => 0), (fun _ => 0), (fun _ => 0))) :
    wpX_init post 100 1000 (0, 0, 0, 0, 0) x := by
  refine ⟨by omega, by omega, by omega, by omega, by omega, by omega, by omega, by omega, by omega, by omega, by omega, by omega, by omega, by omega, by omega, by omega, by omega, by omega, by omega, by omega, by omega, by omega, by omega, by omega, by omega, by omega, by omega, by omega, ?_⟩
  rcases hx with ⟨g1, g2, g3⟩ | ⟨g1, g2, g3⟩ | ⟨g1, g3⟩
  · refine br_t g1 (br_t g2 ?_)
    rw [g3]
    exact cd_init136 H
  · subst g3
    exact br_t g1 (br_f g2 (cd_init136 H))
  · subst g3
    exact br_f g1 (cd_init136 H)
theorem cd_lawOf (x y z : Int32) : wpL_lawOf (fun r _ => r = 1) 146 2320 () x y z := by
  refine ⟨by omega, by omega, 100, 1000, by omega, by omega, ?_⟩
  by_cases g1 : (1 : Int32) ≤ x
  · by_cases g2 : x ≤ 20
    · have g0 : ¬ x < 0 := fun t => absurd (Int32.lt_of_le_of_lt g1 t) (by decide)
      obtain ⟨R, hR, e⟩ := nI_of2 (M := 20) (n := 20) (by decide) g0 g2
      have hR1 : 1 ≤ R := by
        rcases Nat.lt_or_ge R 1 with t | t
        · exfalso
          have e0 : R = 0 := by omega
          rw [e, e0] at g1
          exact absurd g1 (by decide)
        · exact t
      refine cd_init (R := R) (Or.inl ⟨g1, g2, e⟩) (fun a1' h => br_t g1 (br_t g2 ?_))
      rw [e]
      exact cd_law30 hR1 hR h
    · exact cd_init (R := 20) (Or.inr (Or.inl ⟨g1, g2, rfl⟩)) (fun a1' h => br_t g1 (br_f g2 (cd_law30 (R := 20) (by omega) (by omega) h)))
  · exact cd_init (R := 1) (Or.inr (Or.inr ⟨g1, rfl⟩)) (fun a1' h => br_f g1 (cd_law30 (R := 1) (by omega) (by omega) h))
theorem cd_cellAt {post : Int32 → Prop} {L : Nat} {xs : Nat → Int32} (hL : L ≤ 3) (k : Nat) (hk : k < 3) (H : ∀ x : Int32, post x) : wpL_cellAt post L xs () (nI k) :=
  pk_le L k (fun _ => H _) (fun g => ⟨pk_in k L g, H _⟩)
theorem i_vc (xs : Nat → Int32) (L : Nat) (hL : L ≤ 3) : wpL_law (fun r => r = 1) L xs :=
  cd_cellAt hL 0 (by omega) (fun x => cd_cellAt hL 1 (by omega) (fun y => cd_cellAt hL 2 (by omega) (fun z => ⟨146, 2320, by omega, by omega, cd_lawOf x y z⟩)))
end
